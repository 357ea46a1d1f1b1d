set_option maxHeartbeats 600000 in
theorem k_X0_in {l : Launch} {E : gk_E} (ho : E.2.2.2.2 = true) {S : gk_S} {v : Int32} {a : Int32} {b : Int32}   : gk_T l E yX0_in cX0_in 3 ((some .boolean)) 0 0 0 0 [.int v, .int a, .int b] S (fun r S' => r = some (.int (bP (a ≤ v ∧ v ≤ b))) ∧ S' = S) := by
  refine gk_T.of [some (.int v), some (.int a), some (.int b)] (by decide) (Nat.le_of_ble_eq_true rfl) (fun _ _ h => h) ?_
  intro p_ e_ R_ s_ m_ args_ below_ meth_ c_ hR X hr hin
  subst hR
  refine g_iload_n X dX0_in_0 rfl ?_
  refine g_iload_n X dX0_in_1 rfl ?_
  refine g_icmp_lt (tgt := 14) X dX0_in_2 rfl (fun c2 => ?_) (fun c2 => ?_)
  · refine g_iconst (v := 0) X dX0_in_14 rfl ?_
    refine g_zret X hr dX0_in_15 ?_ (Nat.le_of_ble_eq_true rfl) (Nat.le_of_ble_eq_true rfl) ?_
    · first | rfl | exact nb_bP
    · exact ⟨lb_0 (by grind), rfl⟩
  · refine g_iload_n X dX0_in_5 rfl ?_
    refine g_iload_n X dX0_in_6 rfl ?_
    refine g_icmp_gt (tgt := 14) X dX0_in_7 rfl (fun c7 => ?_) (fun c7 => ?_)
    · refine g_iconst (v := 0) X dX0_in_14 rfl ?_
      refine g_zret X hr dX0_in_15 ?_ (Nat.le_of_ble_eq_true rfl) (Nat.le_of_ble_eq_true rfl) ?_
      · first | rfl | exact nb_bP
      · exact ⟨lb_0 (by grind), rfl⟩
    · refine g_iconst (v := 1) X dX0_in_10 rfl ?_
      refine g_goto (tgt := 15) X dX0_in_11 rfl ?_
      refine g_zret X hr dX0_in_15 ?_ (Nat.le_of_ble_eq_true rfl) (Nat.le_of_ble_eq_true rfl) ?_
      · first | rfl | exact nb_bP
      · exact ⟨lb_1 (by grind), rfl⟩
set_option maxHeartbeats 600000 in
theorem k_X2_isIn {l : Launch} {E : gk_E} (ho : E.2.2.2.2 = true) {S : gk_S} {v : Int32} {a : Int32} {b : Int32}   : gk_T l E yX2_isIn cX2_isIn 3 ((some .boolean)) 0 0 0 0 [.int v, .int a, .int b] S (fun r S' => r = some (.int (bP (a ≤ v ∧ v ≤ b))) ∧ S' = S) := by
  refine gk_T.of [some (.int v), some (.int a), some (.int b)] (by decide) (Nat.le_of_ble_eq_true rfl) (fun _ _ h => h) ?_
  intro p_ e_ R_ s_ m_ args_ below_ meth_ c_ hR X hr hin
  subst hR
  refine g_iload_n X dX2_isIn_0 rfl ?_
  refine g_iload_n X dX2_isIn_1 rfl ?_
  refine g_icmp_lt (tgt := 14) X dX2_isIn_2 rfl (fun c2 => ?_) (fun c2 => ?_)
  · refine g_iconst (v := 0) X dX2_isIn_14 rfl ?_
    refine g_zret X hr dX2_isIn_15 ?_ (Nat.le_of_ble_eq_true rfl) (Nat.le_of_ble_eq_true rfl) ?_
    · first | rfl | exact nb_bP
    · exact ⟨lb_0 (by grind), rfl⟩
  · refine g_iload_n X dX2_isIn_5 rfl ?_
    refine g_iload_n X dX2_isIn_6 rfl ?_
    refine g_icmp_gt (tgt := 14) X dX2_isIn_7 rfl (fun c7 => ?_) (fun c7 => ?_)
    · refine g_iconst (v := 0) X dX2_isIn_14 rfl ?_
      refine g_zret X hr dX2_isIn_15 ?_ (Nat.le_of_ble_eq_true rfl) (Nat.le_of_ble_eq_true rfl) ?_
      · first | rfl | exact nb_bP
      · exact ⟨lb_0 (by grind), rfl⟩
    · refine g_iconst (v := 1) X dX2_isIn_10 rfl ?_
      refine g_goto (tgt := 15) X dX2_isIn_11 rfl ?_
      refine g_zret X hr dX2_isIn_15 ?_ (Nat.le_of_ble_eq_true rfl) (Nat.le_of_ble_eq_true rfl) ?_
      · first | rfl | exact nb_bP
      · exact ⟨lb_1 (by grind), rfl⟩
set_option maxHeartbeats 600000 in
theorem k_X0_has {l : Launch} {E : gk_E} (ho : E.2.2.2.2 = true) {S : gk_S} {b : Int32} {k : Int32}   : gk_T l E yX0_has cX0_has 2 ((some .boolean)) 0 0 0 0 [.int b, .int k] S (fun r S' => r = some (.int (bP (hs b k))) ∧ S' = S) := by
  refine gk_T.of [some (.int b), some (.int k)] (by decide) (Nat.le_of_ble_eq_true rfl) (fun _ _ h => h) ?_
  intro p_ e_ R_ s_ m_ args_ below_ meth_ c_ hR X hr hin
  subst hR
  refine g_iload_n X dX0_has_0 rfl ?_
  refine g_iload_n X dX0_has_1 rfl ?_
  refine g_ishr X dX0_has_2 ?_
  refine g_iconst (v := 1) X dX0_has_3 rfl ?_
  refine g_iand X dX0_has_4 ?_
  refine g_iconst (v := 1) X dX0_has_5 rfl ?_
  refine g_icmp_ne (tgt := 13) X dX0_has_6 rfl (fun c6 => ?_) (fun c6 => ?_)
  · refine g_iconst (v := 0) X dX0_has_13 rfl ?_
    refine g_zret X hr dX0_has_14 ?_ (Nat.le_of_ble_eq_true rfl) (Nat.le_of_ble_eq_true rfl) ?_
    · first | rfl | exact nb_bP
    · exact ⟨lb_0 (by simpa using c6), rfl⟩
  · refine g_iconst (v := 1) X dX0_has_9 rfl ?_
    refine g_goto (tgt := 14) X dX0_has_10 rfl ?_
    refine g_zret X hr dX0_has_14 ?_ (Nat.le_of_ble_eq_true rfl) (Nat.le_of_ble_eq_true rfl) ?_
    · first | rfl | exact nb_bP
    · exact ⟨lb_1 (by simpa using c6), rfl⟩
set_option maxHeartbeats 600000 in
theorem k_X2_has {l : Launch} {E : gk_E} (ho : E.2.2.2.2 = true) {S : gk_S} {b : Int32} {k : Int32}   : gk_T l E yX2_has cX2_has 2 ((some .boolean)) 0 0 0 0 [.int b, .int k] S (fun r S' => r = some (.int (bP (hs b k))) ∧ S' = S) := by
  refine gk_T.of [some (.int b), some (.int k)] (by decide) (Nat.le_of_ble_eq_true rfl) (fun _ _ h => h) ?_
  intro p_ e_ R_ s_ m_ args_ below_ meth_ c_ hR X hr hin
  subst hR
  refine g_iload_n X dX2_has_0 rfl ?_
  refine g_iload_n X dX2_has_1 rfl ?_
  refine g_ishr X dX2_has_2 ?_
  refine g_iconst (v := 1) X dX2_has_3 rfl ?_
  refine g_iand X dX2_has_4 ?_
  refine g_iconst (v := 1) X dX2_has_5 rfl ?_
  refine g_icmp_ne (tgt := 13) X dX2_has_6 rfl (fun c6 => ?_) (fun c6 => ?_)
  · refine g_iconst (v := 0) X dX2_has_13 rfl ?_
    refine g_zret X hr dX2_has_14 ?_ (Nat.le_of_ble_eq_true rfl) (Nat.le_of_ble_eq_true rfl) ?_
    · first | rfl | exact nb_bP
    · exact ⟨lb_0 (by simpa using c6), rfl⟩
  · refine g_iconst (v := 1) X dX2_has_9 rfl ?_
    refine g_goto (tgt := 14) X dX2_has_10 rfl ?_
    refine g_zret X hr dX2_has_14 ?_ (Nat.le_of_ble_eq_true rfl) (Nat.le_of_ble_eq_true rfl) ?_
    · first | rfl | exact nb_bP
    · exact ⟨lb_1 (by simpa using c6), rfl⟩
set_option maxHeartbeats 600000 in
theorem k_X0_farmers {l : Launch} {E : gk_E} (ho : E.2.2.2.2 = true) {S : gk_S}    : gk_T l E yX0_farmers cX0_farmers 1 ((some .int)) 0 0 0 0 [.ref (E.2.2.1 0)] S (fun r S' => r = some (.int (S.1 10 0)) ∧ S' = S) := by
  refine gk_T.of [some (.ref (E.2.2.1 0))] (by decide) (Nat.le_of_ble_eq_true rfl) (fun _ _ h => h) ?_
  intro p_ e_ R_ s_ m_ args_ below_ meth_ c_ hR X hr hin
  subst hR
  refine g_aload_n X dX0_farmers_0 rfl ?_
  refine g_get (C := RX0) (T := TX0) (N := 13) X 0 in_X0 dX0_farmers_1 q241 (rd0 ho) rfl (Nat.le_of_ble_eq_true rfl) (fun _ h9 => h9) rfl ?_
  refine g_getN (C := RX1) (T := TX1) (N := 8) X 0 in_X1 dX0_farmers_4 q195 (rd1 ho) rfl (Nat.le_of_ble_eq_true rfl) (fun _ h9 => h9) rfl ?_
  refine g_iconst (v := 0) X dX0_farmers_7 rfl ?_
  refine g_iald (j := 0) X dX0_farmers_8 (rdi ho (10) (rfl)) rfl (by decide) (by decide) ?_
  exact g_iret X hr dX0_farmers_9 (Nat.le_of_ble_eq_true rfl) (Nat.le_of_ble_eq_true rfl) (⟨rfl, rfl⟩)
set_option maxHeartbeats 600000 in
theorem k_X0_isFarmer {l : Launch} {E : gk_E} (ho : E.2.2.2.2 = true) {S : gk_S} {f : Int32}   : gk_T l E yX0_isFarmer cX0_isFarmer 2 ((some .boolean)) 1 22 0 0 [.ref (E.2.2.1 0), .int f] S (fun r S' => r = some (.int (bP (0 ≤ f ∧ f ≤ S.1 10 0 - 1))) ∧ S' = S) := by
  refine gk_T.of [some (.ref (E.2.2.1 0)), some (.int f)] (by decide) (Nat.le_of_ble_eq_true rfl) (fun _ _ h => h) ?_
  intro p_ e_ R_ s_ m_ args_ below_ meth_ c_ hR X hr hin
  subst hR
  refine g_iload_n X dX0_isFarmer_0 rfl ?_
  refine g_iconst (v := 0) X dX0_isFarmer_1 rfl ?_
  refine g_aload_n X dX0_isFarmer_2 rfl ?_
  refine g_callV (C := RX0) (T := TX0) (N := 13) X (k_X0_farmers ho) (lw_V q287 q289 qs0 q135 q290) hd_X0_farmers dX0_isFarmer_3 (rd0 ho) rfl rfl ⟨Nat.le_of_ble_eq_true rfl, Nat.le_of_ble_eq_true rfl⟩ ⟨Nat.le_of_ble_eq_true rfl, Nat.le_of_ble_eq_true rfl⟩ (Nat.le_of_ble_eq_true rfl) ?_
  rintro _ S1 ⟨rfl, hS1⟩
  obtain rfl := hS1.symm
  refine g_iconst (v := 1) X dX0_isFarmer_6 rfl ?_
  refine g_isub X dX0_isFarmer_7 ?_
  refine g_callS X (k_X0_in ho) (lw_S q291 q292 q135 q293) hd_X0_in dX0_isFarmer_8 rfl ⟨Nat.le_of_ble_eq_true rfl, Nat.le_of_ble_eq_true rfl⟩ ⟨Nat.le_of_ble_eq_true rfl, Nat.le_of_ble_eq_true rfl⟩ (Nat.le_of_ble_eq_true rfl) ?_
  rintro _ S1 ⟨rfl, hS1⟩
  obtain rfl := hS1.symm
  refine g_zret X hr dX0_isFarmer_11 ?_ (Nat.le_of_ble_eq_true rfl) (Nat.le_of_ble_eq_true rfl) ?_
  · first | rfl | exact nb_bP
  · exact ⟨rfl, rfl⟩
set_option maxHeartbeats 600000 in
theorem k_X2_isFarmer {l : Launch} {E : gk_E} (ho : E.2.2.2.2 = true) {S : gk_S} {f : Int32}   : gk_T l E yX2_isFarmer cX2_isFarmer 2 ((some .boolean)) 1 22 0 0 [.ref (E.2.2.1 3), .int f] S (fun r S' => r = some (.int (bP (0 ≤ f ∧ f ≤ S.1 400 0 - 1))) ∧ S' = S) := by
  refine gk_T.of [some (.ref (E.2.2.1 3)), some (.int f)] (by decide) (Nat.le_of_ble_eq_true rfl) (fun _ _ h => h) ?_
  intro p_ e_ R_ s_ m_ args_ below_ meth_ c_ hR X hr hin
  subst hR
  refine g_iload_n X dX2_isFarmer_0 rfl ?_
  refine g_iconst (v := 0) X dX2_isFarmer_1 rfl ?_
  refine g_aload_n X dX2_isFarmer_2 rfl ?_
  refine g_get (C := RX2) (T := TX2) (N := 35) X 0 in_X2 dX2_isFarmer_3 q1405 (rd3 ho) rfl (Nat.le_of_ble_eq_true rfl) (fun _ h9 => h9) rfl ?_
  refine g_iconst (v := 0) X dX2_isFarmer_6 rfl ?_
  refine g_iald (j := 0) X dX2_isFarmer_7 (rdi ho (400) (rfl)) rfl (by decide) (by decide) ?_
  refine g_iconst (v := 1) X dX2_isFarmer_8 rfl ?_
  refine g_isub X dX2_isFarmer_9 ?_
  refine g_callS X (k_X2_isIn ho) (lw_S q1516 q1517 q139 q1518) hd_X2_isIn dX2_isFarmer_10 rfl ⟨Nat.le_of_ble_eq_true rfl, Nat.le_of_ble_eq_true rfl⟩ ⟨Nat.le_of_ble_eq_true rfl, Nat.le_of_ble_eq_true rfl⟩ (Nat.le_of_ble_eq_true rfl) ?_
  rintro _ S1 ⟨rfl, hS1⟩
  obtain rfl := hS1.symm
  refine g_zret X hr dX2_isFarmer_13 ?_ (Nat.le_of_ble_eq_true rfl) (Nat.le_of_ble_eq_true rfl) ?_
  · first | rfl | exact nb_bP
  · exact ⟨rfl, rfl⟩
set_option maxHeartbeats 600000 in
theorem k_X0_isField {l : Launch} {E : gk_E} (ho : E.2.2.2.2 = true) {S : gk_S} {f : Int32}   : gk_T l E yX0_isField cX0_isField 1 ((some .boolean)) 1 22 0 0 [.int f] S (fun r S' => r = some (.int (bP (0 ≤ f ∧ f ≤ 4))) ∧ S' = S) := by
  refine gk_T.of [some (.int f)] (by decide) (Nat.le_of_ble_eq_true rfl) (fun _ _ h => h) ?_
  intro p_ e_ R_ s_ m_ args_ below_ meth_ c_ hR X hr hin
  subst hR
  refine g_iload_n X dX0_isField_0 rfl ?_
  refine g_iconst (v := 0) X dX0_isField_1 rfl ?_
  refine g_iconst (v := 4) X dX0_isField_2 rfl ?_
  refine g_callS X (k_X0_in ho) (lw_S q291 q292 q135 q293) hd_X0_in dX0_isField_3 rfl ⟨Nat.le_of_ble_eq_true rfl, Nat.le_of_ble_eq_true rfl⟩ ⟨Nat.le_of_ble_eq_true rfl, Nat.le_of_ble_eq_true rfl⟩ (Nat.le_of_ble_eq_true rfl) ?_
  rintro _ S1 ⟨rfl, hS1⟩
  obtain rfl := hS1.symm
  refine g_zret X hr dX0_isField_6 ?_ (Nat.le_of_ble_eq_true rfl) (Nat.le_of_ble_eq_true rfl) ?_
  · first | rfl | exact nb_bP
  · exact ⟨rfl, rfl⟩
set_option maxHeartbeats 600000 in
theorem k_X2_isField {l : Launch} {E : gk_E} (ho : E.2.2.2.2 = true) {S : gk_S} {f : Int32}   : gk_T l E yX2_isField cX2_isField 1 ((some .boolean)) 1 22 0 0 [.int f] S (fun r S' => r = some (.int (bP (0 ≤ f ∧ f ≤ 4))) ∧ S' = S) := by
  refine gk_T.of [some (.int f)] (by decide) (Nat.le_of_ble_eq_true rfl) (fun _ _ h => h) ?_
  intro p_ e_ R_ s_ m_ args_ below_ meth_ c_ hR X hr hin
  subst hR
  refine g_iload_n X dX2_isField_0 rfl ?_
  refine g_iconst (v := 0) X dX2_isField_1 rfl ?_
  refine g_iconst (v := 4) X dX2_isField_2 rfl ?_
  refine g_callS X (k_X2_isIn ho) (lw_S q1516 q1517 q139 q1518) hd_X2_isIn dX2_isField_3 rfl ⟨Nat.le_of_ble_eq_true rfl, Nat.le_of_ble_eq_true rfl⟩ ⟨Nat.le_of_ble_eq_true rfl, Nat.le_of_ble_eq_true rfl⟩ (Nat.le_of_ble_eq_true rfl) ?_
  rintro _ S1 ⟨rfl, hS1⟩
  obtain rfl := hS1.symm
  refine g_zret X hr dX2_isField_6 ?_ (Nat.le_of_ble_eq_true rfl) (Nat.le_of_ble_eq_true rfl) ?_
  · first | rfl | exact nb_bP
  · exact ⟨rfl, rfl⟩
set_option maxHeartbeats 600000 in
theorem k_X0_isText {l : Launch} {E : gk_E} (ho : E.2.2.2.2 = true) {S : gk_S} {t : Int32}   : gk_T l E yX0_isText cX0_isText 2 ((some .boolean)) 1 22 0 0 [.ref (E.2.2.1 0), .int t] S (fun r S' => r = some (.int (bP (0 ≤ t ∧ t ≤ S.1 10 1 - 1))) ∧ S' = S) := by
  refine gk_T.of [some (.ref (E.2.2.1 0)), some (.int t)] (by decide) (Nat.le_of_ble_eq_true rfl) (fun _ _ h => h) ?_
  intro p_ e_ R_ s_ m_ args_ below_ meth_ c_ hR X hr hin
  subst hR
  refine g_iload_n X dX0_isText_0 rfl ?_
  refine g_iconst (v := 0) X dX0_isText_1 rfl ?_
  refine g_aload_n X dX0_isText_2 rfl ?_
  refine g_get (C := RX0) (T := TX0) (N := 13) X 0 in_X0 dX0_isText_3 q241 (rd0 ho) rfl (Nat.le_of_ble_eq_true rfl) (fun _ h9 => h9) rfl ?_
  refine g_getN (C := RX1) (T := TX1) (N := 8) X 0 in_X1 dX0_isText_6 q195 (rd1 ho) rfl (Nat.le_of_ble_eq_true rfl) (fun _ h9 => h9) rfl ?_
  refine g_iconst (v := 1) X dX0_isText_9 rfl ?_
  refine g_iald (j := 1) X dX0_isText_10 (rdi ho (10) (rfl)) rfl (by decide) (by decide) ?_
  refine g_iconst (v := 1) X dX0_isText_11 rfl ?_
  refine g_isub X dX0_isText_12 ?_
  refine g_callS X (k_X0_in ho) (lw_S q291 q292 q135 q293) hd_X0_in dX0_isText_13 rfl ⟨Nat.le_of_ble_eq_true rfl, Nat.le_of_ble_eq_true rfl⟩ ⟨Nat.le_of_ble_eq_true rfl, Nat.le_of_ble_eq_true rfl⟩ (Nat.le_of_ble_eq_true rfl) ?_
  rintro _ S1 ⟨rfl, hS1⟩
  obtain rfl := hS1.symm
  refine g_zret X hr dX0_isText_16 ?_ (Nat.le_of_ble_eq_true rfl) (Nat.le_of_ble_eq_true rfl) ?_
  · first | rfl | exact nb_bP
  · exact ⟨rfl, rfl⟩
set_option maxHeartbeats 600000 in
theorem k_X0_farmer {l : Launch} {E : gk_E} (ho : E.2.2.2.2 = true) {S : gk_S} {t : Int32} {nf : Nat} (h0 : S.1 10 0 = nI nf) (h1 : nf ≤ 5) : gk_T l E yX0_farmer cX0_farmer 3 ((some .int)) 1 22 0 0 [.ref (E.2.2.1 0), .int t] S (fun r S' => r = some (.int (if (1 ≤ t ∧ t ≤ 9) ∧ nf ≠ 5 then nI nf else -1)) ∧ S' = if (1 ≤ t ∧ t ≤ 9) ∧ nf ≠ 5 then gk_si (gk_si S 12 (upd (S.1 12) nf t)) 10 (upd (S.1 10) 0 (nI nf + 1)) else S) := by
  refine gk_T.of [some (.ref (E.2.2.1 0)), some (.int t), none] (by decide) (Nat.le_of_ble_eq_true rfl) (le_1 rfl (le_1 rfl (le_p le_n))) ?_
  intro p_ e_ R_ s_ m_ args_ below_ meth_ c_ hR X hr hin
  subst hR
  refine g_aload_n X dX0_farmer_0 rfl ?_
  refine g_callV (C := RX0) (T := TX0) (N := 13) X (k_X0_farmers ho) (lw_V q287 q289 qs0 q135 q290) hd_X0_farmers dX0_farmer_1 (rd0 ho) rfl rfl ⟨Nat.le_of_ble_eq_true rfl, Nat.le_of_ble_eq_true rfl⟩ ⟨Nat.le_of_ble_eq_true rfl, Nat.le_of_ble_eq_true rfl⟩ (Nat.le_of_ble_eq_true rfl) ?_
  rintro _ S1 ⟨rfl, hS1⟩
  obtain rfl := hS1.symm
  refine g_istore_n X dX0_farmer_4 (Nat.le_of_ble_eq_true rfl) ?_
  refine g_iload_n X dX0_farmer_5 rfl ?_
  refine g_iconst (v := 1) X dX0_farmer_6 rfl ?_
  refine g_bipush (v := 9) X dX0_farmer_7 rfl ?_
  refine g_callS X (k_X0_in ho) (lw_S q291 q292 q135 q293) hd_X0_in dX0_farmer_9 rfl ⟨Nat.le_of_ble_eq_true rfl, Nat.le_of_ble_eq_true rfl⟩ ⟨Nat.le_of_ble_eq_true rfl, Nat.le_of_ble_eq_true rfl⟩ (Nat.le_of_ble_eq_true rfl) ?_
  rintro _ S1 ⟨rfl, hS1⟩
  obtain rfl := hS1.symm
  refine g_ifp_eq (tgt := 20) X dX0_farmer_12 rfl (fun c12 => ?_) (fun c12 => ?_)
  · refine g_iconst (v := (-1)) X dX0_farmer_20 rfl ?_
    exact g_iret X hr dX0_farmer_21 (Nat.le_of_ble_eq_true rfl) (Nat.le_of_ble_eq_true rfl) (lf_f (by grind) rfl rfl)
  · refine g_iload_n X dX0_farmer_15 rfl ?_
    refine g_iconst (v := 5) X dX0_farmer_16 rfl ?_
    refine g_icmp_ne (tgt := 22) X dX0_farmer_17 rfl (fun c17 => ?_) (fun c17 => ?_)
    · have h5 : nf < 5 := by
        rcases Nat.lt_or_ge nf 5 with q | q
        · exact q
        · exact absurd (by rw [h0, show nf = 5 by omega]; rfl) c17
      refine g_aload_n X dX0_farmer_22 rfl ?_
      refine g_get (C := RX0) (T := TX0) (N := 13) X 0 in_X0 dX0_farmer_23 q241 (rd0 ho) rfl (Nat.le_of_ble_eq_true rfl) (fun _ h9 => h9) rfl ?_
      refine g_getN (C := RX1) (T := TX1) (N := 8) X 2 in_X1 dX0_farmer_26 q199 (rd1 ho) rfl (Nat.le_of_ble_eq_true rfl) (fun _ h9 => h9) rfl ?_
      refine g_iload_n X dX0_farmer_29 rfl ?_
      refine g_iload_n X dX0_farmer_30 rfl ?_
      refine g_iast X ho (12) (j := nf) dX0_farmer_31 rfl (rfl) h0 h5 (by decide) ?_
      refine g_aload_n X dX0_farmer_32 rfl ?_
      refine g_get (C := RX0) (T := TX0) (N := 13) X 0 in_X0 dX0_farmer_33 q241 (rd0 ho) rfl (Nat.le_of_ble_eq_true rfl) (fun _ h9 => h9) rfl ?_
      refine g_getN (C := RX1) (T := TX1) (N := 8) X 0 in_X1 dX0_farmer_36 q195 (rd1 ho) rfl (Nat.le_of_ble_eq_true rfl) (fun _ h9 => h9) rfl ?_
      refine g_iconst (v := 0) X dX0_farmer_39 rfl ?_
      refine g_dup2_11 X dX0_farmer_40 rfl rfl ?_
      refine g_iald (j := 0) X dX0_farmer_41 (rdi ho (10) (rfl)) rfl (by decide) (by decide) ?_
      refine g_iconst (v := 1) X dX0_farmer_42 rfl ?_
      refine g_iadd X dX0_farmer_43 ?_
      refine g_iast X ho (10) (j := 0) dX0_farmer_44 rfl (rfl) rfl (by decide) (by decide) ?_
      refine g_iload_n X dX0_farmer_45 rfl ?_
      exact g_iret X hr dX0_farmer_46 (Nat.le_of_ble_eq_true rfl) (Nat.le_of_ble_eq_true rfl) (lf_t ⟨c12, fun z => c17 (by rw [h0, z]; rfl)⟩ h0 (by rw [← h0]; rfl))
    · refine g_iconst (v := (-1)) X dX0_farmer_20 rfl ?_
      exact g_iret X hr dX0_farmer_21 (Nat.le_of_ble_eq_true rfl) (Nat.le_of_ble_eq_true rfl) (lf_f (fun z => z.2 (by have := c17; rw [h0] at this; exact (nI_eq (by omega) (by decide)).mp this)) rfl rfl)
