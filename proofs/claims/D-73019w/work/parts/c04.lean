theorem gk_sda {S : gk_S} {q : Nat} {x : va_E} : (gk_sd S q x).2.2.2 q = some x := by simp [gk_sd, va_up]
set_option maxHeartbeats 600000 in
theorem k_J1_init {l : Launch} {E : gk_E} {S : gk_S}  {q1 : Nat}  : gk_T l E yJ1_init cJ1_init 1 (none) 1 20 0 0 [.ref q1] S (fun r S' => r = none ∧ S' = S) := by
  refine gk_T.of [some (.ref q1)] (by decide) (Nat.le_of_ble_eq_true rfl) (fun _ _ h => h) ?_
  intro p_ e_ R_ s_ m_ args_ below_ meth_ c_ hR X hr hin
  subst hR
  refine g_aload_n X dJ1_init_0 rfl ?_
  refine g_objInit X dJ1_init_1 q374 q176 q177 (Nat.le_of_ble_eq_true rfl) (Nat.le_of_ble_eq_true rfl) ?_
  exact g_vret X hr dJ1_init_4 (Nat.le_of_ble_eq_true rfl) (Nat.le_of_ble_eq_true rfl) (⟨rfl, rfl⟩)
set_option maxHeartbeats 600000 in
theorem k_J11_init {l : Launch} {E : gk_E} {S : gk_S}  {q1 : Nat}  : gk_T l E yJ11_init cJ11_init 1 (none) 1 20 0 0 [.ref q1] S (fun r S' => r = none ∧ S' = S) := by
  refine gk_T.of [some (.ref q1)] (by decide) (Nat.le_of_ble_eq_true rfl) (fun _ _ h => h) ?_
  intro p_ e_ R_ s_ m_ args_ below_ meth_ c_ hR X hr hin
  subst hR
  refine g_aload_n X dJ11_init_0 rfl ?_
  refine g_objInit X dJ11_init_1 q574 q176 q177 (Nat.le_of_ble_eq_true rfl) (Nat.le_of_ble_eq_true rfl) ?_
  exact g_vret X hr dJ11_init_4 (Nat.le_of_ble_eq_true rfl) (Nat.le_of_ble_eq_true rfl) (⟨rfl, rfl⟩)
set_option maxHeartbeats 600000 in
theorem k_J12_init {l : Launch} {E : gk_E} {S : gk_S}  {q1 : Nat}  : gk_T l E yJ12_init cJ12_init 1 (none) 1 20 0 0 [.ref q1] S (fun r S' => r = none ∧ S' = S) := by
  refine gk_T.of [some (.ref q1)] (by decide) (Nat.le_of_ble_eq_true rfl) (fun _ _ h => h) ?_
  intro p_ e_ R_ s_ m_ args_ below_ meth_ c_ hR X hr hin
  subst hR
  refine g_aload_n X dJ12_init_0 rfl ?_
  refine g_objInit X dJ12_init_1 q723 q176 q177 (Nat.le_of_ble_eq_true rfl) (Nat.le_of_ble_eq_true rfl) ?_
  exact g_vret X hr dJ12_init_4 (Nat.le_of_ble_eq_true rfl) (Nat.le_of_ble_eq_true rfl) (⟨rfl, rfl⟩)
set_option maxHeartbeats 600000 in
theorem k_X6_init {l : Launch} {E : gk_E} {S : gk_S}  {q1 a1 : Nat}  (hq : S.2.2.2 q1 = some (.inr (6, [.null]))) (hb : E.2.2.2.1 ≤ q1) : gk_T l E yX6_init cX6_init 2 (none) 2 60 0 0 [.ref q1, .ref a1] S (fun r S' => r = none ∧ S' = gk_sd S q1 (.inr (6, [.ref a1]))) := by
  refine gk_T.of [some (.ref q1), some (.ref a1)] (by decide) (Nat.le_of_ble_eq_true rfl) (fun _ _ h => h) ?_
  intro p_ e_ R_ s_ m_ args_ below_ meth_ c_ hR X hr hin
  subst hR
  refine g_aload_n X dX6_init_0 rfl ?_
  refine g_callI X (k_J11_init) q573 q153 q571 q572 rfl hd_J11_init dX6_init_1 rfl ⟨Nat.le_of_ble_eq_true rfl, Nat.le_of_ble_eq_true rfl⟩ ⟨Nat.le_of_ble_eq_true rfl, Nat.le_of_ble_eq_true rfl⟩ (Nat.le_of_ble_eq_true rfl) ?_
  rintro _ S1 ⟨rfl, hS1⟩
  obtain rfl := hS1.symm
  refine g_aload_n X dX6_init_4 rfl ?_
  refine g_aload_n X dX6_init_5 rfl ?_
  refine g_putFd (C := RX6) (T := TX6) (N := 1) X 0 in_X6 tyX6 tyX6_ok nmX6 dX6_init_6 q575 hq hb rfl (Nat.le_of_ble_eq_true rfl) (fun _ h9 => h9) rfl hin rfl rfl rfl (Nat.le_of_ble_eq_true rfl) ?_
  exact g_vret X hr dX6_init_9 (Nat.le_of_ble_eq_true rfl) (Nat.le_of_ble_eq_true rfl) (⟨rfl, by first | rfl | (simp only [vz_sdsd]; rfl)⟩)
set_option maxHeartbeats 600000 in
theorem k_X8_init {l : Launch} {E : gk_E} {S : gk_S} {x : Int32} {q1  : Nat}  (hq : S.2.2.2 q1 = some (.inr (8, [.int 0]))) (hb : E.2.2.2.1 ≤ q1) : gk_T l E yX8_init cX8_init 2 (none) 2 60 0 0 [.ref q1, .int x] S (fun r S' => r = none ∧ S' = gk_sd S q1 (.inr (8, [.int x]))) := by
  refine gk_T.of [some (.ref q1), some (.int x)] (by decide) (Nat.le_of_ble_eq_true rfl) (fun _ _ h => h) ?_
  intro p_ e_ R_ s_ m_ args_ below_ meth_ c_ hR X hr hin
  subst hR
  refine g_aload_n X dX8_init_0 rfl ?_
  refine g_callI X (k_J11_init) q573 q153 q602 q572 rfl hd_J11_init dX8_init_1 rfl ⟨Nat.le_of_ble_eq_true rfl, Nat.le_of_ble_eq_true rfl⟩ ⟨Nat.le_of_ble_eq_true rfl, Nat.le_of_ble_eq_true rfl⟩ (Nat.le_of_ble_eq_true rfl) ?_
  rintro _ S1 ⟨rfl, hS1⟩
  obtain rfl := hS1.symm
  refine g_aload_n X dX8_init_4 rfl ?_
  refine g_iload_n X dX8_init_5 rfl ?_
  refine g_putFd (C := RX8) (T := TX8) (N := 1) X 0 in_X8 tyX8 tyX8_ok nmX8 dX8_init_6 q603 hq hb rfl (Nat.le_of_ble_eq_true rfl) (fun _ h9 => h9) rfl hin rfl rfl rfl (Nat.le_of_ble_eq_true rfl) ?_
  exact g_vret X hr dX8_init_9 (Nat.le_of_ble_eq_true rfl) (Nat.le_of_ble_eq_true rfl) (⟨rfl, by first | rfl | (simp only [vz_sdsd]; rfl)⟩)
set_option maxHeartbeats 600000 in
theorem k_X9_init {l : Launch} {E : gk_E} {S : gk_S}  {q1 a1 a2 a3 : Nat}  (hq : S.2.2.2 q1 = some (.inr (9, [.null, .null, .null]))) (hb : E.2.2.2.1 ≤ q1) : gk_T l E yX9_init cX9_init 4 (none) 2 60 0 0 [.ref q1, .ref a1, .ref a2, .ref a3] S (fun r S' => r = none ∧ S' = gk_sd S q1 (.inr (9, [.ref a1, .ref a2, .ref a3]))) := by
  refine gk_T.of [some (.ref q1), some (.ref a1), some (.ref a2), some (.ref a3)] (by decide) (Nat.le_of_ble_eq_true rfl) (fun _ _ h => h) ?_
  intro p_ e_ R_ s_ m_ args_ below_ meth_ c_ hR X hr hin
  subst hR
  refine g_aload_n X dX9_init_0 rfl ?_
  refine g_callI X (k_J11_init) q573 q153 q620 q572 rfl hd_J11_init dX9_init_1 rfl ⟨Nat.le_of_ble_eq_true rfl, Nat.le_of_ble_eq_true rfl⟩ ⟨Nat.le_of_ble_eq_true rfl, Nat.le_of_ble_eq_true rfl⟩ (Nat.le_of_ble_eq_true rfl) ?_
  rintro _ S1 ⟨rfl, hS1⟩
  obtain rfl := hS1.symm
  refine g_aload_n X dX9_init_4 rfl ?_
  refine g_aload_n X dX9_init_5 rfl ?_
  refine g_putFd (C := RX9) (T := TX9) (N := 3) X 0 in_X9 tyX9 tyX9_ok nmX9 dX9_init_6 q621 hq hb rfl (Nat.le_of_ble_eq_true rfl) (fun _ h9 => h9) rfl hin rfl rfl rfl (Nat.le_of_ble_eq_true rfl) ?_
  refine g_aload_n X dX9_init_9 rfl ?_
  refine g_aload_n X dX9_init_10 rfl ?_
  refine g_putFd (C := RX9) (T := TX9) (N := 3) X 1 in_X9 tyX9 tyX9_ok nmX9 dX9_init_11 q622 gk_sda hb rfl (Nat.le_of_ble_eq_true rfl) (fun _ h9 => h9) rfl hin rfl rfl rfl (Nat.le_of_ble_eq_true rfl) ?_
  refine g_aload_n X dX9_init_14 rfl ?_
  refine g_aload_n X dX9_init_15 rfl ?_
  refine g_putFd (C := RX9) (T := TX9) (N := 3) X 2 in_X9 tyX9 tyX9_ok nmX9 dX9_init_16 q623 gk_sda hb rfl (Nat.le_of_ble_eq_true rfl) (fun _ h9 => h9) rfl hin rfl rfl rfl (Nat.le_of_ble_eq_true rfl) ?_
  exact g_vret X hr dX9_init_19 (Nat.le_of_ble_eq_true rfl) (Nat.le_of_ble_eq_true rfl) (⟨rfl, by first | rfl | (simp only [vz_sdsd]; rfl)⟩)
set_option maxHeartbeats 600000 in
theorem k_X10_init {l : Launch} {E : gk_E} {S : gk_S}  {q1 a1 a2 : Nat}  (hq : S.2.2.2 q1 = some (.inr (10, [.null, .null]))) (hb : E.2.2.2.1 ≤ q1) : gk_T l E yX10_init cX10_init 3 (none) 2 60 0 0 [.ref q1, .ref a1, .ref a2] S (fun r S' => r = none ∧ S' = gk_sd S q1 (.inr (10, [.ref a1, .ref a2]))) := by
  refine gk_T.of [some (.ref q1), some (.ref a1), some (.ref a2)] (by decide) (Nat.le_of_ble_eq_true rfl) (fun _ _ h => h) ?_
  intro p_ e_ R_ s_ m_ args_ below_ meth_ c_ hR X hr hin
  subst hR
  refine g_aload_n X dX10_init_0 rfl ?_
  refine g_callI X (k_J11_init) q573 q153 q640 q572 rfl hd_J11_init dX10_init_1 rfl ⟨Nat.le_of_ble_eq_true rfl, Nat.le_of_ble_eq_true rfl⟩ ⟨Nat.le_of_ble_eq_true rfl, Nat.le_of_ble_eq_true rfl⟩ (Nat.le_of_ble_eq_true rfl) ?_
  rintro _ S1 ⟨rfl, hS1⟩
  obtain rfl := hS1.symm
  refine g_aload_n X dX10_init_4 rfl ?_
  refine g_aload_n X dX10_init_5 rfl ?_
  refine g_putFd (C := RX10) (T := TX10) (N := 2) X 0 in_X10 tyX10 tyX10_ok nmX10 dX10_init_6 q641 hq hb rfl (Nat.le_of_ble_eq_true rfl) (fun _ h9 => h9) rfl hin rfl rfl rfl (Nat.le_of_ble_eq_true rfl) ?_
  refine g_aload_n X dX10_init_9 rfl ?_
  refine g_aload_n X dX10_init_10 rfl ?_
  refine g_putFd (C := RX10) (T := TX10) (N := 2) X 1 in_X10 tyX10 tyX10_ok nmX10 dX10_init_11 q642 gk_sda hb rfl (Nat.le_of_ble_eq_true rfl) (fun _ h9 => h9) rfl hin rfl rfl rfl (Nat.le_of_ble_eq_true rfl) ?_
  exact g_vret X hr dX10_init_14 (Nat.le_of_ble_eq_true rfl) (Nat.le_of_ble_eq_true rfl) (⟨rfl, by first | rfl | (simp only [vz_sdsd]; rfl)⟩)
set_option maxHeartbeats 600000 in
theorem k_X11_init {l : Launch} {E : gk_E} {S : gk_S} {x : Int32} {q1  : Nat}  (hq : S.2.2.2 q1 = some (.inr (11, [.int 0]))) (hb : E.2.2.2.1 ≤ q1) : gk_T l E yX11_init cX11_init 2 (none) 2 60 0 0 [.ref q1, .int x] S (fun r S' => r = none ∧ S' = gk_sd S q1 (.inr (11, [.int x]))) := by
  refine gk_T.of [some (.ref q1), some (.int x)] (by decide) (Nat.le_of_ble_eq_true rfl) (fun _ _ h => h) ?_
  intro p_ e_ R_ s_ m_ args_ below_ meth_ c_ hR X hr hin
  subst hR
  refine g_aload_n X dX11_init_0 rfl ?_
  refine g_callI X (k_J11_init) q573 q153 q663 q572 rfl hd_J11_init dX11_init_1 rfl ⟨Nat.le_of_ble_eq_true rfl, Nat.le_of_ble_eq_true rfl⟩ ⟨Nat.le_of_ble_eq_true rfl, Nat.le_of_ble_eq_true rfl⟩ (Nat.le_of_ble_eq_true rfl) ?_
  rintro _ S1 ⟨rfl, hS1⟩
  obtain rfl := hS1.symm
  refine g_aload_n X dX11_init_4 rfl ?_
  refine g_iload_n X dX11_init_5 rfl ?_
  refine g_putFd (C := RX11) (T := TX11) (N := 1) X 0 in_X11 tyX11 tyX11_ok nmX11 dX11_init_6 q664 hq hb rfl (Nat.le_of_ble_eq_true rfl) (fun _ h9 => h9) rfl hin rfl rfl rfl (Nat.le_of_ble_eq_true rfl) ?_
  exact g_vret X hr dX11_init_9 (Nat.le_of_ble_eq_true rfl) (Nat.le_of_ble_eq_true rfl) (⟨rfl, by first | rfl | (simp only [vz_sdsd]; rfl)⟩)
set_option maxHeartbeats 600000 in
theorem k_X12_init {l : Launch} {E : gk_E} {S : gk_S}  {q1 a1 : Nat}  (hq : S.2.2.2 q1 = some (.inr (12, [.null]))) (hb : E.2.2.2.1 ≤ q1) : gk_T l E yX12_init cX12_init 2 (none) 2 60 0 0 [.ref q1, .ref a1] S (fun r S' => r = none ∧ S' = gk_sd S q1 (.inr (12, [.ref a1]))) := by
  refine gk_T.of [some (.ref q1), some (.ref a1)] (by decide) (Nat.le_of_ble_eq_true rfl) (fun _ _ h => h) ?_
  intro p_ e_ R_ s_ m_ args_ below_ meth_ c_ hR X hr hin
  subst hR
  refine g_aload_n X dX12_init_0 rfl ?_
  refine g_callI X (k_J11_init) q573 q153 q673 q572 rfl hd_J11_init dX12_init_1 rfl ⟨Nat.le_of_ble_eq_true rfl, Nat.le_of_ble_eq_true rfl⟩ ⟨Nat.le_of_ble_eq_true rfl, Nat.le_of_ble_eq_true rfl⟩ (Nat.le_of_ble_eq_true rfl) ?_
  rintro _ S1 ⟨rfl, hS1⟩
  obtain rfl := hS1.symm
  refine g_aload_n X dX12_init_4 rfl ?_
  refine g_aload_n X dX12_init_5 rfl ?_
  refine g_putFd (C := RX12) (T := TX12) (N := 1) X 0 in_X12 tyX12 tyX12_ok nmX12 dX12_init_6 q674 hq hb rfl (Nat.le_of_ble_eq_true rfl) (fun _ h9 => h9) rfl hin rfl rfl rfl (Nat.le_of_ble_eq_true rfl) ?_
  exact g_vret X hr dX12_init_9 (Nat.le_of_ble_eq_true rfl) (Nat.le_of_ble_eq_true rfl) (⟨rfl, by first | rfl | (simp only [vz_sdsd]; rfl)⟩)
set_option maxHeartbeats 600000 in
theorem k_X13_init {l : Launch} {E : gk_E} {S : gk_S}  {q1 a1 : Nat}  (hq : S.2.2.2 q1 = some (.inr (13, [.null]))) (hb : E.2.2.2.1 ≤ q1) : gk_T l E yX13_init cX13_init 2 (none) 2 60 0 0 [.ref q1, .ref a1] S (fun r S' => r = none ∧ S' = gk_sd S q1 (.inr (13, [.ref a1]))) := by
  refine gk_T.of [some (.ref q1), some (.ref a1)] (by decide) (Nat.le_of_ble_eq_true rfl) (fun _ _ h => h) ?_
  intro p_ e_ R_ s_ m_ args_ below_ meth_ c_ hR X hr hin
  subst hR
  refine g_aload_n X dX13_init_0 rfl ?_
  refine g_callI X (k_J11_init) q573 q153 q683 q572 rfl hd_J11_init dX13_init_1 rfl ⟨Nat.le_of_ble_eq_true rfl, Nat.le_of_ble_eq_true rfl⟩ ⟨Nat.le_of_ble_eq_true rfl, Nat.le_of_ble_eq_true rfl⟩ (Nat.le_of_ble_eq_true rfl) ?_
  rintro _ S1 ⟨rfl, hS1⟩
  obtain rfl := hS1.symm
  refine g_aload_n X dX13_init_4 rfl ?_
  refine g_aload_n X dX13_init_5 rfl ?_
  refine g_putFd (C := RX13) (T := TX13) (N := 1) X 0 in_X13 tyX13 tyX13_ok nmX13 dX13_init_6 q684 hq hb rfl (Nat.le_of_ble_eq_true rfl) (fun _ h9 => h9) rfl hin rfl rfl rfl (Nat.le_of_ble_eq_true rfl) ?_
  exact g_vret X hr dX13_init_9 (Nat.le_of_ble_eq_true rfl) (Nat.le_of_ble_eq_true rfl) (⟨rfl, by first | rfl | (simp only [vz_sdsd]; rfl)⟩)
set_option maxHeartbeats 600000 in
theorem k_X14_init {l : Launch} {E : gk_E} {S : gk_S} {x : Int32} {q1 a1 a2 : Nat}  (hq : S.2.2.2 q1 = some (.inr (14, [.int 0, .null, .null]))) (hb : E.2.2.2.1 ≤ q1) : gk_T l E yX14_init cX14_init 4 (none) 2 60 0 0 [.ref q1, .int x, .ref a1, .ref a2] S (fun r S' => r = none ∧ S' = gk_sd S q1 (.inr (14, [.int x, .ref a1, .ref a2]))) := by
  refine gk_T.of [some (.ref q1), some (.int x), some (.ref a1), some (.ref a2)] (by decide) (Nat.le_of_ble_eq_true rfl) (fun _ _ h => h) ?_
  intro p_ e_ R_ s_ m_ args_ below_ meth_ c_ hR X hr hin
  subst hR
  refine g_aload_n X dX14_init_0 rfl ?_
  refine g_callI X (k_J11_init) q573 q153 q803 q572 rfl hd_J11_init dX14_init_1 rfl ⟨Nat.le_of_ble_eq_true rfl, Nat.le_of_ble_eq_true rfl⟩ ⟨Nat.le_of_ble_eq_true rfl, Nat.le_of_ble_eq_true rfl⟩ (Nat.le_of_ble_eq_true rfl) ?_
  rintro _ S1 ⟨rfl, hS1⟩
  obtain rfl := hS1.symm
  refine g_aload_n X dX14_init_4 rfl ?_
  refine g_iload_n X dX14_init_5 rfl ?_
  refine g_putFd (C := RX14) (T := TX14) (N := 3) X 0 in_X14 tyX14 tyX14_ok nmX14 dX14_init_6 q804 hq hb rfl (Nat.le_of_ble_eq_true rfl) (fun _ h9 => h9) rfl hin rfl rfl rfl (Nat.le_of_ble_eq_true rfl) ?_
  refine g_aload_n X dX14_init_9 rfl ?_
  refine g_aload_n X dX14_init_10 rfl ?_
  refine g_putFd (C := RX14) (T := TX14) (N := 3) X 1 in_X14 tyX14 tyX14_ok nmX14 dX14_init_11 q805 gk_sda hb rfl (Nat.le_of_ble_eq_true rfl) (fun _ h9 => h9) rfl hin rfl rfl rfl (Nat.le_of_ble_eq_true rfl) ?_
  refine g_aload_n X dX14_init_14 rfl ?_
  refine g_aload_n X dX14_init_15 rfl ?_
  refine g_putFd (C := RX14) (T := TX14) (N := 3) X 2 in_X14 tyX14 tyX14_ok nmX14 dX14_init_16 q806 gk_sda hb rfl (Nat.le_of_ble_eq_true rfl) (fun _ h9 => h9) rfl hin rfl rfl rfl (Nat.le_of_ble_eq_true rfl) ?_
  exact g_vret X hr dX14_init_19 (Nat.le_of_ble_eq_true rfl) (Nat.le_of_ble_eq_true rfl) (⟨rfl, by first | rfl | (simp only [vz_sdsd]; rfl)⟩)
set_option maxHeartbeats 600000 in
theorem k_X16_init {l : Launch} {E : gk_E} {S : gk_S} {x : Int32} {y : Int32} {z : Int32} {u : Int32} {w : Int32} {q1  : Nat}  (hq : S.2.2.2 q1 = some (.inr (16, [.int 0, .int 0, .int 0, .int 0, .int 0]))) (hb : E.2.2.2.1 ≤ q1) : gk_T l E yX16_init cX16_init 6 (none) 2 60 0 0 [.ref q1, .int x, .int y, .int z, .int u, .int w] S (fun r S' => r = none ∧ S' = gk_sd S q1 (.inr (16, [.int x, .int y, .int z, .int u, .int w]))) := by
  refine gk_T.of [some (.ref q1), some (.int x), some (.int y), some (.int z), some (.int u), some (.int w)] (by decide) (Nat.le_of_ble_eq_true rfl) (fun _ _ h => h) ?_
  intro p_ e_ R_ s_ m_ args_ below_ meth_ c_ hR X hr hin
  subst hR
  refine g_aload_n X dX16_init_0 rfl ?_
  refine g_callI X (k_J11_init) q573 q153 q966 q572 rfl hd_J11_init dX16_init_1 rfl ⟨Nat.le_of_ble_eq_true rfl, Nat.le_of_ble_eq_true rfl⟩ ⟨Nat.le_of_ble_eq_true rfl, Nat.le_of_ble_eq_true rfl⟩ (Nat.le_of_ble_eq_true rfl) ?_
  rintro _ S1 ⟨rfl, hS1⟩
  obtain rfl := hS1.symm
  refine g_aload_n X dX16_init_4 rfl ?_
  refine g_iload_n X dX16_init_5 rfl ?_
  refine g_putFd (C := RX16) (T := TX16) (N := 5) X 0 in_X16 tyX16 tyX16_ok nmX16 dX16_init_6 q967 hq hb rfl (Nat.le_of_ble_eq_true rfl) (fun _ h9 => h9) rfl hin rfl rfl rfl (Nat.le_of_ble_eq_true rfl) ?_
  refine g_aload_n X dX16_init_9 rfl ?_
  refine g_iload_n X dX16_init_10 rfl ?_
  refine g_putFd (C := RX16) (T := TX16) (N := 5) X 1 in_X16 tyX16 tyX16_ok nmX16 dX16_init_11 q968 gk_sda hb rfl (Nat.le_of_ble_eq_true rfl) (fun _ h9 => h9) rfl hin rfl rfl rfl (Nat.le_of_ble_eq_true rfl) ?_
  refine g_aload_n X dX16_init_14 rfl ?_
  refine g_iload_n X dX16_init_15 rfl ?_
  refine g_putFd (C := RX16) (T := TX16) (N := 5) X 2 in_X16 tyX16 tyX16_ok nmX16 dX16_init_16 q969 gk_sda hb rfl (Nat.le_of_ble_eq_true rfl) (fun _ h9 => h9) rfl hin rfl rfl rfl (Nat.le_of_ble_eq_true rfl) ?_
  refine g_aload_n X dX16_init_19 rfl ?_
  refine g_iload X dX16_init_20 rfl ?_
  refine g_putFd (C := RX16) (T := TX16) (N := 5) X 3 in_X16 tyX16 tyX16_ok nmX16 dX16_init_22 q970 gk_sda hb rfl (Nat.le_of_ble_eq_true rfl) (fun _ h9 => h9) rfl hin rfl rfl rfl (Nat.le_of_ble_eq_true rfl) ?_
  refine g_aload_n X dX16_init_25 rfl ?_
  refine g_iload X dX16_init_26 rfl ?_
  refine g_putFd (C := RX16) (T := TX16) (N := 5) X 4 in_X16 tyX16 tyX16_ok nmX16 dX16_init_28 q971 gk_sda hb rfl (Nat.le_of_ble_eq_true rfl) (fun _ h9 => h9) rfl hin rfl rfl rfl (Nat.le_of_ble_eq_true rfl) ?_
  exact g_vret X hr dX16_init_31 (Nat.le_of_ble_eq_true rfl) (Nat.le_of_ble_eq_true rfl) (⟨rfl, by first | rfl | (simp only [vz_sdsd]; rfl)⟩)
set_option maxHeartbeats 600000 in
theorem k_X15_init {l : Launch} {E : gk_E} {S : gk_S} {x : Int32} {q1 a1 : Nat} (hx : x = 0 ∨ x = 1) (hq : S.2.2.2 q1 = some (.inr (15, [.int 0, .null]))) (hb : E.2.2.2.1 ≤ q1) : gk_T l E yX15_init cX15_init 3 (none) 2 60 0 0 [.ref q1, .int x, .ref a1] S (fun r S' => r = none ∧ S' = gk_sd S q1 (.inr (15, [.int x, .ref a1]))) := by
  refine gk_T.of [some (.ref q1), some (.int x), some (.ref a1)] (by decide) (Nat.le_of_ble_eq_true rfl) (fun _ _ h => h) ?_
  intro p_ e_ R_ s_ m_ args_ below_ meth_ c_ hR X hr hin
  subst hR
  refine g_aload_n X dX15_init_0 rfl ?_
  refine g_callI X (k_J11_init) q573 q153 q837 q572 rfl hd_J11_init dX15_init_1 rfl ⟨Nat.le_of_ble_eq_true rfl, Nat.le_of_ble_eq_true rfl⟩ ⟨Nat.le_of_ble_eq_true rfl, Nat.le_of_ble_eq_true rfl⟩ (Nat.le_of_ble_eq_true rfl) ?_
  rintro _ S1 ⟨rfl, hS1⟩
  obtain rfl := hS1.symm
  refine g_aload_n X dX15_init_4 rfl ?_
  refine g_iload_n X dX15_init_5 rfl ?_
  refine g_putFd (C := RX15) (T := TX15) (N := 2) X 0 in_X15 tyX15 tyX15_ok nmX15 dX15_init_6 q838 hq hb rfl (Nat.le_of_ble_eq_true rfl) (fun _ h9 => h9) rfl hin rfl (by rcases hx with rfl | rfl <;> rfl) (by rcases hx with rfl | rfl <;> rfl) (Nat.le_of_ble_eq_true rfl) ?_
  refine g_aload_n X dX15_init_9 rfl ?_
  refine g_aload_n X dX15_init_10 rfl ?_
  refine g_putFd (C := RX15) (T := TX15) (N := 2) X 1 in_X15 tyX15 tyX15_ok nmX15 dX15_init_11 q839 gk_sda hb rfl (Nat.le_of_ble_eq_true rfl) (fun _ h9 => h9) rfl hin rfl rfl rfl (Nat.le_of_ble_eq_true rfl) ?_
  exact g_vret X hr dX15_init_14 (Nat.le_of_ble_eq_true rfl) (Nat.le_of_ble_eq_true rfl) (⟨rfl, by first | rfl | (simp only [vz_sdsd]; rfl)⟩)
set_option maxHeartbeats 600000 in
theorem k_X3_init {l : Launch} {E : gk_E} {S : gk_S} {x : Int32} {q1 a1 : Nat}  (hq : S.2.2.2 q1 = some (.inr (3, [.null, .int 0, .int 0, .int 0, .int 0, .int 0, .int 0, .int 0]))) (hb : E.2.2.2.1 ≤ q1) : gk_T l E yX3_init cX3_init 3 (none) 1 60 0 0 [.ref q1, .ref a1, .int x] S (fun r S' => r = none ∧ S' = gk_sd S q1 (.inr (3, [.ref a1, .int x, .int 0, .int 0, .int 0, .int 0, .int 0, .int 0]))) := by
  refine gk_T.of [some (.ref q1), some (.ref a1), some (.int x)] (by decide) (Nat.le_of_ble_eq_true rfl) (fun _ _ h => h) ?_
  intro p_ e_ R_ s_ m_ args_ below_ meth_ c_ hR X hr hin
  subst hR
  refine g_aload_n X dX3_init_0 rfl ?_
  refine g_objInit X dX3_init_1 q327 q176 q177 (Nat.le_of_ble_eq_true rfl) (Nat.le_of_ble_eq_true rfl) ?_
  refine g_aload_n X dX3_init_4 rfl ?_
  refine g_aload_n X dX3_init_5 rfl ?_
  refine g_putFd (C := RX3) (T := TX3) (N := 8) X 0 in_X3 tyX3 tyX3_ok nmX3 dX3_init_6 q328 hq hb rfl (Nat.le_of_ble_eq_true rfl) (fun _ h9 => h9) rfl hin rfl rfl rfl (Nat.le_of_ble_eq_true rfl) ?_
  refine g_aload_n X dX3_init_9 rfl ?_
  refine g_iload_n X dX3_init_10 rfl ?_
  refine g_putFd (C := RX3) (T := TX3) (N := 8) X 1 in_X3 tyX3 tyX3_ok nmX3 dX3_init_11 q329 gk_sda hb rfl (Nat.le_of_ble_eq_true rfl) (fun _ h9 => h9) rfl hin rfl rfl rfl (Nat.le_of_ble_eq_true rfl) ?_
  exact g_vret X hr dX3_init_14 (Nat.le_of_ble_eq_true rfl) (Nat.le_of_ble_eq_true rfl) (⟨rfl, by first | rfl | (simp only [vz_sdsd]; rfl)⟩)
set_option maxHeartbeats 600000 in
theorem k_J13_init {l : Launch} {E : gk_E} {S : gk_S} {x : Int32} {q1  : Nat}  (hq : S.2.2.2 q1 = some (.inr (18, [.int 0]))) (hb : E.2.2.2.1 ≤ q1) : gk_T l E yJ13_init cJ13_init 2 (none) 2 60 0 0 [.ref q1, .int x] S (fun r S' => r = none ∧ S' = gk_sd S q1 (.inr (18, [.int x]))) := by
  refine gk_T.of [some (.ref q1), some (.int x)] (by decide) (Nat.le_of_ble_eq_true rfl) (fun _ _ h => h) ?_
  intro p_ e_ R_ s_ m_ args_ below_ meth_ c_ hR X hr hin
  subst hR
  refine g_aload_n X dJ13_init_0 rfl ?_
  refine g_callI X (k_J12_init) q722 q162 q720 q721 rfl hd_J12_init dJ13_init_1 rfl ⟨Nat.le_of_ble_eq_true rfl, Nat.le_of_ble_eq_true rfl⟩ ⟨Nat.le_of_ble_eq_true rfl, Nat.le_of_ble_eq_true rfl⟩ (Nat.le_of_ble_eq_true rfl) ?_
  rintro _ S1 ⟨rfl, hS1⟩
  obtain rfl := hS1.symm
  refine g_aload_n X dJ13_init_4 rfl ?_
  refine g_iload_n X dJ13_init_5 rfl ?_
  refine g_putFd (C := RJ13) (T := TJ13) (N := 1) X 0 in_J13 tyJ13 tyJ13_ok nmJ13 dJ13_init_6 q724 hq hb rfl (Nat.le_of_ble_eq_true rfl) (fun _ h9 => h9) rfl hin rfl rfl rfl (Nat.le_of_ble_eq_true rfl) ?_
  exact g_vret X hr dJ13_init_9 (Nat.le_of_ble_eq_true rfl) (Nat.le_of_ble_eq_true rfl) (⟨rfl, by first | rfl | (simp only [vz_sdsd]; rfl)⟩)
