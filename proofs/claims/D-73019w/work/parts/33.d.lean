theorem MU.nz {S : gk_S} {n : Nat} {f : Nat → Int32} (h : MU S n f) (hn : 0 < n) : ∃ j, j < 4 ∧ S.1 400 2 = nI j ∧ S.1 402 (714 * j + 705) = nI n ∧ ∀ c, c < 8 → f c = S.1 402 (714 * j + 706 + c) := by
  rcases h.2 with ⟨_, z⟩ | z
  · omega
  · exact z
set_option maxHeartbeats 600000 in
theorem k_X2_claims {l : Launch} {E : gk_E} (ho : E.2.2.2.2 = true) {S : gk_S}  {n : Nat} {f : Nat → Int32} (hu : MU S n f) : gk_T l E yX2_claims cX2_claims 1 ((some .int)) 0 0 0 0 [.ref (E.2.2.1 3)] S (fun r S' => r = some (.int (nI n)) ∧ S' = S) := by
  refine gk_T.of [some (.ref (E.2.2.1 3))] (by decide) (Nat.le_of_ble_eq_true rfl) (fun _ _ h => h) ?_
  intro p_ e_ R_ s_ m_ args_ below_ meth_ c_ hR X hr hin
  subst hR
  obtain ⟨hn8, hcase⟩ := id hu
  refine g_aload_n X dX2_claims_0 rfl ?_
  refine g_get (C := RX2) (T := TX2) (N := 35) X 0 in_X2 dX2_claims_1 q1405 (rd3 ho) rfl (Nat.le_of_ble_eq_true rfl) (fun _ h9 => h9) rfl ?_
  refine g_iconst (v := 2) X dX2_claims_4 rfl ?_
  refine g_iald (j := 2) X dX2_claims_5 (rdi ho (400) (rfl)) rfl (by decide) (by decide) ?_
  refine g_iconst (v := (-1)) X dX2_claims_6 rfl ?_
  refine g_icmp_ne (tgt := 14) X dX2_claims_7 rfl (fun c7 => ?_) (fun c7 => ?_)
  · obtain ⟨j, hj, e1, e2, e3⟩ := hcase.resolve_left (fun z => c7 z.1)
    refine g_aload_n X dX2_claims_14 rfl ?_
    refine g_get (C := RX2) (T := TX2) (N := 35) X 2 in_X2 dX2_claims_15 q1407 (rd3 ho) rfl (Nat.le_of_ble_eq_true rfl) (fun _ h9 => h9) rfl ?_
    refine g_sipush (v := 714) X dX2_claims_18 rfl ?_
    refine g_aload_n X dX2_claims_21 rfl ?_
    refine g_get (C := RX2) (T := TX2) (N := 35) X 0 in_X2 dX2_claims_22 q1405 (rd3 ho) rfl (Nat.le_of_ble_eq_true rfl) (fun _ h9 => h9) rfl ?_
    refine g_iconst (v := 2) X dX2_claims_25 rfl ?_
    refine g_iald (j := 2) X dX2_claims_26 (rdi ho (400) (rfl)) rfl (by decide) (by decide) ?_
    refine g_imul X dX2_claims_27 ?_
    refine g_sipush (v := 705) X dX2_claims_28 rfl ?_
    refine g_iadd X dX2_claims_31 ?_
    refine g_iald (j := 714 * j + 705) X dX2_claims_32 (rdi ho (402) (rfl)) (by rw [e1]; show nI 714 * nI j + nI 705 = _; rw [pk_mul, nI_add]) (by omega) (by decide) ?_
    exact g_iret X hr dX2_claims_33 (Nat.le_of_ble_eq_true rfl) (Nat.le_of_ble_eq_true rfl) (⟨congrArg (fun z => some (Value.int z)) e2, rfl⟩)
  · refine g_iconst (v := 0) X dX2_claims_10 rfl ?_
    refine g_goto (tgt := 33) X dX2_claims_11 rfl ?_
    exact g_iret X hr dX2_claims_33 (Nat.le_of_ble_eq_true rfl) (Nat.le_of_ble_eq_true rfl) (⟨by rcases hcase with ⟨_, z⟩ | ⟨j, hj, z, _⟩; rw [z]; rfl; exact absurd (z.symm.trans c7) (nI_ne_m1 (by omega)), rfl⟩)
set_option maxHeartbeats 600000 in
theorem k_X2_every {l : Launch} {E : gk_E} (ho : E.2.2.2.2 = true) {S : gk_S}  {n : Nat} {f : Nat → Int32} (hu : MU S n f) : gk_T l E yX2_every cX2_every 1 ((some .int)) 1 20 0 0 [.ref (E.2.2.1 3)] S (fun r S' => r = some (.int (alC n)) ∧ S' = S) := by
  refine gk_T.of [some (.ref (E.2.2.1 3))] (by decide) (Nat.le_of_ble_eq_true rfl) (fun _ _ h => h) ?_
  intro p_ e_ R_ s_ m_ args_ below_ meth_ c_ hR X hr hin
  subst hR
  refine g_iconst (v := 1) X dX2_every_0 rfl ?_
  refine g_aload_n X dX2_every_1 rfl ?_
  refine g_callV (C := RX2) (T := TX2) (N := 35) X (k_X2_claims ho hu) (lw_V q1707 q1709 qs94 q139 q1710) hd_X2_claims dX2_every_2 (rd3 ho) rfl rfl ⟨Nat.le_of_ble_eq_true rfl, Nat.le_of_ble_eq_true rfl⟩ ⟨Nat.le_of_ble_eq_true rfl, Nat.le_of_ble_eq_true rfl⟩ (Nat.le_of_ble_eq_true rfl) ?_
  rintro _ S1 ⟨rfl, hS1⟩
  obtain rfl := hS1.symm
  refine g_ishl X dX2_every_5 ?_
  refine g_iconst (v := 1) X dX2_every_6 rfl ?_
  refine g_isub X dX2_every_7 ?_
  exact g_iret X hr dX2_every_8 (Nat.le_of_ble_eq_true rfl) (Nat.le_of_ble_eq_true rfl) (⟨rfl, rfl⟩)
set_option maxHeartbeats 600000 in
theorem k_X2_isClaim {l : Launch} {E : gk_E} (ho : E.2.2.2.2 = true) {S : gk_S} {c : Int32} {n : Nat} {f : Nat → Int32} (hu : MU S n f) : gk_T l E yX2_isClaim cX2_isClaim 2 ((some .boolean)) 1 22 0 0 [.ref (E.2.2.1 3), .int c] S (fun r S' => r = some (.int (bP (0 ≤ c ∧ c ≤ nI n - 1))) ∧ S' = S) := by
  refine gk_T.of [some (.ref (E.2.2.1 3)), some (.int c)] (by decide) (Nat.le_of_ble_eq_true rfl) (fun _ _ h => h) ?_
  intro p_ e_ R_ s_ m_ args_ below_ meth_ c_ hR X hr hin
  subst hR
  refine g_iload_n X dX2_isClaim_0 rfl ?_
  refine g_iconst (v := 0) X dX2_isClaim_1 rfl ?_
  refine g_aload_n X dX2_isClaim_2 rfl ?_
  refine g_callV (C := RX2) (T := TX2) (N := 35) X (k_X2_claims ho hu) (lw_V q1707 q1709 qs94 q139 q1710) hd_X2_claims dX2_isClaim_3 (rd3 ho) rfl rfl ⟨Nat.le_of_ble_eq_true rfl, Nat.le_of_ble_eq_true rfl⟩ ⟨Nat.le_of_ble_eq_true rfl, Nat.le_of_ble_eq_true rfl⟩ (Nat.le_of_ble_eq_true rfl) ?_
  rintro _ S1 ⟨rfl, hS1⟩
  obtain rfl := hS1.symm
  refine g_iconst (v := 1) X dX2_isClaim_6 rfl ?_
  refine g_isub X dX2_isClaim_7 ?_
  refine g_callS X (k_X2_isIn ho) (lw_S q1516 q1517 q139 q1518) hd_X2_isIn dX2_isClaim_8 rfl ⟨Nat.le_of_ble_eq_true rfl, Nat.le_of_ble_eq_true rfl⟩ ⟨Nat.le_of_ble_eq_true rfl, Nat.le_of_ble_eq_true rfl⟩ (Nat.le_of_ble_eq_true rfl) ?_
  rintro _ S1 ⟨rfl, hS1⟩
  obtain rfl := hS1.symm
  refine g_zret X hr dX2_isClaim_11 ?_ (Nat.le_of_ble_eq_true rfl) (Nat.le_of_ble_eq_true rfl) ?_
  · first | rfl | exact nb_bP
  · exact ⟨rfl, rfl⟩
set_option maxHeartbeats 600000 in
theorem k_X2_areClaims {l : Launch} {E : gk_E} (ho : E.2.2.2.2 = true) {S : gk_S} {b : Int32} {n : Nat} {f : Nat → Int32} (hu : MU S n f) : gk_T l E yX2_areClaims cX2_areClaims 2 ((some .boolean)) 2 40 0 0 [.ref (E.2.2.1 3), .int b] S (fun r S' => r = some (.int (bP (0 ≤ b ∧ b ≤ alC n))) ∧ S' = S) := by
  refine gk_T.of [some (.ref (E.2.2.1 3)), some (.int b)] (by decide) (Nat.le_of_ble_eq_true rfl) (fun _ _ h => h) ?_
  intro p_ e_ R_ s_ m_ args_ below_ meth_ c_ hR X hr hin
  subst hR
  refine g_iload_n X dX2_areClaims_0 rfl ?_
  refine g_iconst (v := 0) X dX2_areClaims_1 rfl ?_
  refine g_aload_n X dX2_areClaims_2 rfl ?_
  refine g_callV (C := RX2) (T := TX2) (N := 35) X (k_X2_every ho hu) (lw_V q1759 q1761 qs98 q139 q1762) hd_X2_every dX2_areClaims_3 (rd3 ho) rfl rfl ⟨Nat.le_of_ble_eq_true rfl, Nat.le_of_ble_eq_true rfl⟩ ⟨Nat.le_of_ble_eq_true rfl, Nat.le_of_ble_eq_true rfl⟩ (Nat.le_of_ble_eq_true rfl) ?_
  rintro _ S1 ⟨rfl, hS1⟩
  obtain rfl := hS1.symm
  refine g_callS X (k_X2_isIn ho) (lw_S q1516 q1517 q139 q1518) hd_X2_isIn dX2_areClaims_6 rfl ⟨Nat.le_of_ble_eq_true rfl, Nat.le_of_ble_eq_true rfl⟩ ⟨Nat.le_of_ble_eq_true rfl, Nat.le_of_ble_eq_true rfl⟩ (Nat.le_of_ble_eq_true rfl) ?_
  rintro _ S1 ⟨rfl, hS1⟩
  obtain rfl := hS1.symm
  refine g_zret X hr dX2_areClaims_9 ?_ (Nat.le_of_ble_eq_true rfl) (Nat.le_of_ble_eq_true rfl) ?_
  · first | rfl | exact nb_bP
  · exact ⟨rfl, rfl⟩
set_option maxHeartbeats 600000 in
theorem k_X2_tableOf {l : Launch} {E : gk_E} (ho : E.2.2.2.2 = true) {S : gk_S} {c : Int32} {n k : Nat} {f : Nat → Int32} (hu : MU S n f) (hc : c = nI k) (hk : k < n) : gk_T l E yX2_tableOf cX2_tableOf 2 ((some .int)) 0 0 0 0 [.ref (E.2.2.1 3), .int c] S (fun r S' => r = some (.int (f k)) ∧ S' = S) := by
  refine gk_T.of [some (.ref (E.2.2.1 3)), some (.int c)] (by decide) (Nat.le_of_ble_eq_true rfl) (fun _ _ h => h) ?_
  intro p_ e_ R_ s_ m_ args_ below_ meth_ c_ hR X hr hin
  subst hR
  have hn8 : n ≤ 8 := hu.1
  obtain ⟨j, hj, e1, e2, e3⟩ := hu.nz (by omega)
  refine g_aload_n X dX2_tableOf_0 rfl ?_
  refine g_get (C := RX2) (T := TX2) (N := 35) X 2 in_X2 dX2_tableOf_1 q1407 (rd3 ho) rfl (Nat.le_of_ble_eq_true rfl) (fun _ h9 => h9) rfl ?_
  refine g_sipush (v := 714) X dX2_tableOf_4 rfl ?_
  refine g_aload_n X dX2_tableOf_7 rfl ?_
  refine g_get (C := RX2) (T := TX2) (N := 35) X 0 in_X2 dX2_tableOf_8 q1405 (rd3 ho) rfl (Nat.le_of_ble_eq_true rfl) (fun _ h9 => h9) rfl ?_
  refine g_iconst (v := 2) X dX2_tableOf_11 rfl ?_
  refine g_iald (j := 2) X dX2_tableOf_12 (rdi ho (400) (rfl)) rfl (by decide) (by decide) ?_
  refine g_imul X dX2_tableOf_13 ?_
  refine g_sipush (v := 705) X dX2_tableOf_14 rfl ?_
  refine g_iadd X dX2_tableOf_17 ?_
  refine g_iconst (v := 1) X dX2_tableOf_18 rfl ?_
  refine g_iadd X dX2_tableOf_19 ?_
  refine g_iload_n X dX2_tableOf_20 rfl ?_
  refine g_iadd X dX2_tableOf_21 ?_
  refine g_iald (j := 714 * j + 705 + 1 + k) X dX2_tableOf_22 (rdi ho (402) (rfl)) (by rw [e1, hc]; show nI 714 * nI j + nI 705 + nI 1 + nI k = _; rw [pk_mul, nI_add, nI_add, nI_add]) (by omega) (by decide) ?_
  exact g_iret X hr dX2_tableOf_23 (Nat.le_of_ble_eq_true rfl) (Nat.le_of_ble_eq_true rfl) (⟨by rw [e3 k (by omega)], rfl⟩)
set_option maxHeartbeats 600000 in
theorem k_X2_worldsOf {l : Launch} {E : gk_E} (ho : E.2.2.2.2 = true) {S : gk_S} {b : Int32} {n : Nat} {f : Nat → Int32} (hu : MU S n f) : gk_T l E yX2_worldsOf cX2_worldsOf 4 ((some .int)) 1 21 0 0 [.ref (E.2.2.1 3), .int b] S (fun r S' => r = some (.int (wo n f b)) ∧ S' = S) := by
  refine gk_T.of [some (.ref (E.2.2.1 3)), some (.int b), none, none] (by decide) (Nat.le_of_ble_eq_true rfl) (le_1 rfl (le_1 rfl (le_p (le_p le_n)))) ?_
  intro p_ e_ R_ s_ m_ args_ below_ meth_ c_ hR X hr hin
  subst hR
  have hn8 : n ≤ 8 := hu.1
  refine g_ldc X dX2_worldsOf_0 q1767 ?_
  refine g_istore_n X dX2_worldsOf_2 (Nat.le_of_ble_eq_true rfl) ?_
  refine g_iconst (v := 0) X dX2_worldsOf_3 rfl ?_
  refine g_istore_n X dX2_worldsOf_4 (Nat.le_of_ble_eq_true rfl) ?_
  refine g_loop (σ := Nat) (fun (i : Nat) => S) (fun (i : Nat) => ([some (.ref (E.2.2.1 3)), some (.int b), some (.int (woi i f b)), some (.int (nI i))] : List (Option Value))) (fun (i : Nat) => i ≤ n) (fun (i : Nat) => n - i) (0) ?_ (rfl) (le_1 rfl (le_1 rfl (le_1 rfl (le_1 rfl le_n)))) ?_
  · exact Nat.zero_le _
  intro i hI ih
  try dsimp only at hI ih ⊢
  refine g_iload_n X dX2_worldsOf_5 rfl ?_
  refine g_aload_n X dX2_worldsOf_6 rfl ?_
  refine g_callV (C := RX2) (T := TX2) (N := 35) X (k_X2_claims ho hu) (lw_V q1707 q1709 qs94 q139 q1710) hd_X2_claims dX2_worldsOf_7 (rd3 ho) rfl rfl ⟨Nat.le_of_ble_eq_true rfl, Nat.le_of_ble_eq_true rfl⟩ ⟨Nat.le_of_ble_eq_true rfl, Nat.le_of_ble_eq_true rfl⟩ (Nat.le_of_ble_eq_true rfl) ?_
  rintro _ S1 ⟨rfl, hS1⟩
  obtain rfl := hS1.symm
  refine g_icmp_ge (tgt := 35) X dX2_worldsOf_10 rfl (fun c10 => ?_) (fun c10 => ?_)
  · refine g_iload_n X dX2_worldsOf_35 rfl ?_
    exact g_iret X hr dX2_worldsOf_36 (Nat.le_of_ble_eq_true rfl) (Nat.le_of_ble_eq_true rfl) (⟨by rw [show i = n from Nat.le_antisymm hI ((nI_leI (by omega) (by omega)).mp c10)]; rfl, rfl⟩)
  · have hi : i < n := by
      rcases Nat.lt_or_ge i n with q | q
      · exact q
      · exact absurd (nI_le q (by omega)) c10
    refine g_iload_n X dX2_worldsOf_13 rfl ?_
    refine g_iload_n X dX2_worldsOf_14 rfl ?_
    refine g_callS X (k_X2_has ho) (lw_S q1711 q1712 q139 q1713) hd_X2_has dX2_worldsOf_15 rfl ⟨Nat.le_of_ble_eq_true rfl, Nat.le_of_ble_eq_true rfl⟩ ⟨Nat.le_of_ble_eq_true rfl, Nat.le_of_ble_eq_true rfl⟩ (Nat.le_of_ble_eq_true rfl) ?_
    rintro _ S1 ⟨rfl, hS1⟩
    obtain rfl := hS1.symm
    refine g_ifp_eq (tgt := 29) X dX2_worldsOf_18 rfl (fun c18 => ?_) (fun c18 => ?_)
    · refine g_iinc (v := 1) X dX2_worldsOf_29 rfl rfl (Nat.le_of_ble_eq_true rfl) ?_
      refine g_goto (tgt := 5) X dX2_worldsOf_32 rfl ?_
      refine g_sub (le_1 rfl (le_1 rfl (le_1 (by rw [show woi (i + 1) f b = woi i f b from if_neg c18]) (le_1 e_1 le_n)))) (ih (i + 1) ?_ ?_)
      · omega
      · omega
    · refine g_iload_n X dX2_worldsOf_21 rfl ?_
      refine g_aload_n X dX2_worldsOf_22 rfl ?_
      refine g_iload_n X dX2_worldsOf_23 rfl ?_
      refine g_callV (C := RX2) (T := TX2) (N := 35) X (k_X2_tableOf ho hu rfl hi) (lw_V q1768 q1770 qs100 q139 q1771) hd_X2_tableOf dX2_worldsOf_24 (rd3 ho) rfl rfl ⟨Nat.le_of_ble_eq_true rfl, Nat.le_of_ble_eq_true rfl⟩ ⟨Nat.le_of_ble_eq_true rfl, Nat.le_of_ble_eq_true rfl⟩ (Nat.le_of_ble_eq_true rfl) ?_
      rintro _ S1 ⟨rfl, hS1⟩
      obtain rfl := hS1.symm
      refine g_iand X dX2_worldsOf_27 ?_
      refine g_istore_n X dX2_worldsOf_28 (Nat.le_of_ble_eq_true rfl) ?_
      refine g_iinc (v := 1) X dX2_worldsOf_29 rfl rfl (Nat.le_of_ble_eq_true rfl) ?_
      refine g_goto (tgt := 5) X dX2_worldsOf_32 rfl ?_
      refine g_sub (le_1 rfl (le_1 rfl (le_1 (by rw [show woi (i + 1) f b = woi i f b &&& f i from if_pos c18]) (le_1 e_1 le_n)))) (ih (i + 1) ?_ ?_)
      · omega
      · omega
set_option maxHeartbeats 600000 in
theorem k_X2_heldNow {l : Launch} {E : gk_E} (ho : E.2.2.2.2 = true) {S : gk_S}  {n : Nat} {f : Nat → Int32} (hu : MU S n f) : gk_T l E yX2_heldNow cX2_heldNow 1 ((some .int)) 2 40 0 0 [.ref (E.2.2.1 3)] S (fun r S' => r = some (.int (S.1 400 7 &&& alC n)) ∧ S' = S) := by
  refine gk_T.of [some (.ref (E.2.2.1 3))] (by decide) (Nat.le_of_ble_eq_true rfl) (fun _ _ h => h) ?_
  intro p_ e_ R_ s_ m_ args_ below_ meth_ c_ hR X hr hin
  subst hR
  refine g_aload_n X dX2_heldNow_0 rfl ?_
  refine g_get (C := RX2) (T := TX2) (N := 35) X 0 in_X2 dX2_heldNow_1 q1405 (rd3 ho) rfl (Nat.le_of_ble_eq_true rfl) (fun _ h9 => h9) rfl ?_
  refine g_bipush (v := 7) X dX2_heldNow_4 rfl ?_
  refine g_iald (j := 7) X dX2_heldNow_6 (rdi ho (400) (rfl)) rfl (by decide) (by decide) ?_
  refine g_aload_n X dX2_heldNow_7 rfl ?_
  refine g_callV (C := RX2) (T := TX2) (N := 35) X (k_X2_every ho hu) (lw_V q1759 q1761 qs98 q139 q1762) hd_X2_every dX2_heldNow_8 (rd3 ho) rfl rfl ⟨Nat.le_of_ble_eq_true rfl, Nat.le_of_ble_eq_true rfl⟩ ⟨Nat.le_of_ble_eq_true rfl, Nat.le_of_ble_eq_true rfl⟩ (Nat.le_of_ble_eq_true rfl) ?_
  rintro _ S1 ⟨rfl, hS1⟩
  obtain rfl := hS1.symm
  refine g_iand X dX2_heldNow_11 ?_
  exact g_iret X hr dX2_heldNow_12 (Nat.le_of_ble_eq_true rfl) (Nat.le_of_ble_eq_true rfl) (⟨rfl, rfl⟩)
set_option maxHeartbeats 600000 in
theorem k_X2_wantOf {l : Launch} {E : gk_E} (ho : E.2.2.2.2 = true) {S : gk_S} {x : Int32} {y : Int32} {f k : Nat} (hx : x = nI f) (hf : f < 5) (hy : y = nI k) (hk : k < 5) : gk_T l E yX2_wantOf cX2_wantOf 3 ((some .int)) 0 0 0 0 [.ref (E.2.2.1 3), .int x, .int y] S (fun r S' => r = some (.int (S.1 400 (37 + 5 * f + k))) ∧ S' = S) := by
  refine gk_T.of [some (.ref (E.2.2.1 3)), some (.int x), some (.int y)] (by decide) (Nat.le_of_ble_eq_true rfl) (fun _ _ h => h) ?_
  intro p_ e_ R_ s_ m_ args_ below_ meth_ c_ hR X hr hin
  subst hR
  refine g_aload_n X dX2_wantOf_0 rfl ?_
  refine g_get (C := RX2) (T := TX2) (N := 35) X 0 in_X2 dX2_wantOf_1 q1405 (rd3 ho) rfl (Nat.le_of_ble_eq_true rfl) (fun _ h9 => h9) rfl ?_
  refine g_bipush (v := 37) X dX2_wantOf_4 rfl ?_
  refine g_iconst (v := 5) X dX2_wantOf_6 rfl ?_
  refine g_iload_n X dX2_wantOf_7 rfl ?_
  refine g_imul X dX2_wantOf_8 ?_
  refine g_iadd X dX2_wantOf_9 ?_
  refine g_iload_n X dX2_wantOf_10 rfl ?_
  refine g_iadd X dX2_wantOf_11 ?_
  refine g_iald (j := 37 + 5 * f + k) X dX2_wantOf_12 (rdi ho (400) (rfl)) (by rw [hx, hy]; show nI 37 + nI 5 * nI f + nI k = _; rw [pk_mul, nI_add, nI_add]) (by omega) (by decide) ?_
  exact g_iret X hr dX2_wantOf_13 (Nat.le_of_ble_eq_true rfl) (Nat.le_of_ble_eq_true rfl) (⟨rfl, rfl⟩)
set_option maxHeartbeats 600000 in
theorem k_X2_fieldOf {l : Launch} {E : gk_E} (ho : E.2.2.2.2 = true) {S : gk_S} {x : Int32} {f : Nat} (hx : x = nI f) (hf : f < 5) : gk_T l E yX2_fieldOf cX2_fieldOf 2 ((some .int)) 0 0 0 0 [.ref (E.2.2.1 3), .int x] S (fun r S' => r = some (.int (S.1 400 (17 + 2 * f))) ∧ S' = S) := by
  refine gk_T.of [some (.ref (E.2.2.1 3)), some (.int x)] (by decide) (Nat.le_of_ble_eq_true rfl) (fun _ _ h => h) ?_
  intro p_ e_ R_ s_ m_ args_ below_ meth_ c_ hR X hr hin
  subst hR
  refine g_aload_n X dX2_fieldOf_0 rfl ?_
  refine g_get (C := RX2) (T := TX2) (N := 35) X 0 in_X2 dX2_fieldOf_1 q1405 (rd3 ho) rfl (Nat.le_of_ble_eq_true rfl) (fun _ h9 => h9) rfl ?_
  refine g_bipush (v := 17) X dX2_fieldOf_4 rfl ?_
  refine g_iconst (v := 2) X dX2_fieldOf_6 rfl ?_
  refine g_iload_n X dX2_fieldOf_7 rfl ?_
  refine g_imul X dX2_fieldOf_8 ?_
  refine g_iadd X dX2_fieldOf_9 ?_
  refine g_iald (j := 17 + 2 * f) X dX2_fieldOf_10 (rdi ho (400) (rfl)) (by rw [hx]; show nI 17 + nI 2 * nI f = _; rw [pk_mul, nI_add]) (by omega) (by decide) ?_
  exact g_iret X hr dX2_fieldOf_11 (Nat.le_of_ble_eq_true rfl) (Nat.le_of_ble_eq_true rfl) (⟨rfl, rfl⟩)
set_option maxHeartbeats 600000 in
theorem k_X2_soil {l : Launch} {E : gk_E} (ho : E.2.2.2.2 = true) {S : gk_S} {k : Int32} {v : Int32}   : gk_T l E yX2_soil cX2_soil 3 ((some .boolean)) 2 42 0 0 [.ref (E.2.2.1 3), .int k, .int v] S (fun r S' => r = some (.int (bP ((0 ≤ k ∧ k ≤ 4) ∧ 0 ≤ v ∧ v ≤ 20))) ∧ S' = if (0 ≤ k ∧ k ≤ 4) ∧ 0 ≤ v ∧ v ≤ 20 then gk_si S 400 (upd (S.1 400) (32 + ix k) v) else S) := by
  refine gk_T.of [some (.ref (E.2.2.1 3)), some (.int k), some (.int v)] (by decide) (Nat.le_of_ble_eq_true rfl) (fun _ _ h => h) ?_
  intro p_ e_ R_ s_ m_ args_ below_ meth_ c_ hR X hr hin
  subst hR
  refine g_iload_n X dX2_soil_0 rfl ?_
  refine g_callS X (k_X2_isField ho) (lw_S q1523 q1524 q139 q1525) hd_X2_isField dX2_soil_1 rfl ⟨Nat.le_of_ble_eq_true rfl, Nat.le_of_ble_eq_true rfl⟩ ⟨Nat.le_of_ble_eq_true rfl, Nat.le_of_ble_eq_true rfl⟩ (Nat.le_of_ble_eq_true rfl) ?_
  rintro _ S1 ⟨rfl, hS1⟩
  obtain rfl := hS1.symm
  refine g_ifp_eq (tgt := 17) X dX2_soil_4 rfl (fun c4 => ?_) (fun c4 => ?_)
  · refine g_iconst (v := 0) X dX2_soil_17 rfl ?_
    refine g_zret X hr dX2_soil_18 ?_ (Nat.le_of_ble_eq_true rfl) (Nat.le_of_ble_eq_true rfl) ?_
    · first | rfl | exact nb_bP
    · exact lz_f (by grind) rfl
  · refine g_iload_n X dX2_soil_7 rfl ?_
    refine g_iconst (v := 0) X dX2_soil_8 rfl ?_
    refine g_bipush (v := 20) X dX2_soil_9 rfl ?_
    refine g_callS X (k_X2_isIn ho) (lw_S q1516 q1517 q139 q1518) hd_X2_isIn dX2_soil_11 rfl ⟨Nat.le_of_ble_eq_true rfl, Nat.le_of_ble_eq_true rfl⟩ ⟨Nat.le_of_ble_eq_true rfl, Nat.le_of_ble_eq_true rfl⟩ (Nat.le_of_ble_eq_true rfl) ?_
    rintro _ S1 ⟨rfl, hS1⟩
    obtain rfl := hS1.symm
    refine g_ifp_ne (tgt := 19) X dX2_soil_14 rfl (fun c14 => ?_) (fun c14 => ?_)
    · have hk : ix k < 5 := Nat.lt_succ_of_le (ix_le 4 (by decide) c4.1 c4.2)
      refine g_aload_n X dX2_soil_19 rfl ?_
      refine g_get (C := RX2) (T := TX2) (N := 35) X 0 in_X2 dX2_soil_20 q1405 (rd3 ho) rfl (Nat.le_of_ble_eq_true rfl) (fun _ h9 => h9) rfl ?_
      refine g_bipush (v := 32) X dX2_soil_23 rfl ?_
      refine g_iload_n X dX2_soil_25 rfl ?_
      refine g_iadd X dX2_soil_26 ?_
      refine g_iload_n X dX2_soil_27 rfl ?_
      refine g_iast X ho (400) (j := 32 + ix k) dX2_soil_28 rfl (rfl) (by conv => { lhs; rw [ix_i c4.1] }; show nI 32 + nI (ix k) = _; rw [nI_add]) (by omega) (by decide) ?_
      refine g_iconst (v := 1) X dX2_soil_29 rfl ?_
      refine g_zret X hr dX2_soil_30 ?_ (Nat.le_of_ble_eq_true rfl) (Nat.le_of_ble_eq_true rfl) ?_
      · first | rfl | exact nb_bP
      · exact lz_t ⟨c4, c14⟩ rfl
    · refine g_iconst (v := 0) X dX2_soil_17 rfl ?_
      refine g_zret X hr dX2_soil_18 ?_ (Nat.le_of_ble_eq_true rfl) (Nat.le_of_ble_eq_true rfl) ?_
      · first | rfl | exact nb_bP
      · exact lz_f (by grind) rfl
set_option maxHeartbeats 600000 in
theorem k_X2_wants {l : Launch} {E : gk_E} (ho : E.2.2.2.2 = true) {S : gk_S} {f : Int32} {k : Int32} {v : Int32}   : gk_T l E yX2_wants cX2_wants 4 ((some .boolean)) 2 42 0 0 [.ref (E.2.2.1 3), .int f, .int k, .int v] S (fun r S' => r = some (.int (bP ((0 ≤ f ∧ f ≤ 4) ∧ (0 ≤ k ∧ k ≤ 4) ∧ 0 ≤ v ∧ v ≤ 20))) ∧ S' = if (0 ≤ f ∧ f ≤ 4) ∧ (0 ≤ k ∧ k ≤ 4) ∧ 0 ≤ v ∧ v ≤ 20 then gk_si S 400 (upd (S.1 400) (37 + 5 * ix f + ix k) v) else S) := by
  refine gk_T.of [some (.ref (E.2.2.1 3)), some (.int f), some (.int k), some (.int v)] (by decide) (Nat.le_of_ble_eq_true rfl) (fun _ _ h => h) ?_
  intro p_ e_ R_ s_ m_ args_ below_ meth_ c_ hR X hr hin
  subst hR
  refine g_iload_n X dX2_wants_0 rfl ?_
  refine g_iconst (v := 0) X dX2_wants_1 rfl ?_
  refine g_iconst (v := 4) X dX2_wants_2 rfl ?_
  refine g_callS X (k_X2_isIn ho) (lw_S q1516 q1517 q139 q1518) hd_X2_isIn dX2_wants_3 rfl ⟨Nat.le_of_ble_eq_true rfl, Nat.le_of_ble_eq_true rfl⟩ ⟨Nat.le_of_ble_eq_true rfl, Nat.le_of_ble_eq_true rfl⟩ (Nat.le_of_ble_eq_true rfl) ?_
  rintro _ S1 ⟨rfl, hS1⟩
  obtain rfl := hS1.symm
  refine g_ifp_eq (tgt := 26) X dX2_wants_6 rfl (fun c6 => ?_) (fun c6 => ?_)
  · refine g_iconst (v := 0) X dX2_wants_26 rfl ?_
    refine g_zret X hr dX2_wants_27 ?_ (Nat.le_of_ble_eq_true rfl) (Nat.le_of_ble_eq_true rfl) ?_
    · first | rfl | exact nb_bP
    · exact lz_f (by grind) rfl
  · refine g_iload_n X dX2_wants_9 rfl ?_
    refine g_callS X (k_X2_isField ho) (lw_S q1523 q1524 q139 q1525) hd_X2_isField dX2_wants_10 rfl ⟨Nat.le_of_ble_eq_true rfl, Nat.le_of_ble_eq_true rfl⟩ ⟨Nat.le_of_ble_eq_true rfl, Nat.le_of_ble_eq_true rfl⟩ (Nat.le_of_ble_eq_true rfl) ?_
    rintro _ S1 ⟨rfl, hS1⟩
    obtain rfl := hS1.symm
    refine g_ifp_eq (tgt := 26) X dX2_wants_13 rfl (fun c13 => ?_) (fun c13 => ?_)
    · refine g_iconst (v := 0) X dX2_wants_26 rfl ?_
      refine g_zret X hr dX2_wants_27 ?_ (Nat.le_of_ble_eq_true rfl) (Nat.le_of_ble_eq_true rfl) ?_
      · first | rfl | exact nb_bP
      · exact lz_f (by grind) rfl
    · refine g_iload_n X dX2_wants_16 rfl ?_
      refine g_iconst (v := 0) X dX2_wants_17 rfl ?_
      refine g_bipush (v := 20) X dX2_wants_18 rfl ?_
      refine g_callS X (k_X2_isIn ho) (lw_S q1516 q1517 q139 q1518) hd_X2_isIn dX2_wants_20 rfl ⟨Nat.le_of_ble_eq_true rfl, Nat.le_of_ble_eq_true rfl⟩ ⟨Nat.le_of_ble_eq_true rfl, Nat.le_of_ble_eq_true rfl⟩ (Nat.le_of_ble_eq_true rfl) ?_
      rintro _ S1 ⟨rfl, hS1⟩
      obtain rfl := hS1.symm
      refine g_ifp_ne (tgt := 28) X dX2_wants_23 rfl (fun c23 => ?_) (fun c23 => ?_)
      · have hf : ix f < 5 := Nat.lt_succ_of_le (ix_le 4 (by decide) c6.1 c6.2)
        have hk : ix k < 5 := Nat.lt_succ_of_le (ix_le 4 (by decide) c13.1 c13.2)
        refine g_aload_n X dX2_wants_28 rfl ?_
        refine g_get (C := RX2) (T := TX2) (N := 35) X 0 in_X2 dX2_wants_29 q1405 (rd3 ho) rfl (Nat.le_of_ble_eq_true rfl) (fun _ h9 => h9) rfl ?_
        refine g_bipush (v := 37) X dX2_wants_32 rfl ?_
        refine g_iconst (v := 5) X dX2_wants_34 rfl ?_
        refine g_iload_n X dX2_wants_35 rfl ?_
        refine g_imul X dX2_wants_36 ?_
        refine g_iadd X dX2_wants_37 ?_
        refine g_iload_n X dX2_wants_38 rfl ?_
        refine g_iadd X dX2_wants_39 ?_
        refine g_iload_n X dX2_wants_40 rfl ?_
        refine g_iast X ho (400) (j := 37 + 5 * ix f + ix k) dX2_wants_41 rfl (rfl) (by conv => { lhs; rw [ix_i c6.1, ix_i c13.1] }; show nI 37 + nI 5 * nI (ix f) + nI (ix k) = _; rw [pk_mul, nI_add, nI_add]) (by omega) (by decide) ?_
        refine g_iconst (v := 1) X dX2_wants_42 rfl ?_
        refine g_zret X hr dX2_wants_43 ?_ (Nat.le_of_ble_eq_true rfl) (Nat.le_of_ble_eq_true rfl) ?_
        · first | rfl | exact nb_bP
        · exact lz_t ⟨c6, c13, c23⟩ rfl
      · refine g_iconst (v := 0) X dX2_wants_26 rfl ?_
        refine g_zret X hr dX2_wants_27 ?_ (Nat.le_of_ble_eq_true rfl) (Nat.le_of_ble_eq_true rfl) ?_
        · first | rfl | exact nb_bP
        · exact lz_f (by grind) rfl
set_option maxHeartbeats 600000 in
theorem k_X2_farmer {l : Launch} {E : gk_E} (ho : E.2.2.2.2 = true) {S : gk_S} {t : Int32} {nf : Nat} (h0 : S.1 400 0 = nI nf) (h1 : nf ≤ 5) : gk_T l E yX2_farmer cX2_farmer 2 ((some .int)) 1 22 0 0 [.ref (E.2.2.1 3), .int t] S (fun r S' => r = some (.int (if (1 ≤ t ∧ t ≤ 9) ∧ nf ≠ 5 then nI nf else -1)) ∧ S' = if (1 ≤ t ∧ t ≤ 9) ∧ nf ≠ 5 then gk_si S 400 (upd (upd (S.1 400) (27 + nf) t) 0 (nI nf + 1)) else S) := by
  refine gk_T.of [some (.ref (E.2.2.1 3)), some (.int t)] (by decide) (Nat.le_of_ble_eq_true rfl) (fun _ _ h => h) ?_
  intro p_ e_ R_ s_ m_ args_ below_ meth_ c_ hR X hr hin
  subst hR
  refine g_iload_n X dX2_farmer_0 rfl ?_
  refine g_iconst (v := 1) X dX2_farmer_1 rfl ?_
  refine g_bipush (v := 9) X dX2_farmer_2 rfl ?_
  refine g_callS X (k_X2_isIn ho) (lw_S q1516 q1517 q139 q1518) hd_X2_isIn dX2_farmer_4 rfl ⟨Nat.le_of_ble_eq_true rfl, Nat.le_of_ble_eq_true rfl⟩ ⟨Nat.le_of_ble_eq_true rfl, Nat.le_of_ble_eq_true rfl⟩ (Nat.le_of_ble_eq_true rfl) ?_
  rintro _ S1 ⟨rfl, hS1⟩
  obtain rfl := hS1.symm
  refine g_ifp_eq (tgt := 20) X dX2_farmer_7 rfl (fun c7 => ?_) (fun c7 => ?_)
  · refine g_iconst (v := (-1)) X dX2_farmer_20 rfl ?_
    exact g_iret X hr dX2_farmer_21 (Nat.le_of_ble_eq_true rfl) (Nat.le_of_ble_eq_true rfl) (lf_f (by grind) rfl rfl)
  · refine g_aload_n X dX2_farmer_10 rfl ?_
    refine g_get (C := RX2) (T := TX2) (N := 35) X 0 in_X2 dX2_farmer_11 q1405 (rd3 ho) rfl (Nat.le_of_ble_eq_true rfl) (fun _ h9 => h9) rfl ?_
    refine g_iconst (v := 0) X dX2_farmer_14 rfl ?_
    refine g_iald (j := 0) X dX2_farmer_15 (rdi ho (400) (rfl)) rfl (by decide) (by decide) ?_
    refine g_iconst (v := 5) X dX2_farmer_16 rfl ?_
    refine g_icmp_ne (tgt := 22) X dX2_farmer_17 rfl (fun c17 => ?_) (fun c17 => ?_)
    · have h5 : nf < 5 := by
        rcases Nat.lt_or_ge nf 5 with q | q
        · exact q
        · exact absurd (by rw [h0, show nf = 5 by omega]; rfl) c17
      refine g_aload_n X dX2_farmer_22 rfl ?_
      refine g_get (C := RX2) (T := TX2) (N := 35) X 0 in_X2 dX2_farmer_23 q1405 (rd3 ho) rfl (Nat.le_of_ble_eq_true rfl) (fun _ h9 => h9) rfl ?_
      refine g_bipush (v := 27) X dX2_farmer_26 rfl ?_
      refine g_aload_n X dX2_farmer_28 rfl ?_
      refine g_get (C := RX2) (T := TX2) (N := 35) X 0 in_X2 dX2_farmer_29 q1405 (rd3 ho) rfl (Nat.le_of_ble_eq_true rfl) (fun _ h9 => h9) rfl ?_
      refine g_iconst (v := 0) X dX2_farmer_32 rfl ?_
      refine g_iald (j := 0) X dX2_farmer_33 (rdi ho (400) (rfl)) rfl (by decide) (by decide) ?_
      refine g_iadd X dX2_farmer_34 ?_
      refine g_iload_n X dX2_farmer_35 rfl ?_
      refine g_iast X ho (400) (j := 27 + nf) dX2_farmer_36 rfl (rfl) (by rw [h0]; show nI 27 + nI nf = _; rw [nI_add]) (by omega) (by decide) ?_
      refine g_aload_n X dX2_farmer_37 rfl ?_
      refine g_get (C := RX2) (T := TX2) (N := 35) X 0 in_X2 dX2_farmer_38 q1405 (rd3 ho) rfl (Nat.le_of_ble_eq_true rfl) (fun _ h9 => h9) rfl ?_
      refine g_iconst (v := 0) X dX2_farmer_41 rfl ?_
      refine g_dup2_11 X dX2_farmer_42 rfl rfl ?_
      refine g_iald (j := 0) X dX2_farmer_43 (rdi ho (400) (rfl)) rfl (by decide) (by decide) ?_
      refine g_iconst (v := 1) X dX2_farmer_44 rfl ?_
      refine g_iadd X dX2_farmer_45 ?_
      refine g_iast X ho (400) (j := 0) dX2_farmer_46 rfl (rfl) rfl (by decide) (by decide) ?_
      refine g_aload_n X dX2_farmer_47 rfl ?_
      refine g_get (C := RX2) (T := TX2) (N := 35) X 0 in_X2 dX2_farmer_48 q1405 (rd3 ho) rfl (Nat.le_of_ble_eq_true rfl) (fun _ h9 => h9) rfl ?_
      refine g_iconst (v := 0) X dX2_farmer_51 rfl ?_
      refine g_iald (j := 0) X dX2_farmer_52 (rdi ho (400) (rfl)) rfl (by decide) (by decide) ?_
      refine g_iconst (v := 1) X dX2_farmer_53 rfl ?_
      refine g_isub X dX2_farmer_54 ?_
      exact g_iret X hr dX2_farmer_55 (Nat.le_of_ble_eq_true rfl) (Nat.le_of_ble_eq_true rfl) (lf_t ⟨c7, fun z => c17 (by rw [h0, z]; rfl)⟩ (by simp only [si_a, reduceIte, upd_s]; rw [upd_n (by omega), h0, nI_1, nI_pred]) (by rw [si_si, si_a, if_pos rfl, upd_n (by omega), h0]))
    · refine g_iconst (v := (-1)) X dX2_farmer_20 rfl ?_
      exact g_iret X hr dX2_farmer_21 (Nat.le_of_ble_eq_true rfl) (Nat.le_of_ble_eq_true rfl) (lf_f (fun z => z.2 (by have := c17; rw [h0] at this; exact (nI_eq (by omega) (by decide)).mp this)) rfl rfl)
