theorem cl_lt {n : Nat} {c : Int32} (hn : n ≤ 8) (h : 0 ≤ c ∧ c ≤ nI n - 1) : ix c < n := by
  cases n with
  | zero =>
    exfalso
    have h1 := Int32.le_iff_toInt_le.mp h.1
    have h2 := Int32.le_iff_toInt_le.mp h.2
    rw [show (nI 0 - 1 : Int32).toInt = -1 by decide] at h2
    rw [show (0 : Int32).toInt = 0 by decide] at h1
    omega
  | succ m =>
    have h2 := h.2
    rw [nI_pred] at h2
    exact Nat.lt_succ_of_le (ix_le m (by omega) h.1 h2)
theorem in_of {i n : Nat} (hn : n ≤ 1000000) (hi : i ≤ n) (c : ¬ nI n ≤ nI i) : i < n := by
  rcases Nat.lt_or_ge i n with q | q
  · exact q
  · exact absurd (nI_le q (by omega)) c
theorem out_of {i n : Nat} (hn : n ≤ 1000000) (hi : i ≤ n) (c : nI n ≤ nI i) : i = n := Nat.le_antisymm hi ((nI_leI (by omega) (by omega)).mp c)
abbrev fe1 (b : Int32 → Int32 → Int32) (tp : Nat) (v : Int32) (f : Nat → Int32) : Nat → Int32 := fo4 b tp v 4 f
/-- the tape behind a feed -/
def feT (b : Int32 → Int32 → Int32) (tp : Nat) (v w x y z : Int32) (f : Nat → Int32) : Nat → Int32 := fe1 b (tp + 4 + 4 + 4 + 4) z (fe1 b (tp + 4 + 4 + 4) y (fe1 b (tp + 4 + 4) x (fe1 b (tp + 4) w (fe1 b tp v f))))
set_option maxHeartbeats 600000 in
theorem k_X0_feed {l : Launch} {E : gk_E} (ho : E.2.2.2.2 = true) {S : gk_S} {a : Int32} {b : Int32} {c : Int32} {d : Int32} {x : Int32} {tp : Nat} (h0 : S.1 200 3 = nI tp) (h1 : tp ≤ 300) : gk_T l E yX0_feed cX0_feed 6 ((some .int)) 1 22 0 0 [.ref (E.2.2.1 0), .int a, .int b, .int c, .int d, .int x] S (fun r S' => r = some (.int (if tp + 20 ≤ 300 then nI (tp + 20) else -1)) ∧ S' = if tp + 20 ≤ 300 then gk_si (gk_si S 300 (feT byC tp a b c d x (S.1 300))) 200 (upd (S.1 200) 3 (nI (tp + 20))) else S) := by
  refine gk_T.of [some (.ref (E.2.2.1 0)), some (.int a), some (.int b), some (.int c), some (.int d), some (.int x)] (by decide) (Nat.le_of_ble_eq_true rfl) (fun _ _ h => h) ?_
  intro p_ e_ R_ s_ m_ args_ below_ meth_ c_ hR X hr hin
  subst hR
  refine g_aload_n X dX0_feed_0 rfl ?_
  refine g_get (C := RX0) (T := TX0) (N := 13) X 3 in_X0 dX0_feed_1 q244 (rd0 ho) rfl (Nat.le_of_ble_eq_true rfl) (fun _ h9 => h9) rfl ?_
  refine g_bipush (v := 20) X dX0_feed_4 rfl ?_
  refine g_iadd X dX0_feed_6 ?_
  refine g_sipush (v := 300) X dX0_feed_7 rfl ?_
  refine g_icmp_le (tgt := 15) X dX0_feed_10 rfl (fun c10 => ?_) (fun c10 => ?_)
  · have h2 : tp + 20 ≤ 300 := (nI_leI (a := tp + 20) (b := 300) (by omega) (by decide)).mp (by rw [← nI_add, ← h0]; exact c10)
    refine g_aload_n X dX0_feed_15 rfl ?_
    refine g_iload_n X dX0_feed_16 rfl ?_
    refine g_callV (C := RX0) (T := TX0) (N := 13) X (k_X0_put ho (tp := tp) h0 (by omega)) (lw_V q309 q311 qs1 q135 q312) hd_X0_put dX0_feed_17 (rd0 ho) rfl rfl ⟨Nat.le_of_ble_eq_true rfl, Nat.le_of_ble_eq_true rfl⟩ ⟨Nat.le_of_ble_eq_true rfl, Nat.le_of_ble_eq_true rfl⟩ (Nat.le_of_ble_eq_true rfl) ?_
    rintro _ _ ⟨rfl, rfl⟩
    refine g_eq (S2 := gk_si (gk_si S 300 (fe1 byC (tp) a (S.1 300))) 200 (upd (S.1 200) 3 (nI (tp + 4)))) (by first | rfl | (rw [si2 (by decide)]; simp only [si_a, reduceIte, Nat.reduceEqDiff, upd_upd])) ?_
    refine g_aload_n X dX0_feed_20 rfl ?_
    refine g_iload_n X dX0_feed_21 rfl ?_
    refine g_callV (C := RX0) (T := TX0) (N := 13) X (k_X0_put ho (tp := tp + 4) rfl (by omega)) (lw_V q309 q311 qs1 q135 q312) hd_X0_put dX0_feed_22 (rd0 ho) rfl rfl ⟨Nat.le_of_ble_eq_true rfl, Nat.le_of_ble_eq_true rfl⟩ ⟨Nat.le_of_ble_eq_true rfl, Nat.le_of_ble_eq_true rfl⟩ (Nat.le_of_ble_eq_true rfl) ?_
    rintro _ _ ⟨rfl, rfl⟩
    refine g_eq (S2 := gk_si (gk_si S 300 (fe1 byC (tp + 4) b (fe1 byC (tp) a (S.1 300)))) 200 (upd (S.1 200) 3 (nI (tp + 4 + 4)))) (by first | rfl | (rw [si2 (by decide)]; simp only [si_a, reduceIte, Nat.reduceEqDiff, upd_upd])) ?_
    refine g_aload_n X dX0_feed_25 rfl ?_
    refine g_iload_n X dX0_feed_26 rfl ?_
    refine g_callV (C := RX0) (T := TX0) (N := 13) X (k_X0_put ho (tp := tp + 4 + 4) rfl (by omega)) (lw_V q309 q311 qs1 q135 q312) hd_X0_put dX0_feed_27 (rd0 ho) rfl rfl ⟨Nat.le_of_ble_eq_true rfl, Nat.le_of_ble_eq_true rfl⟩ ⟨Nat.le_of_ble_eq_true rfl, Nat.le_of_ble_eq_true rfl⟩ (Nat.le_of_ble_eq_true rfl) ?_
    rintro _ _ ⟨rfl, rfl⟩
    refine g_eq (S2 := gk_si (gk_si S 300 (fe1 byC (tp + 4 + 4) c (fe1 byC (tp + 4) b (fe1 byC (tp) a (S.1 300))))) 200 (upd (S.1 200) 3 (nI (tp + 4 + 4 + 4)))) (by first | rfl | (rw [si2 (by decide)]; simp only [si_a, reduceIte, Nat.reduceEqDiff, upd_upd])) ?_
    refine g_aload_n X dX0_feed_30 rfl ?_
    refine g_iload X dX0_feed_31 rfl ?_
    refine g_callV (C := RX0) (T := TX0) (N := 13) X (k_X0_put ho (tp := tp + 4 + 4 + 4) rfl (by omega)) (lw_V q309 q311 qs1 q135 q312) hd_X0_put dX0_feed_33 (rd0 ho) rfl rfl ⟨Nat.le_of_ble_eq_true rfl, Nat.le_of_ble_eq_true rfl⟩ ⟨Nat.le_of_ble_eq_true rfl, Nat.le_of_ble_eq_true rfl⟩ (Nat.le_of_ble_eq_true rfl) ?_
    rintro _ _ ⟨rfl, rfl⟩
    refine g_eq (S2 := gk_si (gk_si S 300 (fe1 byC (tp + 4 + 4 + 4) d (fe1 byC (tp + 4 + 4) c (fe1 byC (tp + 4) b (fe1 byC (tp) a (S.1 300)))))) 200 (upd (S.1 200) 3 (nI (tp + 4 + 4 + 4 + 4)))) (by first | rfl | (rw [si2 (by decide)]; simp only [si_a, reduceIte, Nat.reduceEqDiff, upd_upd])) ?_
    refine g_aload_n X dX0_feed_36 rfl ?_
    refine g_iload X dX0_feed_37 rfl ?_
    refine g_callV (C := RX0) (T := TX0) (N := 13) X (k_X0_put ho (tp := tp + 4 + 4 + 4 + 4) rfl (by omega)) (lw_V q309 q311 qs1 q135 q312) hd_X0_put dX0_feed_39 (rd0 ho) rfl rfl ⟨Nat.le_of_ble_eq_true rfl, Nat.le_of_ble_eq_true rfl⟩ ⟨Nat.le_of_ble_eq_true rfl, Nat.le_of_ble_eq_true rfl⟩ (Nat.le_of_ble_eq_true rfl) ?_
    rintro _ _ ⟨rfl, rfl⟩
    refine g_eq (S2 := gk_si (gk_si S 300 (fe1 byC (tp + 4 + 4 + 4 + 4) x (fe1 byC (tp + 4 + 4 + 4) d (fe1 byC (tp + 4 + 4) c (fe1 byC (tp + 4) b (fe1 byC (tp) a (S.1 300))))))) 200 (upd (S.1 200) 3 (nI (tp + 4 + 4 + 4 + 4 + 4)))) (by first | rfl | (rw [si2 (by decide)]; simp only [si_a, reduceIte, Nat.reduceEqDiff, upd_upd])) ?_
    refine g_aload_n X dX0_feed_42 rfl ?_
    refine g_get (C := RX0) (T := TX0) (N := 13) X 3 in_X0 dX0_feed_43 q244 (rd0 ho) rfl (Nat.le_of_ble_eq_true rfl) (fun _ h9 => h9) rfl ?_
    exact g_iret X hr dX0_feed_46 (Nat.le_of_ble_eq_true rfl) (Nat.le_of_ble_eq_true rfl) (lf_t h2 (by simp only [si_a, reduceIte, upd_s]) rfl)
  · refine g_iconst (v := (-1)) X dX0_feed_13 rfl ?_
    exact g_iret X hr dX0_feed_14 (Nat.le_of_ble_eq_true rfl) (Nat.le_of_ble_eq_true rfl) (lf_f (fun h2 => c10 (by rw [h0]; exact (nI_add tp 20).symm ▸ nI_le h2 (by decide))) rfl rfl)
set_option maxHeartbeats 600000 in
theorem k_X2_feed {l : Launch} {E : gk_E} (ho : E.2.2.2.2 = true) {S : gk_S} {a : Int32} {b : Int32} {c : Int32} {d : Int32} {x : Int32} {tp : Nat} (h0 : S.1 201 4 = nI tp) (h1 : tp ≤ 300) : gk_T l E yX2_feed cX2_feed 6 ((some .int)) 1 22 0 0 [.ref (E.2.2.1 3), .int a, .int b, .int c, .int d, .int x] S (fun r S' => r = some (.int (if tp + 20 ≤ 300 then nI (tp + 20) else -1)) ∧ S' = if tp + 20 ≤ 300 then gk_si (gk_si S 403 (feT byM tp a b c d x (S.1 403))) 201 (upd (S.1 201) 4 (nI (tp + 20))) else S) := by
  refine gk_T.of [some (.ref (E.2.2.1 3)), some (.int a), some (.int b), some (.int c), some (.int d), some (.int x)] (by decide) (Nat.le_of_ble_eq_true rfl) (fun _ _ h => h) ?_
  intro p_ e_ R_ s_ m_ args_ below_ meth_ c_ hR X hr hin
  subst hR
  refine g_aload_n X dX2_feed_0 rfl ?_
  refine g_get (C := RX2) (T := TX2) (N := 35) X 4 in_X2 dX2_feed_1 q1409 (rd3 ho) rfl (Nat.le_of_ble_eq_true rfl) (fun _ h9 => h9) rfl ?_
  refine g_bipush (v := 20) X dX2_feed_4 rfl ?_
  refine g_iadd X dX2_feed_6 ?_
  refine g_sipush (v := 300) X dX2_feed_7 rfl ?_
  refine g_icmp_le (tgt := 15) X dX2_feed_10 rfl (fun c10 => ?_) (fun c10 => ?_)
  · have h2 : tp + 20 ≤ 300 := (nI_leI (a := tp + 20) (b := 300) (by omega) (by decide)).mp (by rw [← nI_add, ← h0]; exact c10)
    refine g_aload_n X dX2_feed_15 rfl ?_
    refine g_iload_n X dX2_feed_16 rfl ?_
    refine g_callV (C := RX2) (T := TX2) (N := 35) X (k_X2_four ho (tp := tp) h0 (by omega)) (lw_V q1534 q1536 qs60 q139 q1537) hd_X2_four dX2_feed_17 (rd3 ho) rfl rfl ⟨Nat.le_of_ble_eq_true rfl, Nat.le_of_ble_eq_true rfl⟩ ⟨Nat.le_of_ble_eq_true rfl, Nat.le_of_ble_eq_true rfl⟩ (Nat.le_of_ble_eq_true rfl) ?_
    rintro _ _ ⟨rfl, rfl⟩
    refine g_eq (S2 := gk_si (gk_si S 403 (fe1 byM (tp) a (S.1 403))) 201 (upd (S.1 201) 4 (nI (tp + 4)))) (by first | rfl | (rw [si2 (by decide)]; simp only [si_a, reduceIte, Nat.reduceEqDiff, upd_upd])) ?_
    refine g_aload_n X dX2_feed_20 rfl ?_
    refine g_iload_n X dX2_feed_21 rfl ?_
    refine g_callV (C := RX2) (T := TX2) (N := 35) X (k_X2_four ho (tp := tp + 4) rfl (by omega)) (lw_V q1534 q1536 qs60 q139 q1537) hd_X2_four dX2_feed_22 (rd3 ho) rfl rfl ⟨Nat.le_of_ble_eq_true rfl, Nat.le_of_ble_eq_true rfl⟩ ⟨Nat.le_of_ble_eq_true rfl, Nat.le_of_ble_eq_true rfl⟩ (Nat.le_of_ble_eq_true rfl) ?_
    rintro _ _ ⟨rfl, rfl⟩
    refine g_eq (S2 := gk_si (gk_si S 403 (fe1 byM (tp + 4) b (fe1 byM (tp) a (S.1 403)))) 201 (upd (S.1 201) 4 (nI (tp + 4 + 4)))) (by first | rfl | (rw [si2 (by decide)]; simp only [si_a, reduceIte, Nat.reduceEqDiff, upd_upd])) ?_
    refine g_aload_n X dX2_feed_25 rfl ?_
    refine g_iload_n X dX2_feed_26 rfl ?_
    refine g_callV (C := RX2) (T := TX2) (N := 35) X (k_X2_four ho (tp := tp + 4 + 4) rfl (by omega)) (lw_V q1534 q1536 qs60 q139 q1537) hd_X2_four dX2_feed_27 (rd3 ho) rfl rfl ⟨Nat.le_of_ble_eq_true rfl, Nat.le_of_ble_eq_true rfl⟩ ⟨Nat.le_of_ble_eq_true rfl, Nat.le_of_ble_eq_true rfl⟩ (Nat.le_of_ble_eq_true rfl) ?_
    rintro _ _ ⟨rfl, rfl⟩
    refine g_eq (S2 := gk_si (gk_si S 403 (fe1 byM (tp + 4 + 4) c (fe1 byM (tp + 4) b (fe1 byM (tp) a (S.1 403))))) 201 (upd (S.1 201) 4 (nI (tp + 4 + 4 + 4)))) (by first | rfl | (rw [si2 (by decide)]; simp only [si_a, reduceIte, Nat.reduceEqDiff, upd_upd])) ?_
    refine g_aload_n X dX2_feed_30 rfl ?_
    refine g_iload X dX2_feed_31 rfl ?_
    refine g_callV (C := RX2) (T := TX2) (N := 35) X (k_X2_four ho (tp := tp + 4 + 4 + 4) rfl (by omega)) (lw_V q1534 q1536 qs60 q139 q1537) hd_X2_four dX2_feed_33 (rd3 ho) rfl rfl ⟨Nat.le_of_ble_eq_true rfl, Nat.le_of_ble_eq_true rfl⟩ ⟨Nat.le_of_ble_eq_true rfl, Nat.le_of_ble_eq_true rfl⟩ (Nat.le_of_ble_eq_true rfl) ?_
    rintro _ _ ⟨rfl, rfl⟩
    refine g_eq (S2 := gk_si (gk_si S 403 (fe1 byM (tp + 4 + 4 + 4) d (fe1 byM (tp + 4 + 4) c (fe1 byM (tp + 4) b (fe1 byM (tp) a (S.1 403)))))) 201 (upd (S.1 201) 4 (nI (tp + 4 + 4 + 4 + 4)))) (by first | rfl | (rw [si2 (by decide)]; simp only [si_a, reduceIte, Nat.reduceEqDiff, upd_upd])) ?_
    refine g_aload_n X dX2_feed_36 rfl ?_
    refine g_iload X dX2_feed_37 rfl ?_
    refine g_callV (C := RX2) (T := TX2) (N := 35) X (k_X2_four ho (tp := tp + 4 + 4 + 4 + 4) rfl (by omega)) (lw_V q1534 q1536 qs60 q139 q1537) hd_X2_four dX2_feed_39 (rd3 ho) rfl rfl ⟨Nat.le_of_ble_eq_true rfl, Nat.le_of_ble_eq_true rfl⟩ ⟨Nat.le_of_ble_eq_true rfl, Nat.le_of_ble_eq_true rfl⟩ (Nat.le_of_ble_eq_true rfl) ?_
    rintro _ _ ⟨rfl, rfl⟩
    refine g_eq (S2 := gk_si (gk_si S 403 (fe1 byM (tp + 4 + 4 + 4 + 4) x (fe1 byM (tp + 4 + 4 + 4) d (fe1 byM (tp + 4 + 4) c (fe1 byM (tp + 4) b (fe1 byM (tp) a (S.1 403))))))) 201 (upd (S.1 201) 4 (nI (tp + 4 + 4 + 4 + 4 + 4)))) (by first | rfl | (rw [si2 (by decide)]; simp only [si_a, reduceIte, Nat.reduceEqDiff, upd_upd])) ?_
    refine g_aload_n X dX2_feed_42 rfl ?_
    refine g_get (C := RX2) (T := TX2) (N := 35) X 4 in_X2 dX2_feed_43 q1409 (rd3 ho) rfl (Nat.le_of_ble_eq_true rfl) (fun _ h9 => h9) rfl ?_
    exact g_iret X hr dX2_feed_46 (Nat.le_of_ble_eq_true rfl) (Nat.le_of_ble_eq_true rfl) (lf_t h2 (by simp only [si_a, reduceIte, upd_s]) rfl)
  · refine g_iconst (v := (-1)) X dX2_feed_13 rfl ?_
    exact g_iret X hr dX2_feed_14 (Nat.le_of_ble_eq_true rfl) (Nat.le_of_ble_eq_true rfl) (lf_f (fun h2 => c10 (by rw [h0]; exact (nI_add tp 20).symm ▸ nI_le h2 (by decide))) rfl rfl)
set_option maxHeartbeats 600000 in
theorem k_X0_end {l : Launch} {E : gk_E} (ho : E.2.2.2.2 = true) {S : gk_S} {v : Int32}   : gk_T l E yX0_end cX0_end 2 ((some .int)) 1 22 0 0 [.ref (E.2.2.1 0), .int v] S (fun r S' => r = some (.int (if 0 ≤ v ∧ v ≤ S.1 200 3 then v else -1)) ∧ S' = if 0 ≤ v ∧ v ≤ S.1 200 3 then gk_si S 200 (upd (S.1 200) 3 v) else S) := by
  refine gk_T.of [some (.ref (E.2.2.1 0)), some (.int v)] (by decide) (Nat.le_of_ble_eq_true rfl) (fun _ _ h => h) ?_
  intro p_ e_ R_ s_ m_ args_ below_ meth_ c_ hR X hr hin
  subst hR
  refine g_iload_n X dX0_end_0 rfl ?_
  refine g_iconst (v := 0) X dX0_end_1 rfl ?_
  refine g_aload_n X dX0_end_2 rfl ?_
  refine g_get (C := RX0) (T := TX0) (N := 13) X 3 in_X0 dX0_end_3 q244 (rd0 ho) rfl (Nat.le_of_ble_eq_true rfl) (fun _ h9 => h9) rfl ?_
  refine g_callS X (k_X0_in ho) (lw_S q291 q292 q135 q293) hd_X0_in dX0_end_6 rfl ⟨Nat.le_of_ble_eq_true rfl, Nat.le_of_ble_eq_true rfl⟩ ⟨Nat.le_of_ble_eq_true rfl, Nat.le_of_ble_eq_true rfl⟩ (Nat.le_of_ble_eq_true rfl) ?_
  rintro _ S1 ⟨rfl, hS1⟩
  obtain rfl := hS1.symm
  refine g_ifp_ne (tgt := 14) X dX0_end_9 rfl (fun c9 => ?_) (fun c9 => ?_)
  · refine g_aload_n X dX0_end_14 rfl ?_
    refine g_iload_n X dX0_end_15 rfl ?_
    refine g_put0 X ho 3 dX0_end_16 q244 rfl (Nat.le_of_ble_eq_true rfl) rfl rfl rfl rfl (Nat.le_of_ble_eq_true rfl) rfl ?_
    refine g_iload_n X dX0_end_19 rfl ?_
    exact g_iret X hr dX0_end_20 (Nat.le_of_ble_eq_true rfl) (Nat.le_of_ble_eq_true rfl) (lf_t c9 rfl rfl)
  · refine g_iconst (v := (-1)) X dX0_end_12 rfl ?_
    exact g_iret X hr dX0_end_13 (Nat.le_of_ble_eq_true rfl) (Nat.le_of_ble_eq_true rfl) (lf_f c9 rfl rfl)
set_option maxHeartbeats 600000 in
theorem k_X2_end {l : Launch} {E : gk_E} (ho : E.2.2.2.2 = true) {S : gk_S} {v : Int32}   : gk_T l E yX2_end cX2_end 2 ((some .int)) 1 22 0 0 [.ref (E.2.2.1 3), .int v] S (fun r S' => r = some (.int (if 0 ≤ v ∧ v ≤ S.1 201 4 then v else -1)) ∧ S' = if 0 ≤ v ∧ v ≤ S.1 201 4 then gk_si S 201 (upd (S.1 201) 4 v) else S) := by
  refine gk_T.of [some (.ref (E.2.2.1 3)), some (.int v)] (by decide) (Nat.le_of_ble_eq_true rfl) (fun _ _ h => h) ?_
  intro p_ e_ R_ s_ m_ args_ below_ meth_ c_ hR X hr hin
  subst hR
  refine g_iload_n X dX2_end_0 rfl ?_
  refine g_iconst (v := 0) X dX2_end_1 rfl ?_
  refine g_aload_n X dX2_end_2 rfl ?_
  refine g_get (C := RX2) (T := TX2) (N := 35) X 4 in_X2 dX2_end_3 q1409 (rd3 ho) rfl (Nat.le_of_ble_eq_true rfl) (fun _ h9 => h9) rfl ?_
  refine g_callS X (k_X2_isIn ho) (lw_S q1516 q1517 q139 q1518) hd_X2_isIn dX2_end_6 rfl ⟨Nat.le_of_ble_eq_true rfl, Nat.le_of_ble_eq_true rfl⟩ ⟨Nat.le_of_ble_eq_true rfl, Nat.le_of_ble_eq_true rfl⟩ (Nat.le_of_ble_eq_true rfl) ?_
  rintro _ S1 ⟨rfl, hS1⟩
  obtain rfl := hS1.symm
  refine g_ifp_ne (tgt := 14) X dX2_end_9 rfl (fun c9 => ?_) (fun c9 => ?_)
  · refine g_aload_n X dX2_end_14 rfl ?_
    refine g_iload_n X dX2_end_15 rfl ?_
    refine g_put3 X ho 4 dX2_end_16 q1409 rfl (Nat.le_of_ble_eq_true rfl) rfl rfl rfl rfl (Nat.le_of_ble_eq_true rfl) rfl ?_
    refine g_iload_n X dX2_end_19 rfl ?_
    exact g_iret X hr dX2_end_20 (Nat.le_of_ble_eq_true rfl) (Nat.le_of_ble_eq_true rfl) (lf_t c9 rfl rfl)
  · refine g_iconst (v := (-1)) X dX2_end_12 rfl ?_
    exact g_iret X hr dX2_end_13 (Nat.le_of_ble_eq_true rfl) (Nat.le_of_ble_eq_true rfl) (lf_f c9 rfl rfl)
set_option maxHeartbeats 600000 in
theorem k_X0_fault {l : Launch} {E : gk_E} (ho : E.2.2.2.2 = true) {S : gk_S} {v : Int32}   : gk_T l E yX0_fault cX0_fault 2 ((some .int)) 0 0 0 0 [.ref (E.2.2.1 0), .int v] S (fun r S' => r = some (.int (if v = 0 then S.1 200 4 else if v = 1 then S.1 200 5 else -1)) ∧ S' = S) := by
  refine gk_T.of [some (.ref (E.2.2.1 0)), some (.int v)] (by decide) (Nat.le_of_ble_eq_true rfl) (fun _ _ h => h) ?_
  intro p_ e_ R_ s_ m_ args_ below_ meth_ c_ hR X hr hin
  subst hR
  refine g_iload_n X dX0_fault_0 rfl ?_
  refine g_if_ne (tgt := 11) X dX0_fault_1 rfl (fun c1 => ?_) (fun c1 => ?_)
  · refine g_iload_n X dX0_fault_11 rfl ?_
    refine g_iconst (v := 1) X dX0_fault_12 rfl ?_
    refine g_icmp_ne (tgt := 23) X dX0_fault_13 rfl (fun c13 => ?_) (fun c13 => ?_)
    · refine g_iconst (v := (-1)) X dX0_fault_23 rfl ?_
      exact g_iret X hr dX0_fault_24 (Nat.le_of_ble_eq_true rfl) (Nat.le_of_ble_eq_true rfl) (⟨by rw [if_neg c1, if_neg c13], rfl⟩)
    · refine g_aload_n X dX0_fault_16 rfl ?_
      refine g_get (C := RX0) (T := TX0) (N := 13) X 5 in_X0 dX0_fault_17 q246 (rd0 ho) rfl (Nat.le_of_ble_eq_true rfl) (fun _ h9 => h9) rfl ?_
      refine g_goto (tgt := 24) X dX0_fault_20 rfl ?_
      exact g_iret X hr dX0_fault_24 (Nat.le_of_ble_eq_true rfl) (Nat.le_of_ble_eq_true rfl) (⟨by rw [if_neg c1, if_pos c13], rfl⟩)
  · refine g_aload_n X dX0_fault_4 rfl ?_
    refine g_get (C := RX0) (T := TX0) (N := 13) X 4 in_X0 dX0_fault_5 q245 (rd0 ho) rfl (Nat.le_of_ble_eq_true rfl) (fun _ h9 => h9) rfl ?_
    refine g_goto (tgt := 24) X dX0_fault_8 rfl ?_
    exact g_iret X hr dX0_fault_24 (Nat.le_of_ble_eq_true rfl) (Nat.le_of_ble_eq_true rfl) (⟨by rw [if_pos c1], rfl⟩)
set_option maxHeartbeats 600000 in
theorem k_X2_fault {l : Launch} {E : gk_E} (ho : E.2.2.2.2 = true) {S : gk_S} {v : Int32}   : gk_T l E yX2_fault cX2_fault 2 ((some .int)) 0 0 0 0 [.ref (E.2.2.1 3), .int v] S (fun r S' => r = some (.int (if v = 0 then S.1 201 5 else if v = 1 then S.1 201 6 else -1)) ∧ S' = S) := by
  refine gk_T.of [some (.ref (E.2.2.1 3)), some (.int v)] (by decide) (Nat.le_of_ble_eq_true rfl) (fun _ _ h => h) ?_
  intro p_ e_ R_ s_ m_ args_ below_ meth_ c_ hR X hr hin
  subst hR
  refine g_iload_n X dX2_fault_0 rfl ?_
  refine g_if_ne (tgt := 11) X dX2_fault_1 rfl (fun c1 => ?_) (fun c1 => ?_)
  · refine g_iload_n X dX2_fault_11 rfl ?_
    refine g_iconst (v := 1) X dX2_fault_12 rfl ?_
    refine g_icmp_ne (tgt := 23) X dX2_fault_13 rfl (fun c13 => ?_) (fun c13 => ?_)
    · refine g_iconst (v := (-1)) X dX2_fault_23 rfl ?_
      exact g_iret X hr dX2_fault_24 (Nat.le_of_ble_eq_true rfl) (Nat.le_of_ble_eq_true rfl) (⟨by rw [if_neg c1, if_neg c13], rfl⟩)
    · refine g_aload_n X dX2_fault_16 rfl ?_
      refine g_get (C := RX2) (T := TX2) (N := 35) X 6 in_X2 dX2_fault_17 q1411 (rd3 ho) rfl (Nat.le_of_ble_eq_true rfl) (fun _ h9 => h9) rfl ?_
      refine g_goto (tgt := 24) X dX2_fault_20 rfl ?_
      exact g_iret X hr dX2_fault_24 (Nat.le_of_ble_eq_true rfl) (Nat.le_of_ble_eq_true rfl) (⟨by rw [if_neg c1, if_pos c13], rfl⟩)
  · refine g_aload_n X dX2_fault_4 rfl ?_
    refine g_get (C := RX2) (T := TX2) (N := 35) X 5 in_X2 dX2_fault_5 q1410 (rd3 ho) rfl (Nat.le_of_ble_eq_true rfl) (fun _ h9 => h9) rfl ?_
    refine g_goto (tgt := 24) X dX2_fault_8 rfl ?_
    exact g_iret X hr dX2_fault_24 (Nat.le_of_ble_eq_true rfl) (Nat.le_of_ble_eq_true rfl) (⟨by rw [if_pos c1], rfl⟩)
set_option maxHeartbeats 600000 in
theorem k_X0_by {l : Launch} {E : gk_E} (ho : E.2.2.2.2 = true) {S : gk_S} {t : Int32}   : gk_T l E yX0_by cX0_by 2 ((some .boolean)) 2 43 0 0 [.ref (E.2.2.1 0), .int t] S (fun r S' => r = some (.int (bP (t = -1 ∨ 0 ≤ t ∧ t ≤ S.1 10 1 - 1))) ∧ S' = if t = -1 ∨ 0 ≤ t ∧ t ≤ S.1 10 1 - 1 then gk_si S 10 (upd (S.1 10) 2 t) else S) := by
  refine gk_T.of [some (.ref (E.2.2.1 0)), some (.int t)] (by decide) (Nat.le_of_ble_eq_true rfl) (fun _ _ h => h) ?_
  intro p_ e_ R_ s_ m_ args_ below_ meth_ c_ hR X hr hin
  subst hR
  refine g_iload_n X dX0_by_0 rfl ?_
  refine g_iconst (v := (-1)) X dX0_by_1 rfl ?_
  refine g_icmp_eq (tgt := 15) X dX0_by_2 rfl (fun c2 => ?_) (fun c2 => ?_)
  · refine g_aload_n X dX0_by_15 rfl ?_
    refine g_get (C := RX0) (T := TX0) (N := 13) X 0 in_X0 dX0_by_16 q241 (rd0 ho) rfl (Nat.le_of_ble_eq_true rfl) (fun _ h9 => h9) rfl ?_
    refine g_getN (C := RX1) (T := TX1) (N := 8) X 0 in_X1 dX0_by_19 q195 (rd1 ho) rfl (Nat.le_of_ble_eq_true rfl) (fun _ h9 => h9) rfl ?_
    refine g_iconst (v := 2) X dX0_by_22 rfl ?_
    refine g_iload_n X dX0_by_23 rfl ?_
    refine g_iast X ho (10) (j := 2) dX0_by_24 rfl (rfl) rfl (by decide) (by decide) ?_
    refine g_iconst (v := 1) X dX0_by_25 rfl ?_
    refine g_zret X hr dX0_by_26 ?_ (Nat.le_of_ble_eq_true rfl) (Nat.le_of_ble_eq_true rfl) ?_
    · first | rfl | exact nb_bP
    · exact lz_t (Or.inl c2) rfl
  · refine g_aload_n X dX0_by_5 rfl ?_
    refine g_iload_n X dX0_by_6 rfl ?_
    refine g_callV (C := RX0) (T := TX0) (N := 13) X (k_X0_isText ho) (lw_V q995 q997 qs24 q135 q998) hd_X0_isText dX0_by_7 (rd0 ho) rfl rfl ⟨Nat.le_of_ble_eq_true rfl, Nat.le_of_ble_eq_true rfl⟩ ⟨Nat.le_of_ble_eq_true rfl, Nat.le_of_ble_eq_true rfl⟩ (Nat.le_of_ble_eq_true rfl) ?_
    rintro _ S1 ⟨rfl, hS1⟩
    obtain rfl := hS1.symm
    refine g_ifp_ne (tgt := 15) X dX0_by_10 rfl (fun c10 => ?_) (fun c10 => ?_)
    · refine g_aload_n X dX0_by_15 rfl ?_
      refine g_get (C := RX0) (T := TX0) (N := 13) X 0 in_X0 dX0_by_16 q241 (rd0 ho) rfl (Nat.le_of_ble_eq_true rfl) (fun _ h9 => h9) rfl ?_
      refine g_getN (C := RX1) (T := TX1) (N := 8) X 0 in_X1 dX0_by_19 q195 (rd1 ho) rfl (Nat.le_of_ble_eq_true rfl) (fun _ h9 => h9) rfl ?_
      refine g_iconst (v := 2) X dX0_by_22 rfl ?_
      refine g_iload_n X dX0_by_23 rfl ?_
      refine g_iast X ho (10) (j := 2) dX0_by_24 rfl (rfl) rfl (by decide) (by decide) ?_
      refine g_iconst (v := 1) X dX0_by_25 rfl ?_
      refine g_zret X hr dX0_by_26 ?_ (Nat.le_of_ble_eq_true rfl) (Nat.le_of_ble_eq_true rfl) ?_
      · first | rfl | exact nb_bP
      · exact lz_t (Or.inr c10) rfl
    · refine g_iconst (v := 0) X dX0_by_13 rfl ?_
      refine g_zret X hr dX0_by_14 ?_ (Nat.le_of_ble_eq_true rfl) (Nat.le_of_ble_eq_true rfl) ?_
      · first | rfl | exact nb_bP
      · exact lz_f (by grind) rfl
set_option maxHeartbeats 600000 in
theorem k_X2_by {l : Launch} {E : gk_E} (ho : E.2.2.2.2 = true) {S : gk_S} {t : Int32}   : gk_T l E yX2_by cX2_by 2 ((some .boolean)) 1 22 0 0 [.ref (E.2.2.1 3), .int t] S (fun r S' => r = some (.int (bP (-1 ≤ t ∧ t ≤ S.1 400 1 - 1))) ∧ S' = if -1 ≤ t ∧ t ≤ S.1 400 1 - 1 then gk_si S 400 (upd (S.1 400) 2 t) else S) := by
  refine gk_T.of [some (.ref (E.2.2.1 3)), some (.int t)] (by decide) (Nat.le_of_ble_eq_true rfl) (fun _ _ h => h) ?_
  intro p_ e_ R_ s_ m_ args_ below_ meth_ c_ hR X hr hin
  subst hR
  refine g_iload_n X dX2_by_0 rfl ?_
  refine g_iconst (v := (-1)) X dX2_by_1 rfl ?_
  refine g_aload_n X dX2_by_2 rfl ?_
  refine g_get (C := RX2) (T := TX2) (N := 35) X 0 in_X2 dX2_by_3 q1405 (rd3 ho) rfl (Nat.le_of_ble_eq_true rfl) (fun _ h9 => h9) rfl ?_
  refine g_iconst (v := 1) X dX2_by_6 rfl ?_
  refine g_iald (j := 1) X dX2_by_7 (rdi ho (400) (rfl)) rfl (by decide) (by decide) ?_
  refine g_iconst (v := 1) X dX2_by_8 rfl ?_
  refine g_isub X dX2_by_9 ?_
  refine g_callS X (k_X2_isIn ho) (lw_S q1516 q1517 q139 q1518) hd_X2_isIn dX2_by_10 rfl ⟨Nat.le_of_ble_eq_true rfl, Nat.le_of_ble_eq_true rfl⟩ ⟨Nat.le_of_ble_eq_true rfl, Nat.le_of_ble_eq_true rfl⟩ (Nat.le_of_ble_eq_true rfl) ?_
  rintro _ S1 ⟨rfl, hS1⟩
  obtain rfl := hS1.symm
  refine g_ifp_ne (tgt := 18) X dX2_by_13 rfl (fun c13 => ?_) (fun c13 => ?_)
  · refine g_aload_n X dX2_by_18 rfl ?_
    refine g_get (C := RX2) (T := TX2) (N := 35) X 0 in_X2 dX2_by_19 q1405 (rd3 ho) rfl (Nat.le_of_ble_eq_true rfl) (fun _ h9 => h9) rfl ?_
    refine g_iconst (v := 2) X dX2_by_22 rfl ?_
    refine g_iload_n X dX2_by_23 rfl ?_
    refine g_iast X ho (400) (j := 2) dX2_by_24 rfl (rfl) rfl (by decide) (by decide) ?_
    refine g_iconst (v := 1) X dX2_by_25 rfl ?_
    refine g_zret X hr dX2_by_26 ?_ (Nat.le_of_ble_eq_true rfl) (Nat.le_of_ble_eq_true rfl) ?_
    · first | rfl | exact nb_bP
    · exact lz_t c13 rfl
  · refine g_iconst (v := 0) X dX2_by_16 rfl ?_
    refine g_zret X hr dX2_by_17 ?_ (Nat.le_of_ble_eq_true rfl) (Nat.le_of_ble_eq_true rfl) ?_
    · first | rfl | exact nb_bP
    · exact lz_f c13 rfl
set_option maxHeartbeats 600000 in
theorem k_X0_isFollowing {l : Launch} {E : gk_E} (ho : E.2.2.2.2 = true) {S : gk_S} {b : Int32} {c : Int32} {a n k : Nat} {f : Nat → Int32} (hu : RU E S a n f) (hc : c = nI k) (hk : k < n) : gk_T l E yX0_isFollowing cX0_isFollowing 3 ((some .boolean)) 3 63 0 0 [.ref (E.2.2.1 0), .int b, .int c] S (fun r S' => r = some (.int (bP (wo n f b &&& (f k ^^^ -1) = 0))) ∧ S' = S) := by
  refine gk_T.of [some (.ref (E.2.2.1 0)), some (.int b), some (.int c)] (by decide) (Nat.le_of_ble_eq_true rfl) (fun _ _ h => h) ?_
  intro p_ e_ R_ s_ m_ args_ below_ meth_ c_ hR X hr hin
  subst hR
  have hn8 : n ≤ 8 := hu.1
  refine g_aload_n X dX0_isFollowing_0 rfl ?_
  refine g_iload_n X dX0_isFollowing_1 rfl ?_
  refine g_callV (C := RX0) (T := TX0) (N := 13) X (k_X0_worldsOf ho hu) (lw_V q1043 q1045 qs32 q135 q1046) hd_X0_worldsOf dX0_isFollowing_2 (rd0 ho) rfl rfl ⟨Nat.le_of_ble_eq_true rfl, Nat.le_of_ble_eq_true rfl⟩ ⟨Nat.le_of_ble_eq_true rfl, Nat.le_of_ble_eq_true rfl⟩ (Nat.le_of_ble_eq_true rfl) ?_
  rintro _ S1 ⟨rfl, hS1⟩
  obtain rfl := hS1.symm
  refine g_aload_n X dX0_isFollowing_5 rfl ?_
  refine g_callV (C := RX0) (T := TX0) (N := 13) X (k_X0_rules ho hu) (lw_V q1019 q1021 qs28 q135 q1022) hd_X0_rules dX0_isFollowing_6 (rd0 ho) rfl rfl ⟨Nat.le_of_ble_eq_true rfl, Nat.le_of_ble_eq_true rfl⟩ ⟨Nat.le_of_ble_eq_true rfl, Nat.le_of_ble_eq_true rfl⟩ (Nat.le_of_ble_eq_true rfl) ?_
  rintro _ S1 ⟨rfl, hS1⟩
  obtain rfl := hS1.symm
  obtain ⟨-, -, w0, tb, dl, cl, ht1, ht2⟩ := id hu
  refine g_getN (C := RX4) (T := TX4) (N := 5) X 1 in_X4 dX0_isFollowing_9 q393 (rd_dy ht1) rfl (Nat.le_of_ble_eq_true rfl) (fun _ h9 => h9) rfl ?_
  refine g_iload_n X dX0_isFollowing_12 rfl ?_
  refine g_iald (j := k) X dX0_isFollowing_13 (rd_dy ht2) hc (by omega) (by decide) ?_
  refine g_iconst (v := (-1)) X dX0_isFollowing_14 rfl ?_
  refine g_ixor X dX0_isFollowing_15 ?_
  refine g_iand X dX0_isFollowing_16 ?_
  refine g_if_ne (tgt := 24) X dX0_isFollowing_17 rfl (fun c17 => ?_) (fun c17 => ?_)
  · refine g_iconst (v := 0) X dX0_isFollowing_24 rfl ?_
    refine g_zret X hr dX0_isFollowing_25 ?_ (Nat.le_of_ble_eq_true rfl) (Nat.le_of_ble_eq_true rfl) ?_
    · first | rfl | exact nb_bP
    · exact ⟨lb_0 (by simpa using c17), rfl⟩
  · refine g_iconst (v := 1) X dX0_isFollowing_20 rfl ?_
    refine g_goto (tgt := 25) X dX0_isFollowing_21 rfl ?_
    refine g_zret X hr dX0_isFollowing_25 ?_ (Nat.le_of_ble_eq_true rfl) (Nat.le_of_ble_eq_true rfl) ?_
    · first | rfl | exact nb_bP
    · exact ⟨lb_1 (by simpa using c17), rfl⟩
set_option maxHeartbeats 600000 in
theorem k_X0_follows {l : Launch} {E : gk_E} (ho : E.2.2.2.2 = true) {S : gk_S} {b : Int32} {c : Int32} {a n : Nat} {f : Nat → Int32} (hu : RU E S a n f) : gk_T l E yX0_follows cX0_follows 3 ((some .boolean)) 4 85 0 0 [.ref (E.2.2.1 0), .int b, .int c] S (fun r S' => r = some (.int (bP ((0 ≤ b ∧ b ≤ alC n) ∧ (0 ≤ c ∧ c ≤ nI n - 1) ∧ wo n f b &&& (f (ix c) ^^^ -1) = 0))) ∧ S' = S) := by
  refine gk_T.of [some (.ref (E.2.2.1 0)), some (.int b), some (.int c)] (by decide) (Nat.le_of_ble_eq_true rfl) (fun _ _ h => h) ?_
  intro p_ e_ R_ s_ m_ args_ below_ meth_ c_ hR X hr hin
  subst hR
  have hn8 : n ≤ 8 := hu.1
  refine g_aload_n X dX0_follows_0 rfl ?_
  refine g_iload_n X dX0_follows_1 rfl ?_
  refine g_callV (C := RX0) (T := TX0) (N := 13) X (k_X0_areClaims ho hu) (lw_V q1193 q1195 qs44 q135 q1196) hd_X0_areClaims dX0_follows_2 (rd0 ho) rfl rfl ⟨Nat.le_of_ble_eq_true rfl, Nat.le_of_ble_eq_true rfl⟩ ⟨Nat.le_of_ble_eq_true rfl, Nat.le_of_ble_eq_true rfl⟩ (Nat.le_of_ble_eq_true rfl) ?_
  rintro _ S1 ⟨rfl, hS1⟩
  obtain rfl := hS1.symm
  refine g_ifp_eq (tgt := 29) X dX0_follows_5 rfl (fun c5 => ?_) (fun c5 => ?_)
  · refine g_iconst (v := 0) X dX0_follows_29 rfl ?_
    refine g_zret X hr dX0_follows_30 ?_ (Nat.le_of_ble_eq_true rfl) (Nat.le_of_ble_eq_true rfl) ?_
    · first | rfl | exact nb_bP
    · exact ⟨lb_0 (by grind), rfl⟩
  · refine g_aload_n X dX0_follows_8 rfl ?_
    refine g_iload_n X dX0_follows_9 rfl ?_
    refine g_callV (C := RX0) (T := TX0) (N := 13) X (k_X0_isClaim ho hu) (lw_V q1082 q1084 qs36 q135 q1085) hd_X0_isClaim dX0_follows_10 (rd0 ho) rfl rfl ⟨Nat.le_of_ble_eq_true rfl, Nat.le_of_ble_eq_true rfl⟩ ⟨Nat.le_of_ble_eq_true rfl, Nat.le_of_ble_eq_true rfl⟩ (Nat.le_of_ble_eq_true rfl) ?_
    rintro _ S1 ⟨rfl, hS1⟩
    obtain rfl := hS1.symm
    refine g_ifp_eq (tgt := 29) X dX0_follows_13 rfl (fun c13 => ?_) (fun c13 => ?_)
    · refine g_iconst (v := 0) X dX0_follows_29 rfl ?_
      refine g_zret X hr dX0_follows_30 ?_ (Nat.le_of_ble_eq_true rfl) (Nat.le_of_ble_eq_true rfl) ?_
      · first | rfl | exact nb_bP
      · exact ⟨lb_0 (by grind), rfl⟩
    · refine g_aload_n X dX0_follows_16 rfl ?_
      refine g_iload_n X dX0_follows_17 rfl ?_
      refine g_iload_n X dX0_follows_18 rfl ?_
      refine g_callV (C := RX0) (T := TX0) (N := 13) X (k_X0_isFollowing ho hu (ix_i c13.1) (cl_lt hn8 c13)) (lw_V q1205 q1207 qs45 q135 q1208) hd_X0_isFollowing dX0_follows_19 (rd0 ho) rfl rfl ⟨Nat.le_of_ble_eq_true rfl, Nat.le_of_ble_eq_true rfl⟩ ⟨Nat.le_of_ble_eq_true rfl, Nat.le_of_ble_eq_true rfl⟩ (Nat.le_of_ble_eq_true rfl) ?_
      rintro _ S1 ⟨rfl, hS1⟩
      obtain rfl := hS1.symm
      refine g_ifp_eq (tgt := 29) X dX0_follows_22 rfl (fun c22 => ?_) (fun c22 => ?_)
      · refine g_iconst (v := 0) X dX0_follows_29 rfl ?_
        refine g_zret X hr dX0_follows_30 ?_ (Nat.le_of_ble_eq_true rfl) (Nat.le_of_ble_eq_true rfl) ?_
        · first | rfl | exact nb_bP
        · exact ⟨lb_0 (by grind), rfl⟩
      · refine g_iconst (v := 1) X dX0_follows_25 rfl ?_
        refine g_goto (tgt := 30) X dX0_follows_26 rfl ?_
        refine g_zret X hr dX0_follows_30 ?_ (Nat.le_of_ble_eq_true rfl) (Nat.le_of_ble_eq_true rfl) ?_
        · first | rfl | exact nb_bP
        · exact ⟨lb_1 ⟨c5, c13, c22⟩, rfl⟩
set_option maxHeartbeats 600000 in
theorem k_X2_follows {l : Launch} {E : gk_E} (ho : E.2.2.2.2 = true) {S : gk_S} {b : Int32} {c : Int32} {n : Nat} {f : Nat → Int32} (hu : MU S n f) : gk_T l E yX2_follows cX2_follows 3 ((some .boolean)) 3 61 0 0 [.ref (E.2.2.1 3), .int b, .int c] S (fun r S' => r = some (.int (bP ((0 ≤ b ∧ b ≤ alC n) ∧ (0 ≤ c ∧ c ≤ nI n - 1) ∧ wo n f b &&& (f (ix c) ^^^ -1) = 0))) ∧ S' = S) := by
  refine gk_T.of [some (.ref (E.2.2.1 3)), some (.int b), some (.int c)] (by decide) (Nat.le_of_ble_eq_true rfl) (fun _ _ h => h) ?_
  intro p_ e_ R_ s_ m_ args_ below_ meth_ c_ hR X hr hin
  subst hR
  have hn8 : n ≤ 8 := hu.1
  refine g_aload_n X dX2_follows_0 rfl ?_
  refine g_iload_n X dX2_follows_1 rfl ?_
  refine g_callV (C := RX2) (T := TX2) (N := 35) X (k_X2_areClaims ho hu) (lw_V q1939 q1941 qs121 q139 q1942) hd_X2_areClaims dX2_follows_2 (rd3 ho) rfl rfl ⟨Nat.le_of_ble_eq_true rfl, Nat.le_of_ble_eq_true rfl⟩ ⟨Nat.le_of_ble_eq_true rfl, Nat.le_of_ble_eq_true rfl⟩ (Nat.le_of_ble_eq_true rfl) ?_
  rintro _ S1 ⟨rfl, hS1⟩
  obtain rfl := hS1.symm
  refine g_ifp_eq (tgt := 36) X dX2_follows_5 rfl (fun c5 => ?_) (fun c5 => ?_)
  · refine g_iconst (v := 0) X dX2_follows_36 rfl ?_
    refine g_zret X hr dX2_follows_37 ?_ (Nat.le_of_ble_eq_true rfl) (Nat.le_of_ble_eq_true rfl) ?_
    · first | rfl | exact nb_bP
    · exact ⟨lb_0 (by grind), rfl⟩
  · refine g_aload_n X dX2_follows_8 rfl ?_
    refine g_iload_n X dX2_follows_9 rfl ?_
    refine g_callV (C := RX2) (T := TX2) (N := 35) X (k_X2_isClaim ho hu) (lw_V q1751 q1753 qs96 q139 q1754) hd_X2_isClaim dX2_follows_10 (rd3 ho) rfl rfl ⟨Nat.le_of_ble_eq_true rfl, Nat.le_of_ble_eq_true rfl⟩ ⟨Nat.le_of_ble_eq_true rfl, Nat.le_of_ble_eq_true rfl⟩ (Nat.le_of_ble_eq_true rfl) ?_
    rintro _ S1 ⟨rfl, hS1⟩
    obtain rfl := hS1.symm
    refine g_ifp_eq (tgt := 36) X dX2_follows_13 rfl (fun c13 => ?_) (fun c13 => ?_)
    · refine g_iconst (v := 0) X dX2_follows_36 rfl ?_
      refine g_zret X hr dX2_follows_37 ?_ (Nat.le_of_ble_eq_true rfl) (Nat.le_of_ble_eq_true rfl) ?_
      · first | rfl | exact nb_bP
      · exact ⟨lb_0 (by grind), rfl⟩
    · refine g_aload_n X dX2_follows_16 rfl ?_
      refine g_iload_n X dX2_follows_17 rfl ?_
      refine g_callV (C := RX2) (T := TX2) (N := 35) X (k_X2_worldsOf ho hu) (lw_V q1763 q1765 qs99 q139 q1766) hd_X2_worldsOf dX2_follows_18 (rd3 ho) rfl rfl ⟨Nat.le_of_ble_eq_true rfl, Nat.le_of_ble_eq_true rfl⟩ ⟨Nat.le_of_ble_eq_true rfl, Nat.le_of_ble_eq_true rfl⟩ (Nat.le_of_ble_eq_true rfl) ?_
      rintro _ S1 ⟨rfl, hS1⟩
      obtain rfl := hS1.symm
      refine g_aload_n X dX2_follows_21 rfl ?_
      refine g_iload_n X dX2_follows_22 rfl ?_
      refine g_callV (C := RX2) (T := TX2) (N := 35) X (k_X2_tableOf ho hu (ix_i c13.1) (cl_lt hn8 c13)) (lw_V q1768 q1770 qs100 q139 q1771) hd_X2_tableOf dX2_follows_23 (rd3 ho) rfl rfl ⟨Nat.le_of_ble_eq_true rfl, Nat.le_of_ble_eq_true rfl⟩ ⟨Nat.le_of_ble_eq_true rfl, Nat.le_of_ble_eq_true rfl⟩ (Nat.le_of_ble_eq_true rfl) ?_
      rintro _ S1 ⟨rfl, hS1⟩
      obtain rfl := hS1.symm
      refine g_iconst (v := (-1)) X dX2_follows_26 rfl ?_
      refine g_ixor X dX2_follows_27 ?_
      refine g_iand X dX2_follows_28 ?_
      refine g_if_ne (tgt := 36) X dX2_follows_29 rfl (fun c29 => ?_) (fun c29 => ?_)
      · refine g_iconst (v := 0) X dX2_follows_36 rfl ?_
        refine g_zret X hr dX2_follows_37 ?_ (Nat.le_of_ble_eq_true rfl) (Nat.le_of_ble_eq_true rfl) ?_
        · first | rfl | exact nb_bP
        · exact ⟨lb_0 (by grind), rfl⟩
      · refine g_iconst (v := 1) X dX2_follows_32 rfl ?_
        refine g_goto (tgt := 37) X dX2_follows_33 rfl ?_
        refine g_zret X hr dX2_follows_37 ?_ (Nat.le_of_ble_eq_true rfl) (Nat.le_of_ble_eq_true rfl) ?_
        · first | rfl | exact nb_bP
        · exact ⟨lb_1 ⟨c5, c13, c29⟩, rfl⟩
set_option maxHeartbeats 600000 in
theorem k_X0_alike {l : Launch} {E : gk_E} (ho : E.2.2.2.2 = true) {S : gk_S} {b : Int32} {c : Int32} {a n : Nat} {f : Nat → Int32} (hu : RU E S a n f) : gk_T l E yX0_alike cX0_alike 3 ((some .boolean)) 3 61 0 0 [.ref (E.2.2.1 0), .int b, .int c] S (fun r S' => r = some (.int (bP ((0 ≤ b ∧ b ≤ nI n - 1) ∧ (0 ≤ c ∧ c ≤ nI n - 1) ∧ f (ix b) = f (ix c)))) ∧ S' = S) := by
  refine gk_T.of [some (.ref (E.2.2.1 0)), some (.int b), some (.int c)] (by decide) (Nat.le_of_ble_eq_true rfl) (fun _ _ h => h) ?_
  intro p_ e_ R_ s_ m_ args_ below_ meth_ c_ hR X hr hin
  subst hR
  have hn8 : n ≤ 8 := hu.1
  refine g_aload_n X dX0_alike_0 rfl ?_
  refine g_iload_n X dX0_alike_1 rfl ?_
  refine g_callV (C := RX0) (T := TX0) (N := 13) X (k_X0_isClaim ho hu) (lw_V q1082 q1084 qs36 q135 q1085) hd_X0_isClaim dX0_alike_2 (rd0 ho) rfl rfl ⟨Nat.le_of_ble_eq_true rfl, Nat.le_of_ble_eq_true rfl⟩ ⟨Nat.le_of_ble_eq_true rfl, Nat.le_of_ble_eq_true rfl⟩ (Nat.le_of_ble_eq_true rfl) ?_
  rintro _ S1 ⟨rfl, hS1⟩
  obtain rfl := hS1.symm
  refine g_ifp_eq (tgt := 41) X dX0_alike_5 rfl (fun c5 => ?_) (fun c5 => ?_)
  · refine g_iconst (v := 0) X dX0_alike_41 rfl ?_
    refine g_zret X hr dX0_alike_42 ?_ (Nat.le_of_ble_eq_true rfl) (Nat.le_of_ble_eq_true rfl) ?_
    · first | rfl | exact nb_bP
    · exact ⟨lb_0 (by grind), rfl⟩
  · refine g_aload_n X dX0_alike_8 rfl ?_
    refine g_iload_n X dX0_alike_9 rfl ?_
    refine g_callV (C := RX0) (T := TX0) (N := 13) X (k_X0_isClaim ho hu) (lw_V q1082 q1084 qs36 q135 q1085) hd_X0_isClaim dX0_alike_10 (rd0 ho) rfl rfl ⟨Nat.le_of_ble_eq_true rfl, Nat.le_of_ble_eq_true rfl⟩ ⟨Nat.le_of_ble_eq_true rfl, Nat.le_of_ble_eq_true rfl⟩ (Nat.le_of_ble_eq_true rfl) ?_
    rintro _ S1 ⟨rfl, hS1⟩
    obtain rfl := hS1.symm
    refine g_ifp_eq (tgt := 41) X dX0_alike_13 rfl (fun c13 => ?_) (fun c13 => ?_)
    · refine g_iconst (v := 0) X dX0_alike_41 rfl ?_
      refine g_zret X hr dX0_alike_42 ?_ (Nat.le_of_ble_eq_true rfl) (Nat.le_of_ble_eq_true rfl) ?_
      · first | rfl | exact nb_bP
      · exact ⟨lb_0 (by grind), rfl⟩
    · refine g_aload_n X dX0_alike_16 rfl ?_
      refine g_callV (C := RX0) (T := TX0) (N := 13) X (k_X0_rules ho hu) (lw_V q1019 q1021 qs28 q135 q1022) hd_X0_rules dX0_alike_17 (rd0 ho) rfl rfl ⟨Nat.le_of_ble_eq_true rfl, Nat.le_of_ble_eq_true rfl⟩ ⟨Nat.le_of_ble_eq_true rfl, Nat.le_of_ble_eq_true rfl⟩ (Nat.le_of_ble_eq_true rfl) ?_
      rintro _ S1 ⟨rfl, hS1⟩
      obtain rfl := hS1.symm
      obtain ⟨-, -, w0, tb, dl, cl, ht1, ht2⟩ := id hu
      refine g_getN (C := RX4) (T := TX4) (N := 5) X 1 in_X4 dX0_alike_20 q393 (rd_dy ht1) rfl (Nat.le_of_ble_eq_true rfl) (fun _ h9 => h9) rfl ?_
      refine g_iload_n X dX0_alike_23 rfl ?_
      refine g_iald (j := ix b) X dX0_alike_24 (rd_dy ht2) (ix_i c5.1) (Nat.lt_of_lt_of_le (cl_lt hn8 c5) hn8) (by decide) ?_
      refine g_aload_n X dX0_alike_25 rfl ?_
      refine g_callV (C := RX0) (T := TX0) (N := 13) X (k_X0_rules ho hu) (lw_V q1019 q1021 qs28 q135 q1022) hd_X0_rules dX0_alike_26 (rd0 ho) rfl rfl ⟨Nat.le_of_ble_eq_true rfl, Nat.le_of_ble_eq_true rfl⟩ ⟨Nat.le_of_ble_eq_true rfl, Nat.le_of_ble_eq_true rfl⟩ (Nat.le_of_ble_eq_true rfl) ?_
      rintro _ S1 ⟨rfl, hS1⟩
      obtain rfl := hS1.symm
      refine g_getN (C := RX4) (T := TX4) (N := 5) X 1 in_X4 dX0_alike_29 q393 (rd_dy ht1) rfl (Nat.le_of_ble_eq_true rfl) (fun _ h9 => h9) rfl ?_
      refine g_iload_n X dX0_alike_32 rfl ?_
      refine g_iald (j := ix c) X dX0_alike_33 (rd_dy ht2) (ix_i c13.1) (Nat.lt_of_lt_of_le (cl_lt hn8 c13) hn8) (by decide) ?_
      refine g_icmp_ne (tgt := 41) X dX0_alike_34 rfl (fun c34 => ?_) (fun c34 => ?_)
      · refine g_iconst (v := 0) X dX0_alike_41 rfl ?_
        refine g_zret X hr dX0_alike_42 ?_ (Nat.le_of_ble_eq_true rfl) (Nat.le_of_ble_eq_true rfl) ?_
        · first | rfl | exact nb_bP
        · exact ⟨lb_0 (by grind), rfl⟩
      · refine g_iconst (v := 1) X dX0_alike_37 rfl ?_
        refine g_goto (tgt := 42) X dX0_alike_38 rfl ?_
        refine g_zret X hr dX0_alike_42 ?_ (Nat.le_of_ble_eq_true rfl) (Nat.le_of_ble_eq_true rfl) ?_
        · first | rfl | exact nb_bP
        · exact ⟨lb_1 ⟨c5, c13, c34⟩, rfl⟩
set_option maxHeartbeats 600000 in
theorem k_X2_alike {l : Launch} {E : gk_E} (ho : E.2.2.2.2 = true) {S : gk_S} {b : Int32} {c : Int32} {n : Nat} {f : Nat → Int32} (hu : MU S n f) : gk_T l E yX2_alike cX2_alike 3 ((some .boolean)) 2 43 0 0 [.ref (E.2.2.1 3), .int b, .int c] S (fun r S' => r = some (.int (bP ((0 ≤ b ∧ b ≤ nI n - 1) ∧ (0 ≤ c ∧ c ≤ nI n - 1) ∧ f (ix b) = f (ix c)))) ∧ S' = S) := by
  refine gk_T.of [some (.ref (E.2.2.1 3)), some (.int b), some (.int c)] (by decide) (Nat.le_of_ble_eq_true rfl) (fun _ _ h => h) ?_
  intro p_ e_ R_ s_ m_ args_ below_ meth_ c_ hR X hr hin
  subst hR
  have hn8 : n ≤ 8 := hu.1
  refine g_aload_n X dX2_alike_0 rfl ?_
  refine g_iload_n X dX2_alike_1 rfl ?_
  refine g_callV (C := RX2) (T := TX2) (N := 35) X (k_X2_isClaim ho hu) (lw_V q1751 q1753 qs96 q139 q1754) hd_X2_isClaim dX2_alike_2 (rd3 ho) rfl rfl ⟨Nat.le_of_ble_eq_true rfl, Nat.le_of_ble_eq_true rfl⟩ ⟨Nat.le_of_ble_eq_true rfl, Nat.le_of_ble_eq_true rfl⟩ (Nat.le_of_ble_eq_true rfl) ?_
  rintro _ S1 ⟨rfl, hS1⟩
  obtain rfl := hS1.symm
  refine g_ifp_eq (tgt := 33) X dX2_alike_5 rfl (fun c5 => ?_) (fun c5 => ?_)
  · refine g_iconst (v := 0) X dX2_alike_33 rfl ?_
    refine g_zret X hr dX2_alike_34 ?_ (Nat.le_of_ble_eq_true rfl) (Nat.le_of_ble_eq_true rfl) ?_
    · first | rfl | exact nb_bP
    · exact ⟨lb_0 (by grind), rfl⟩
  · refine g_aload_n X dX2_alike_8 rfl ?_
    refine g_iload_n X dX2_alike_9 rfl ?_
    refine g_callV (C := RX2) (T := TX2) (N := 35) X (k_X2_isClaim ho hu) (lw_V q1751 q1753 qs96 q139 q1754) hd_X2_isClaim dX2_alike_10 (rd3 ho) rfl rfl ⟨Nat.le_of_ble_eq_true rfl, Nat.le_of_ble_eq_true rfl⟩ ⟨Nat.le_of_ble_eq_true rfl, Nat.le_of_ble_eq_true rfl⟩ (Nat.le_of_ble_eq_true rfl) ?_
    rintro _ S1 ⟨rfl, hS1⟩
    obtain rfl := hS1.symm
    refine g_ifp_eq (tgt := 33) X dX2_alike_13 rfl (fun c13 => ?_) (fun c13 => ?_)
    · refine g_iconst (v := 0) X dX2_alike_33 rfl ?_
      refine g_zret X hr dX2_alike_34 ?_ (Nat.le_of_ble_eq_true rfl) (Nat.le_of_ble_eq_true rfl) ?_
      · first | rfl | exact nb_bP
      · exact ⟨lb_0 (by grind), rfl⟩
    · refine g_aload_n X dX2_alike_16 rfl ?_
      refine g_iload_n X dX2_alike_17 rfl ?_
      refine g_callV (C := RX2) (T := TX2) (N := 35) X (k_X2_tableOf ho hu (ix_i c5.1) (cl_lt hn8 c5)) (lw_V q1768 q1770 qs100 q139 q1771) hd_X2_tableOf dX2_alike_18 (rd3 ho) rfl rfl ⟨Nat.le_of_ble_eq_true rfl, Nat.le_of_ble_eq_true rfl⟩ ⟨Nat.le_of_ble_eq_true rfl, Nat.le_of_ble_eq_true rfl⟩ (Nat.le_of_ble_eq_true rfl) ?_
      rintro _ S1 ⟨rfl, hS1⟩
      obtain rfl := hS1.symm
      refine g_aload_n X dX2_alike_21 rfl ?_
      refine g_iload_n X dX2_alike_22 rfl ?_
      refine g_callV (C := RX2) (T := TX2) (N := 35) X (k_X2_tableOf ho hu (ix_i c13.1) (cl_lt hn8 c13)) (lw_V q1768 q1770 qs100 q139 q1771) hd_X2_tableOf dX2_alike_23 (rd3 ho) rfl rfl ⟨Nat.le_of_ble_eq_true rfl, Nat.le_of_ble_eq_true rfl⟩ ⟨Nat.le_of_ble_eq_true rfl, Nat.le_of_ble_eq_true rfl⟩ (Nat.le_of_ble_eq_true rfl) ?_
      rintro _ S1 ⟨rfl, hS1⟩
      obtain rfl := hS1.symm
      refine g_icmp_ne (tgt := 33) X dX2_alike_26 rfl (fun c26 => ?_) (fun c26 => ?_)
      · refine g_iconst (v := 0) X dX2_alike_33 rfl ?_
        refine g_zret X hr dX2_alike_34 ?_ (Nat.le_of_ble_eq_true rfl) (Nat.le_of_ble_eq_true rfl) ?_
        · first | rfl | exact nb_bP
        · exact ⟨lb_0 (by grind), rfl⟩
      · refine g_iconst (v := 1) X dX2_alike_29 rfl ?_
        refine g_goto (tgt := 34) X dX2_alike_30 rfl ?_
        refine g_zret X hr dX2_alike_34 ?_ (Nat.le_of_ble_eq_true rfl) (Nat.le_of_ble_eq_true rfl) ?_
        · first | rfl | exact nb_bP
        · exact ⟨lb_1 ⟨c5, c13, c26⟩, rfl⟩
set_option maxHeartbeats 600000 in
theorem k_X0_isTogether {l : Launch} {E : gk_E} (ho : E.2.2.2.2 = true) {S : gk_S} {b : Int32} {a n : Nat} {f : Nat → Int32} (hu : RU E S a n f) : gk_T l E yX0_isTogether cX0_isTogether 2 ((some .boolean)) 3 63 0 0 [.ref (E.2.2.1 0), .int b] S (fun r S' => r = some (.int (bP (wo n f b ≠ 0))) ∧ S' = S) := by
  refine gk_T.of [some (.ref (E.2.2.1 0)), some (.int b)] (by decide) (Nat.le_of_ble_eq_true rfl) (fun _ _ h => h) ?_
  intro p_ e_ R_ s_ m_ args_ below_ meth_ c_ hR X hr hin
  subst hR
  refine g_aload_n X dX0_isTogether_0 rfl ?_
  refine g_iload_n X dX0_isTogether_1 rfl ?_
  refine g_callV (C := RX0) (T := TX0) (N := 13) X (k_X0_worldsOf ho hu) (lw_V q1043 q1045 qs32 q135 q1046) hd_X0_worldsOf dX0_isTogether_2 (rd0 ho) rfl rfl ⟨Nat.le_of_ble_eq_true rfl, Nat.le_of_ble_eq_true rfl⟩ ⟨Nat.le_of_ble_eq_true rfl, Nat.le_of_ble_eq_true rfl⟩ (Nat.le_of_ble_eq_true rfl) ?_
  rintro _ S1 ⟨rfl, hS1⟩
  obtain rfl := hS1.symm
  refine g_if_eq (tgt := 12) X dX0_isTogether_5 rfl (fun c5 => ?_) (fun c5 => ?_)
  · refine g_iconst (v := 0) X dX0_isTogether_12 rfl ?_
    refine g_zret X hr dX0_isTogether_13 ?_ (Nat.le_of_ble_eq_true rfl) (Nat.le_of_ble_eq_true rfl) ?_
    · first | rfl | exact nb_bP
    · exact ⟨lb_0 (by simpa using c5), rfl⟩
  · refine g_iconst (v := 1) X dX0_isTogether_8 rfl ?_
    refine g_goto (tgt := 13) X dX0_isTogether_9 rfl ?_
    refine g_zret X hr dX0_isTogether_13 ?_ (Nat.le_of_ble_eq_true rfl) (Nat.le_of_ble_eq_true rfl) ?_
    · first | rfl | exact nb_bP
    · exact ⟨lb_1 (by simpa using c5), rfl⟩
/-- a set of claims that stand together and to which none can be added -/
abbrev isG (n : Nat) (f : Nat → Int32) (b : Int32) : Prop := wo n f b ≠ 0 ∧ ∀ c, c < n → hs b (nI c) ∨ wo n f (b ||| one (nI c)) = 0
set_option maxHeartbeats 600000 in
theorem k_X0_isGreatest {l : Launch} {E : gk_E} (ho : E.2.2.2.2 = true) {S : gk_S} {b : Int32} {a n : Nat} {f : Nat → Int32} (hu : RU E S a n f) : gk_T l E yX0_isGreatest cX0_isGreatest 3 ((some .boolean)) 4 84 0 0 [.ref (E.2.2.1 0), .int b] S (fun r S' => r = some (.int (bP (isG n f b))) ∧ S' = S) := by
  refine gk_T.of [some (.ref (E.2.2.1 0)), some (.int b), none] (by decide) (Nat.le_of_ble_eq_true rfl) (le_1 rfl (le_1 rfl (le_p le_n))) ?_
  intro p_ e_ R_ s_ m_ args_ below_ meth_ c_ hR X hr hin
  subst hR
  have hn8 : n ≤ 8 := hu.1
  refine g_aload_n X dX0_isGreatest_0 rfl ?_
  refine g_iload_n X dX0_isGreatest_1 rfl ?_
  refine g_callV (C := RX0) (T := TX0) (N := 13) X (k_X0_isTogether ho hu) (lw_V q1221 q1223 qs46 q135 q1224) hd_X0_isTogether dX0_isGreatest_2 (rd0 ho) rfl rfl ⟨Nat.le_of_ble_eq_true rfl, Nat.le_of_ble_eq_true rfl⟩ ⟨Nat.le_of_ble_eq_true rfl, Nat.le_of_ble_eq_true rfl⟩ (Nat.le_of_ble_eq_true rfl) ?_
  rintro _ S1 ⟨rfl, hS1⟩
  obtain rfl := hS1.symm
  refine g_ifp_ne (tgt := 10) X dX0_isGreatest_5 rfl (fun c5 => ?_) (fun c5 => ?_)
  · refine g_iconst (v := 0) X dX0_isGreatest_10 rfl ?_
    refine g_istore_n X dX0_isGreatest_11 (Nat.le_of_ble_eq_true rfl) ?_
    refine g_loop (σ := Nat) (fun (i : Nat) => S) (fun (i : Nat) => ([some (.ref (E.2.2.1 0)), some (.int b), some (.int (nI i))] : List (Option Value))) (fun (i : Nat) => i ≤ n ∧ ∀ c, c < i → hs b (nI c) ∨ wo n f (b ||| one (nI c)) = 0) (fun (i : Nat) => n - i) (0) ?_ (rfl) (le_1 rfl (le_1 rfl (le_1 rfl le_n))) ?_
    · exact ⟨Nat.zero_le _, fun c hc => absurd hc (Nat.not_lt_zero c)⟩
    intro i hI ih
    try dsimp only at hI ih ⊢
    refine g_iload_n X dX0_isGreatest_12 rfl ?_
    refine g_aload_n X dX0_isGreatest_13 rfl ?_
    refine g_callV (C := RX0) (T := TX0) (N := 13) X (k_X0_claims ho hu) (lw_V q1015 q1017 qs27 q135 q1018) hd_X0_claims dX0_isGreatest_14 (rd0 ho) rfl rfl ⟨Nat.le_of_ble_eq_true rfl, Nat.le_of_ble_eq_true rfl⟩ ⟨Nat.le_of_ble_eq_true rfl, Nat.le_of_ble_eq_true rfl⟩ (Nat.le_of_ble_eq_true rfl) ?_
    rintro _ S1 ⟨rfl, hS1⟩
    obtain rfl := hS1.symm
    refine g_icmp_ge (tgt := 48) X dX0_isGreatest_17 rfl (fun c17 => ?_) (fun c17 => ?_)
    · refine g_iconst (v := 1) X dX0_isGreatest_48 rfl ?_
      refine g_zret X hr dX0_isGreatest_49 ?_ (Nat.le_of_ble_eq_true rfl) (Nat.le_of_ble_eq_true rfl) ?_
      · first | rfl | exact nb_bP
      · exact ⟨lb_1 ⟨by simpa using c5, fun c hc => hI.2 c (by rw [out_of (by omega) hI.1 c17]; exact hc)⟩, rfl⟩
    · have hi : i < n := in_of (by omega) hI.1 c17
      refine g_iload_n X dX0_isGreatest_20 rfl ?_
      refine g_iload_n X dX0_isGreatest_21 rfl ?_
      refine g_callS X (k_X0_has ho) (lw_S q1028 q1029 q135 q1030) hd_X0_has dX0_isGreatest_22 rfl ⟨Nat.le_of_ble_eq_true rfl, Nat.le_of_ble_eq_true rfl⟩ ⟨Nat.le_of_ble_eq_true rfl, Nat.le_of_ble_eq_true rfl⟩ (Nat.le_of_ble_eq_true rfl) ?_
      rintro _ S1 ⟨rfl, hS1⟩
      obtain rfl := hS1.symm
      refine g_ifp_ne (tgt := 42) X dX0_isGreatest_25 rfl (fun c25 => ?_) (fun c25 => ?_)
      · refine g_iinc (v := 1) X dX0_isGreatest_42 rfl rfl (Nat.le_of_ble_eq_true rfl) ?_
        refine g_goto (tgt := 12) X dX0_isGreatest_45 rfl ?_
        refine g_sub (le_1 rfl (le_1 rfl (le_1 e_1 le_n))) (ih (i + 1) ?_ ?_)
        · exact ⟨by omega, fun c hc => (Nat.lt_succ_iff_lt_or_eq.mp hc).elim (hI.2 c) (fun z => by rw [z]; exact Or.inl c25)⟩
        · omega
      · refine g_aload_n X dX0_isGreatest_28 rfl ?_
        refine g_iload_n X dX0_isGreatest_29 rfl ?_
        refine g_iconst (v := 1) X dX0_isGreatest_30 rfl ?_
        refine g_iload_n X dX0_isGreatest_31 rfl ?_
        refine g_ishl X dX0_isGreatest_32 ?_
        refine g_ior X dX0_isGreatest_33 ?_
        refine g_callV (C := RX0) (T := TX0) (N := 13) X (k_X0_isTogether ho hu) (lw_V q1221 q1223 qs46 q135 q1224) hd_X0_isTogether dX0_isGreatest_34 (rd0 ho) rfl rfl ⟨Nat.le_of_ble_eq_true rfl, Nat.le_of_ble_eq_true rfl⟩ ⟨Nat.le_of_ble_eq_true rfl, Nat.le_of_ble_eq_true rfl⟩ (Nat.le_of_ble_eq_true rfl) ?_
        rintro _ S1 ⟨rfl, hS1⟩
        obtain rfl := hS1.symm
        refine g_ifp_eq (tgt := 42) X dX0_isGreatest_37 rfl (fun c37 => ?_) (fun c37 => ?_)
        · refine g_iinc (v := 1) X dX0_isGreatest_42 rfl rfl (Nat.le_of_ble_eq_true rfl) ?_
          refine g_goto (tgt := 12) X dX0_isGreatest_45 rfl ?_
          refine g_sub (le_1 rfl (le_1 rfl (le_1 e_1 le_n))) (ih (i + 1) ?_ ?_)
          · exact ⟨by omega, fun c hc => (Nat.lt_succ_iff_lt_or_eq.mp hc).elim (hI.2 c) (fun z => by rw [z]; exact Or.inr (by simpa using c37))⟩
          · omega
        · refine g_iconst (v := 0) X dX0_isGreatest_40 rfl ?_
          refine g_zret X hr dX0_isGreatest_41 ?_ (Nat.le_of_ble_eq_true rfl) (Nat.le_of_ble_eq_true rfl) ?_
          · first | rfl | exact nb_bP
          · exact ⟨lb_0 (fun z => (z.2 i hi).elim c25 (by simpa using c37)), rfl⟩
  · refine g_iconst (v := 0) X dX0_isGreatest_8 rfl ?_
    refine g_zret X hr dX0_isGreatest_9 ?_ (Nat.le_of_ble_eq_true rfl) (Nat.le_of_ble_eq_true rfl) ?_
    · first | rfl | exact nb_bP
    · exact ⟨lb_0 (fun z => z.1 (by simpa using c5)), rfl⟩
set_option maxHeartbeats 600000 in
theorem k_X2_isGreatest {l : Launch} {E : gk_E} (ho : E.2.2.2.2 = true) {S : gk_S} {b : Int32} {n : Nat} {f : Nat → Int32} (hu : MU S n f) : gk_T l E yX2_isGreatest cX2_isGreatest 3 ((some .boolean)) 2 44 0 0 [.ref (E.2.2.1 3), .int b] S (fun r S' => r = some (.int (bP (isG n f b))) ∧ S' = S) := by
  refine gk_T.of [some (.ref (E.2.2.1 3)), some (.int b), none] (by decide) (Nat.le_of_ble_eq_true rfl) (le_1 rfl (le_1 rfl (le_p le_n))) ?_
  intro p_ e_ R_ s_ m_ args_ below_ meth_ c_ hR X hr hin
  subst hR
  have hn8 : n ≤ 8 := hu.1
  refine g_aload_n X dX2_isGreatest_0 rfl ?_
  refine g_iload_n X dX2_isGreatest_1 rfl ?_
  refine g_callV (C := RX2) (T := TX2) (N := 35) X (k_X2_worldsOf ho hu) (lw_V q1763 q1765 qs99 q139 q1766) hd_X2_worldsOf dX2_isGreatest_2 (rd3 ho) rfl rfl ⟨Nat.le_of_ble_eq_true rfl, Nat.le_of_ble_eq_true rfl⟩ ⟨Nat.le_of_ble_eq_true rfl, Nat.le_of_ble_eq_true rfl⟩ (Nat.le_of_ble_eq_true rfl) ?_
  rintro _ S1 ⟨rfl, hS1⟩
  obtain rfl := hS1.symm
  refine g_if_ne (tgt := 10) X dX2_isGreatest_5 rfl (fun c5 => ?_) (fun c5 => ?_)
  · refine g_iconst (v := 0) X dX2_isGreatest_10 rfl ?_
    refine g_istore_n X dX2_isGreatest_11 (Nat.le_of_ble_eq_true rfl) ?_
    refine g_loop (σ := Nat) (fun (i : Nat) => S) (fun (i : Nat) => ([some (.ref (E.2.2.1 3)), some (.int b), some (.int (nI i))] : List (Option Value))) (fun (i : Nat) => i ≤ n ∧ ∀ c, c < i → hs b (nI c) ∨ wo n f (b ||| one (nI c)) = 0) (fun (i : Nat) => n - i) (0) ?_ (rfl) (le_1 rfl (le_1 rfl (le_1 rfl le_n))) ?_
    · exact ⟨Nat.zero_le _, fun c hc => absurd hc (Nat.not_lt_zero c)⟩
    intro i hI ih
    try dsimp only at hI ih ⊢
    refine g_iload_n X dX2_isGreatest_12 rfl ?_
    refine g_aload_n X dX2_isGreatest_13 rfl ?_
    refine g_callV (C := RX2) (T := TX2) (N := 35) X (k_X2_claims ho hu) (lw_V q1707 q1709 qs94 q139 q1710) hd_X2_claims dX2_isGreatest_14 (rd3 ho) rfl rfl ⟨Nat.le_of_ble_eq_true rfl, Nat.le_of_ble_eq_true rfl⟩ ⟨Nat.le_of_ble_eq_true rfl, Nat.le_of_ble_eq_true rfl⟩ (Nat.le_of_ble_eq_true rfl) ?_
    rintro _ S1 ⟨rfl, hS1⟩
    obtain rfl := hS1.symm
    refine g_icmp_ge (tgt := 48) X dX2_isGreatest_17 rfl (fun c17 => ?_) (fun c17 => ?_)
    · refine g_iconst (v := 1) X dX2_isGreatest_48 rfl ?_
      refine g_zret X hr dX2_isGreatest_49 ?_ (Nat.le_of_ble_eq_true rfl) (Nat.le_of_ble_eq_true rfl) ?_
      · first | rfl | exact nb_bP
      · exact ⟨lb_1 ⟨by simpa using c5, fun c hc => hI.2 c (by rw [out_of (by omega) hI.1 c17]; exact hc)⟩, rfl⟩
    · have hi : i < n := in_of (by omega) hI.1 c17
      refine g_iload_n X dX2_isGreatest_20 rfl ?_
      refine g_iload_n X dX2_isGreatest_21 rfl ?_
      refine g_callS X (k_X2_has ho) (lw_S q1711 q1712 q139 q1713) hd_X2_has dX2_isGreatest_22 rfl ⟨Nat.le_of_ble_eq_true rfl, Nat.le_of_ble_eq_true rfl⟩ ⟨Nat.le_of_ble_eq_true rfl, Nat.le_of_ble_eq_true rfl⟩ (Nat.le_of_ble_eq_true rfl) ?_
      rintro _ S1 ⟨rfl, hS1⟩
      obtain rfl := hS1.symm
      refine g_ifp_ne (tgt := 42) X dX2_isGreatest_25 rfl (fun c25 => ?_) (fun c25 => ?_)
      · refine g_iinc (v := 1) X dX2_isGreatest_42 rfl rfl (Nat.le_of_ble_eq_true rfl) ?_
        refine g_goto (tgt := 12) X dX2_isGreatest_45 rfl ?_
        refine g_sub (le_1 rfl (le_1 rfl (le_1 e_1 le_n))) (ih (i + 1) ?_ ?_)
        · exact ⟨by omega, fun c hc => (Nat.lt_succ_iff_lt_or_eq.mp hc).elim (hI.2 c) (fun z => by rw [z]; exact Or.inl c25)⟩
        · omega
      · refine g_aload_n X dX2_isGreatest_28 rfl ?_
        refine g_iload_n X dX2_isGreatest_29 rfl ?_
        refine g_iconst (v := 1) X dX2_isGreatest_30 rfl ?_
        refine g_iload_n X dX2_isGreatest_31 rfl ?_
        refine g_ishl X dX2_isGreatest_32 ?_
        refine g_ior X dX2_isGreatest_33 ?_
        refine g_callV (C := RX2) (T := TX2) (N := 35) X (k_X2_worldsOf ho hu) (lw_V q1763 q1765 qs99 q139 q1766) hd_X2_worldsOf dX2_isGreatest_34 (rd3 ho) rfl rfl ⟨Nat.le_of_ble_eq_true rfl, Nat.le_of_ble_eq_true rfl⟩ ⟨Nat.le_of_ble_eq_true rfl, Nat.le_of_ble_eq_true rfl⟩ (Nat.le_of_ble_eq_true rfl) ?_
        rintro _ S1 ⟨rfl, hS1⟩
        obtain rfl := hS1.symm
        refine g_if_eq (tgt := 42) X dX2_isGreatest_37 rfl (fun c37 => ?_) (fun c37 => ?_)
        · refine g_iinc (v := 1) X dX2_isGreatest_42 rfl rfl (Nat.le_of_ble_eq_true rfl) ?_
          refine g_goto (tgt := 12) X dX2_isGreatest_45 rfl ?_
          refine g_sub (le_1 rfl (le_1 rfl (le_1 e_1 le_n))) (ih (i + 1) ?_ ?_)
          · exact ⟨by omega, fun c hc => (Nat.lt_succ_iff_lt_or_eq.mp hc).elim (hI.2 c) (fun z => by rw [z]; exact Or.inr (by simpa using c37))⟩
          · omega
        · refine g_iconst (v := 0) X dX2_isGreatest_40 rfl ?_
          refine g_zret X hr dX2_isGreatest_41 ?_ (Nat.le_of_ble_eq_true rfl) (Nat.le_of_ble_eq_true rfl) ?_
          · first | rfl | exact nb_bP
          · exact ⟨lb_0 (fun z => (z.2 i hi).elim c25 (by simpa using c37)), rfl⟩
  · refine g_iconst (v := 0) X dX2_isGreatest_8 rfl ?_
    refine g_zret X hr dX2_isGreatest_9 ?_ (Nat.le_of_ble_eq_true rfl) (Nat.le_of_ble_eq_true rfl) ?_
    · first | rfl | exact nb_bP
    · exact ⟨lb_0 (fun z => z.1 (by simpa using c5)), rfl⟩
