/-- the byte of a tape's int: the component's (signed), the model's -/
def byC (v s : Int32) : Int32 := vp_nar .byte ((v >>> (s &&& 31)).toInt8.toInt32)
def byM (v s : Int32) : Int32 := (v >>> (s &&& 31)) &&& 255
/-- four bytes laid from tp on, after k of them -/
def fo4 (b : Int32 → Int32 → Int32) (tp : Nat) (v : Int32) (k : Nat) (f : Nat → Int32) : Nat → Int32 := itr (fun i g => upd g (tp + i) (b v (nI (24 - 8 * i)))) k f
theorem sh_k : ∀ k, k < 4 → (nI (24 - 8 * k) + (-8) = if k < 3 then nI (24 - 8 * (k + 1)) else -8) ∧ ¬ nI (24 - 8 * k) < 0 := by decide
def shk (k : Nat) : Int32 := if k < 4 then nI (24 - 8 * k) else -8
theorem shk_s : ∀ k, k < 4 → shk k + (-8) = shk (k + 1) ∧ ¬ shk k < 0 ∧ shk k = nI (24 - 8 * k) := by decide
theorem shk_4 {k : Nat} (h : k ≤ 4) (h2 : ¬ shk k < 0) : k < 4 := by
  rcases Nat.lt_or_ge k 4 with q | q
  · exact q
  · exact absurd (by rw [show k = 4 by omega]; decide) h2
theorem shk_lt {k : Nat} (h : k ≤ 4) (h2 : shk k < 0) : k = 4 := by
  rcases Nat.lt_or_ge k 4 with q | q
  · exact absurd h2 (shk_s k q).2.1
  · omega
set_option maxHeartbeats 600000 in
theorem k_X0_soil {l : Launch} {E : gk_E} (ho : E.2.2.2.2 = true) {S : gk_S} {k : Int32} {v : Int32}   : gk_T l E yX0_soil cX0_soil 3 ((some .boolean)) 2 42 0 0 [.ref (E.2.2.1 0), .int k, .int v] S (fun r S' => r = some (.int (bP ((0 ≤ k ∧ k ≤ 4) ∧ 0 ≤ v ∧ v ≤ 20))) ∧ S' = if (0 ≤ k ∧ k ≤ 4) ∧ 0 ≤ v ∧ v ≤ 20 then gk_si S 13 (upd (S.1 13) (ix k) v) else S) := by
  refine gk_T.of [some (.ref (E.2.2.1 0)), some (.int k), some (.int v)] (by decide) (Nat.le_of_ble_eq_true rfl) (fun _ _ h => h) ?_
  intro p_ e_ R_ s_ m_ args_ below_ meth_ c_ hR X hr hin
  subst hR
  refine g_iload_n X dX0_soil_0 rfl ?_
  refine g_callS X (k_X0_isField ho) (lw_S q298 q299 q135 q300) hd_X0_isField dX0_soil_1 rfl ⟨Nat.le_of_ble_eq_true rfl, Nat.le_of_ble_eq_true rfl⟩ ⟨Nat.le_of_ble_eq_true rfl, Nat.le_of_ble_eq_true rfl⟩ (Nat.le_of_ble_eq_true rfl) ?_
  rintro _ S1 ⟨rfl, hS1⟩
  obtain rfl := hS1.symm
  refine g_ifp_eq (tgt := 17) X dX0_soil_4 rfl (fun c4 => ?_) (fun c4 => ?_)
  · refine g_iconst (v := 0) X dX0_soil_17 rfl ?_
    refine g_zret X hr dX0_soil_18 ?_ (Nat.le_of_ble_eq_true rfl) (Nat.le_of_ble_eq_true rfl) ?_
    · first | rfl | exact nb_bP
    · exact lz_f (by grind) rfl
  · refine g_iload_n X dX0_soil_7 rfl ?_
    refine g_iconst (v := 0) X dX0_soil_8 rfl ?_
    refine g_bipush (v := 20) X dX0_soil_9 rfl ?_
    refine g_callS X (k_X0_in ho) (lw_S q291 q292 q135 q293) hd_X0_in dX0_soil_11 rfl ⟨Nat.le_of_ble_eq_true rfl, Nat.le_of_ble_eq_true rfl⟩ ⟨Nat.le_of_ble_eq_true rfl, Nat.le_of_ble_eq_true rfl⟩ (Nat.le_of_ble_eq_true rfl) ?_
    rintro _ S1 ⟨rfl, hS1⟩
    obtain rfl := hS1.symm
    refine g_ifp_ne (tgt := 19) X dX0_soil_14 rfl (fun c14 => ?_) (fun c14 => ?_)
    · refine g_aload_n X dX0_soil_19 rfl ?_
      refine g_get (C := RX0) (T := TX0) (N := 13) X 0 in_X0 dX0_soil_20 q241 (rd0 ho) rfl (Nat.le_of_ble_eq_true rfl) (fun _ h9 => h9) rfl ?_
      refine g_getN (C := RX1) (T := TX1) (N := 8) X 3 in_X1 dX0_soil_23 q201 (rd1 ho) rfl (Nat.le_of_ble_eq_true rfl) (fun _ h9 => h9) rfl ?_
      refine g_iload_n X dX0_soil_26 rfl ?_
      refine g_iload_n X dX0_soil_27 rfl ?_
      refine g_iast X ho (13) (j := ix k) dX0_soil_28 rfl (rfl) (ix_i c4.1) (Nat.lt_succ_of_le (ix_le 4 (by decide) c4.1 c4.2)) (by decide) ?_
      refine g_iconst (v := 1) X dX0_soil_29 rfl ?_
      refine g_zret X hr dX0_soil_30 ?_ (Nat.le_of_ble_eq_true rfl) (Nat.le_of_ble_eq_true rfl) ?_
      · first | rfl | exact nb_bP
      · exact lz_t ⟨c4, c14⟩ rfl
    · refine g_iconst (v := 0) X dX0_soil_17 rfl ?_
      refine g_zret X hr dX0_soil_18 ?_ (Nat.le_of_ble_eq_true rfl) (Nat.le_of_ble_eq_true rfl) ?_
      · first | rfl | exact nb_bP
      · exact lz_f (by grind) rfl
set_option maxHeartbeats 600000 in
theorem k_X0_wants {l : Launch} {E : gk_E} (ho : E.2.2.2.2 = true) {S : gk_S} {f : Int32} {k : Int32} {v : Int32}   : gk_T l E yX0_wants cX0_wants 4 ((some .boolean)) 2 42 0 0 [.ref (E.2.2.1 0), .int f, .int k, .int v] S (fun r S' => r = some (.int (bP ((0 ≤ f ∧ f ≤ 4) ∧ (0 ≤ k ∧ k ≤ 4) ∧ 0 ≤ v ∧ v ≤ 20))) ∧ S' = if (0 ≤ f ∧ f ≤ 4) ∧ (0 ≤ k ∧ k ≤ 4) ∧ 0 ≤ v ∧ v ≤ 20 then gk_si S (20 + ix f) (upd (S.1 (20 + ix f)) (ix k) v) else S) := by
  refine gk_T.of [some (.ref (E.2.2.1 0)), some (.int f), some (.int k), some (.int v)] (by decide) (Nat.le_of_ble_eq_true rfl) (fun _ _ h => h) ?_
  intro p_ e_ R_ s_ m_ args_ below_ meth_ c_ hR X hr hin
  subst hR
  refine g_iload_n X dX0_wants_0 rfl ?_
  refine g_iconst (v := 0) X dX0_wants_1 rfl ?_
  refine g_iconst (v := 4) X dX0_wants_2 rfl ?_
  refine g_callS X (k_X0_in ho) (lw_S q291 q292 q135 q293) hd_X0_in dX0_wants_3 rfl ⟨Nat.le_of_ble_eq_true rfl, Nat.le_of_ble_eq_true rfl⟩ ⟨Nat.le_of_ble_eq_true rfl, Nat.le_of_ble_eq_true rfl⟩ (Nat.le_of_ble_eq_true rfl) ?_
  rintro _ S1 ⟨rfl, hS1⟩
  obtain rfl := hS1.symm
  refine g_ifp_eq (tgt := 26) X dX0_wants_6 rfl (fun c6 => ?_) (fun c6 => ?_)
  · refine g_iconst (v := 0) X dX0_wants_26 rfl ?_
    refine g_zret X hr dX0_wants_27 ?_ (Nat.le_of_ble_eq_true rfl) (Nat.le_of_ble_eq_true rfl) ?_
    · first | rfl | exact nb_bP
    · exact lz_f (by grind) rfl
  · refine g_iload_n X dX0_wants_9 rfl ?_
    refine g_callS X (k_X0_isField ho) (lw_S q298 q299 q135 q300) hd_X0_isField dX0_wants_10 rfl ⟨Nat.le_of_ble_eq_true rfl, Nat.le_of_ble_eq_true rfl⟩ ⟨Nat.le_of_ble_eq_true rfl, Nat.le_of_ble_eq_true rfl⟩ (Nat.le_of_ble_eq_true rfl) ?_
    rintro _ S1 ⟨rfl, hS1⟩
    obtain rfl := hS1.symm
    refine g_ifp_eq (tgt := 26) X dX0_wants_13 rfl (fun c13 => ?_) (fun c13 => ?_)
    · refine g_iconst (v := 0) X dX0_wants_26 rfl ?_
      refine g_zret X hr dX0_wants_27 ?_ (Nat.le_of_ble_eq_true rfl) (Nat.le_of_ble_eq_true rfl) ?_
      · first | rfl | exact nb_bP
      · exact lz_f (by grind) rfl
    · refine g_iload_n X dX0_wants_16 rfl ?_
      refine g_iconst (v := 0) X dX0_wants_17 rfl ?_
      refine g_bipush (v := 20) X dX0_wants_18 rfl ?_
      refine g_callS X (k_X0_in ho) (lw_S q291 q292 q135 q293) hd_X0_in dX0_wants_20 rfl ⟨Nat.le_of_ble_eq_true rfl, Nat.le_of_ble_eq_true rfl⟩ ⟨Nat.le_of_ble_eq_true rfl, Nat.le_of_ble_eq_true rfl⟩ (Nat.le_of_ble_eq_true rfl) ?_
      rintro _ S1 ⟨rfl, hS1⟩
      obtain rfl := hS1.symm
      refine g_ifp_ne (tgt := 28) X dX0_wants_23 rfl (fun c23 => ?_) (fun c23 => ?_)
      · have hf : ix f < 5 := Nat.lt_succ_of_le (ix_le 4 (by decide) c6.1 c6.2)
        refine g_aload_n X dX0_wants_28 rfl ?_
        refine g_get (C := RX0) (T := TX0) (N := 13) X 0 in_X0 dX0_wants_29 q241 (rd0 ho) rfl (Nat.le_of_ble_eq_true rfl) (fun _ h9 => h9) rfl ?_
        refine g_getN (C := RX1) (T := TX1) (N := 8) X 4 in_X1 dX0_wants_32 q203 (rd1 ho) rfl (Nat.le_of_ble_eq_true rfl) (fun _ h9 => h9) rfl ?_
        refine g_iload_n X dX0_wants_35 rfl ?_
        refine g_aald (t := 4) (j := ix f) X dX0_wants_36 (rd14 ho) rfl rfl (ix_i c6.1) hf (by decide) rfl ?_
        refine g_iload_n X dX0_wants_37 rfl ?_
        refine g_iload_n X dX0_wants_38 rfl ?_
        refine g_iast X ho (20 + (ix f)) (j := ix k) dX0_wants_39 rfl (kd_want hf) (ix_i c13.1) (Nat.lt_succ_of_le (ix_le 4 (by decide) c13.1 c13.2)) (by decide) ?_
        refine g_iconst (v := 1) X dX0_wants_40 rfl ?_
        refine g_zret X hr dX0_wants_41 ?_ (Nat.le_of_ble_eq_true rfl) (Nat.le_of_ble_eq_true rfl) ?_
        · first | rfl | exact nb_bP
        · exact lz_t ⟨c6, c13, c23⟩ rfl
      · refine g_iconst (v := 0) X dX0_wants_26 rfl ?_
        refine g_zret X hr dX0_wants_27 ?_ (Nat.le_of_ble_eq_true rfl) (Nat.le_of_ble_eq_true rfl) ?_
        · first | rfl | exact nb_bP
        · exact lz_f (by grind) rfl
set_option maxHeartbeats 600000 in
theorem k_X0_put {l : Launch} {E : gk_E} (ho : E.2.2.2.2 = true) {S : gk_S} {v : Int32} {tp : Nat} (h0 : S.1 200 3 = nI tp) (h1 : tp + 4 ≤ 300) : gk_T l E yX0_put cX0_put 3 (none) 0 0 0 0 [.ref (E.2.2.1 0), .int v] S (fun r S' => r = none ∧ S' = gk_si (gk_si S 300 (fo4 byC tp v 4 (S.1 300))) 200 (upd (S.1 200) 3 (nI (tp + 4)))) := by
  refine gk_T.of [some (.ref (E.2.2.1 0)), some (.int v), none] (by decide) (Nat.le_of_ble_eq_true rfl) (le_1 rfl (le_1 rfl (le_p le_n))) ?_
  intro p_ e_ R_ s_ m_ args_ below_ meth_ c_ hR X hr hin
  subst hR
  refine g_bipush (v := 24) X dX0_put_0 rfl ?_
  refine g_istore_n X dX0_put_2 (Nat.le_of_ble_eq_true rfl) ?_
  refine g_loop (σ := Nat) (fun (k : Nat) => gk_si (gk_si S 300 (fo4 byC tp v k (S.1 300))) 200 (upd (S.1 200) 3 (nI (tp + k)))) (fun (k : Nat) => ([some (.ref (E.2.2.1 0)), some (.int v), some (.int (shk k))] : List (Option Value))) (fun (k : Nat) => k ≤ 4) (fun (k : Nat) => 4 - k) (0) ?_ (by rw [show fo4 byC tp v 0 (S.1 300) = S.1 300 from rfl, si_id, Nat.add_zero, ← h0, show upd (S.1 200) 3 (S.1 200 3) = S.1 200 from upd_id, si_id]) (le_1 rfl (le_1 rfl (le_1 rfl le_n))) ?_
  · omega
  intro k hI ih
  try dsimp only at hI ih ⊢
  refine g_iload_n X dX0_put_3 rfl ?_
  refine g_if_lt (tgt := 36) X dX0_put_4 rfl (fun c4 => ?_) (fun c4 => ?_)
  · exact g_vret X hr dX0_put_36 (Nat.le_of_ble_eq_true rfl) (Nat.le_of_ble_eq_true rfl) (⟨rfl, by rw [shk_lt hI c4]⟩)
  · have hk : k < 4 := shk_4 hI c4
    refine g_aload_n X dX0_put_7 rfl ?_
    refine g_get (C := RX0) (T := TX0) (N := 13) X 2 in_X0 dX0_put_8 q243 (rd0 ho) rfl (Nat.le_of_ble_eq_true rfl) (fun _ h9 => h9) rfl ?_
    refine g_aload_n X dX0_put_11 rfl ?_
    refine g_get (C := RX0) (T := TX0) (N := 13) X 3 in_X0 dX0_put_12 q244 (rd0 ho) rfl (Nat.le_of_ble_eq_true rfl) (fun _ h9 => h9) rfl ?_
    refine g_iload_n X dX0_put_15 rfl ?_
    refine g_iload_n X dX0_put_16 rfl ?_
    refine g_ishr X dX0_put_17 ?_
    refine g_i2b X dX0_put_18 rfl ?_
    refine g_bast X ho (300) (j := tp + k) dX0_put_19 rfl (rfl) (by rw [si_s, upd_s]) (by omega) (by decide) ?_
    refine g_aload_n X dX0_put_20 rfl ?_
    refine g_dup X dX0_put_21 rfl ?_
    refine g_get (C := RX0) (T := TX0) (N := 13) X 3 in_X0 dX0_put_22 q244 (rd0 ho) rfl (Nat.le_of_ble_eq_true rfl) (fun _ h9 => h9) rfl ?_
    refine g_iconst (v := 1) X dX0_put_25 rfl ?_
    refine g_iadd X dX0_put_26 ?_
    refine g_put0 X ho 3 dX0_put_27 q244 rfl (Nat.le_of_ble_eq_true rfl) rfl rfl rfl rfl (Nat.le_of_ble_eq_true rfl) rfl ?_
    refine g_eq (S2 := gk_si (gk_si S 300 (fo4 byC tp v (k + 1) (S.1 300))) 200 (upd (S.1 200) 3 (nI (tp + (k + 1))))) ?_ ?_
    · rw [si2 (by decide)]
      congr 1
      · congr 1
        simp only [si_a, reduceIte, Nat.reduceEqDiff]
        rw [show fo4 byC tp v (k + 1) (S.1 300) = upd (fo4 byC tp v k (S.1 300)) (tp + k) (byC v (nI (24 - 8 * k))) from rfl, ← (shk_s k hk).2.2]
        rfl
      · simp only [si_a, reduceIte, Nat.reduceEqDiff, upd_upd, upd_s]
        rw [nI_1, Nat.add_assoc]
    refine g_iinc (v := (-8)) X dX0_put_30 rfl rfl (Nat.le_of_ble_eq_true rfl) ?_
    refine g_goto (tgt := 3) X dX0_put_33 rfl ?_
    refine g_sub (le_1 rfl (le_1 rfl (le_1 (by rw [(shk_s k hk).1]) le_n))) (ih (k + 1) ?_ ?_)
    · omega
    · omega
set_option maxHeartbeats 600000 in
theorem k_X2_four {l : Launch} {E : gk_E} (ho : E.2.2.2.2 = true) {S : gk_S} {v : Int32} {tp : Nat} (h0 : S.1 201 4 = nI tp) (h1 : tp + 4 ≤ 300) : gk_T l E yX2_four cX2_four 3 (none) 0 0 0 0 [.ref (E.2.2.1 3), .int v] S (fun r S' => r = none ∧ S' = gk_si (gk_si S 403 (fo4 byM tp v 4 (S.1 403))) 201 (upd (S.1 201) 4 (nI (tp + 4)))) := by
  refine gk_T.of [some (.ref (E.2.2.1 3)), some (.int v), none] (by decide) (Nat.le_of_ble_eq_true rfl) (le_1 rfl (le_1 rfl (le_p le_n))) ?_
  intro p_ e_ R_ s_ m_ args_ below_ meth_ c_ hR X hr hin
  subst hR
  refine g_bipush (v := 24) X dX2_four_0 rfl ?_
  refine g_istore_n X dX2_four_2 (Nat.le_of_ble_eq_true rfl) ?_
  refine g_loop (σ := Nat) (fun (k : Nat) => gk_si (gk_si S 403 (fo4 byM tp v k (S.1 403))) 201 (upd (S.1 201) 4 (nI (tp + k)))) (fun (k : Nat) => ([some (.ref (E.2.2.1 3)), some (.int v), some (.int (shk k))] : List (Option Value))) (fun (k : Nat) => k ≤ 4) (fun (k : Nat) => 4 - k) (0) ?_ (by rw [show fo4 byM tp v 0 (S.1 403) = S.1 403 from rfl, si_id, Nat.add_zero, ← h0, show upd (S.1 201) 4 (S.1 201 4) = S.1 201 from upd_id, si_id]) (le_1 rfl (le_1 rfl (le_1 rfl le_n))) ?_
  · omega
  intro k hI ih
  try dsimp only at hI ih ⊢
  refine g_iload_n X dX2_four_3 rfl ?_
  refine g_if_lt (tgt := 39) X dX2_four_4 rfl (fun c4 => ?_) (fun c4 => ?_)
  · exact g_vret X hr dX2_four_39 (Nat.le_of_ble_eq_true rfl) (Nat.le_of_ble_eq_true rfl) (⟨rfl, by rw [shk_lt hI c4]⟩)
  · have hk : k < 4 := shk_4 hI c4
    refine g_aload_n X dX2_four_7 rfl ?_
    refine g_get (C := RX2) (T := TX2) (N := 35) X 3 in_X2 dX2_four_8 q1408 (rd3 ho) rfl (Nat.le_of_ble_eq_true rfl) (fun _ h9 => h9) rfl ?_
    refine g_aload_n X dX2_four_11 rfl ?_
    refine g_get (C := RX2) (T := TX2) (N := 35) X 4 in_X2 dX2_four_12 q1409 (rd3 ho) rfl (Nat.le_of_ble_eq_true rfl) (fun _ h9 => h9) rfl ?_
    refine g_iload_n X dX2_four_15 rfl ?_
    refine g_iload_n X dX2_four_16 rfl ?_
    refine g_ishr X dX2_four_17 ?_
    refine g_sipush (v := 255) X dX2_four_18 rfl ?_
    refine g_iand X dX2_four_21 ?_
    refine g_iast X ho (403) (j := tp + k) dX2_four_22 rfl (rfl) (by rw [si_s, upd_s]) (by omega) (by decide) ?_
    refine g_aload_n X dX2_four_23 rfl ?_
    refine g_dup X dX2_four_24 rfl ?_
    refine g_get (C := RX2) (T := TX2) (N := 35) X 4 in_X2 dX2_four_25 q1409 (rd3 ho) rfl (Nat.le_of_ble_eq_true rfl) (fun _ h9 => h9) rfl ?_
    refine g_iconst (v := 1) X dX2_four_28 rfl ?_
    refine g_iadd X dX2_four_29 ?_
    refine g_put3 X ho 4 dX2_four_30 q1409 rfl (Nat.le_of_ble_eq_true rfl) rfl rfl rfl rfl (Nat.le_of_ble_eq_true rfl) rfl ?_
    refine g_eq (S2 := gk_si (gk_si S 403 (fo4 byM tp v (k + 1) (S.1 403))) 201 (upd (S.1 201) 4 (nI (tp + (k + 1))))) ?_ ?_
    · rw [si2 (by decide)]
      congr 1
      · congr 1
        simp only [si_a, reduceIte, Nat.reduceEqDiff]
        rw [show fo4 byM tp v (k + 1) (S.1 403) = upd (fo4 byM tp v k (S.1 403)) (tp + k) (byM v (nI (24 - 8 * k))) from rfl, ← (shk_s k hk).2.2]
        rfl
      · simp only [si_a, reduceIte, Nat.reduceEqDiff, upd_upd, upd_s]
        rw [nI_1, Nat.add_assoc]
    refine g_iinc (v := (-8)) X dX2_four_33 rfl rfl (Nat.le_of_ble_eq_true rfl) ?_
    refine g_goto (tgt := 3) X dX2_four_36 rfl ?_
    refine g_sub (le_1 rfl (le_1 rfl (le_1 (by rw [(shk_s k hk).1]) le_n))) (ih (k + 1) ?_ ?_)
    · omega
    · omega
