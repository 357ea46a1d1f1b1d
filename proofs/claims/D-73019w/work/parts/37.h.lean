set_option maxHeartbeats 600000 in
theorem k_J13_bitCount {l : Launch} {E : gk_E} (ho : E.2.2.2.2 = true) {S : gk_S} {x : Int32}   : gk_T l E yJ13_bitCount cJ13_bitCount 1 ((some .int)) 0 0 0 0 [.int x] S (fun r S' => r = some (.int (bcI x)) ∧ S' = S) := by
  refine gk_T.of [some (.int x)] (by decide) (Nat.le_of_ble_eq_true rfl) (fun _ _ h => h) ?_
  intro p_ e_ R_ s_ m_ args_ below_ meth_ c_ hR X hr hin
  subst hR
  refine g_iload_n X dJ13_bitCount_0 rfl ?_
  refine g_iload_n X dJ13_bitCount_1 rfl ?_
  refine g_iconst (v := 1) X dJ13_bitCount_2 rfl ?_
  refine g_iushr X dJ13_bitCount_3 rfl ?_
  refine g_ldcw X dJ13_bitCount_4 q1071 ?_
  refine g_iand X dJ13_bitCount_7 ?_
  refine g_isub X dJ13_bitCount_8 ?_
  refine g_istore_n X dJ13_bitCount_9 (Nat.le_of_ble_eq_true rfl) ?_
  refine g_iload_n X dJ13_bitCount_10 rfl ?_
  refine g_ldcw X dJ13_bitCount_11 q1072 ?_
  refine g_iand X dJ13_bitCount_14 ?_
  refine g_iload_n X dJ13_bitCount_15 rfl ?_
  refine g_iconst (v := 2) X dJ13_bitCount_16 rfl ?_
  refine g_iushr X dJ13_bitCount_17 rfl ?_
  refine g_ldcw X dJ13_bitCount_18 q1072 ?_
  refine g_iand X dJ13_bitCount_21 ?_
  refine g_iadd X dJ13_bitCount_22 ?_
  refine g_istore_n X dJ13_bitCount_23 (Nat.le_of_ble_eq_true rfl) ?_
  refine g_iload_n X dJ13_bitCount_24 rfl ?_
  refine g_iload_n X dJ13_bitCount_25 rfl ?_
  refine g_iconst (v := 4) X dJ13_bitCount_26 rfl ?_
  refine g_iushr X dJ13_bitCount_27 rfl ?_
  refine g_iadd X dJ13_bitCount_28 ?_
  refine g_ldcw X dJ13_bitCount_29 q1073 ?_
  refine g_iand X dJ13_bitCount_32 ?_
  refine g_istore_n X dJ13_bitCount_33 (Nat.le_of_ble_eq_true rfl) ?_
  refine g_iload_n X dJ13_bitCount_34 rfl ?_
  refine g_iload_n X dJ13_bitCount_35 rfl ?_
  refine g_bipush (v := 8) X dJ13_bitCount_36 rfl ?_
  refine g_iushr X dJ13_bitCount_38 rfl ?_
  refine g_iadd X dJ13_bitCount_39 ?_
  refine g_istore_n X dJ13_bitCount_40 (Nat.le_of_ble_eq_true rfl) ?_
  refine g_iload_n X dJ13_bitCount_41 rfl ?_
  refine g_iload_n X dJ13_bitCount_42 rfl ?_
  refine g_bipush (v := 16) X dJ13_bitCount_43 rfl ?_
  refine g_iushr X dJ13_bitCount_45 rfl ?_
  refine g_iadd X dJ13_bitCount_46 ?_
  refine g_istore_n X dJ13_bitCount_47 (Nat.le_of_ble_eq_true rfl) ?_
  refine g_iload_n X dJ13_bitCount_48 rfl ?_
  refine g_bipush (v := 63) X dJ13_bitCount_49 rfl ?_
  refine g_iand X dJ13_bitCount_51 ?_
  exact g_iret X hr dJ13_bitCount_52 (Nat.le_of_ble_eq_true rfl) (Nat.le_of_ble_eq_true rfl) (⟨rfl, rfl⟩)
set_option maxHeartbeats 600000 in
theorem k_X2_bits {l : Launch} {E : gk_E} (ho : E.2.2.2.2 = true) {S : gk_S} {b : Int32} {w : Nat} (hb : b = nI w) (hw : w < 65536) : gk_T l E yX2_bits cX2_bits 3 ((some .int)) 0 0 0 0 [.int b] S (fun r S' => r = some (.int (bcI b)) ∧ S' = S) := by
  refine gk_T.of [some (.int b), none, none] (by decide) (Nat.le_of_ble_eq_true rfl) (le_1 rfl (le_p (le_p le_n))) ?_
  intro p_ e_ R_ s_ m_ args_ below_ meth_ c_ hR X hr hin
  subst hR
  refine g_iconst (v := 0) X dX2_bits_0 rfl ?_
  refine g_istore_n X dX2_bits_1 (Nat.le_of_ble_eq_true rfl) ?_
  refine g_iload_n X dX2_bits_2 rfl ?_
  refine g_istore_n X dX2_bits_3 (Nat.le_of_ble_eq_true rfl) ?_
  refine g_loop (σ := Nat × Nat) (fun (q : Nat × Nat) => match q with | (k, v) => S) (fun (q : Nat × Nat) => match q with | (k, v) => ([none, some (.int (nI k)), some (.int (nI v))] : List (Option Value))) (fun (q : Nat × Nat) => match q with | (k, v) => v < 65536 ∧ k + bcN v = bcN w) (fun (q : Nat × Nat) => match q with | (k, v) => v) ((0, w)) ?_ (rfl) (le_0 (le_1 rfl (le_1 (by rw [hb]) le_n))) ?_
  · exact ⟨hw, Nat.zero_add _⟩
  rintro ⟨k, v⟩ hI ih
  try dsimp only at hI ih ⊢
  refine g_iload_n X dX2_bits_4 rfl ?_
  refine g_if_eq (tgt := 20) X dX2_bits_5 rfl (fun c5 => ?_) (fun c5 => ?_)
  · have hv : v = 0 := (nI_eq (by omega) (by decide)).mp c5
    refine g_iload_n X dX2_bits_20 rfl ?_
    exact g_iret X hr dX2_bits_21 (Nat.le_of_ble_eq_true rfl) (Nat.le_of_ble_eq_true rfl) (⟨by have q := hI.2; rw [hv, bcN_0] at q; rw [hb, bcI_N hw, ← q]; rfl, rfl⟩)
  · have hv : v ≠ 0 := fun z => c5 (by rw [z]; rfl)
    refine g_iinc (v := 1) X dX2_bits_8 rfl rfl (Nat.le_of_ble_eq_true rfl) ?_
    refine g_iload_n X dX2_bits_11 rfl ?_
    refine g_iload_n X dX2_bits_12 rfl ?_
    refine g_iconst (v := 1) X dX2_bits_13 rfl ?_
    refine g_isub X dX2_bits_14 ?_
    refine g_iand X dX2_bits_15 ?_
    refine g_istore_n X dX2_bits_16 (Nat.le_of_ble_eq_true rfl) ?_
    refine g_goto (tgt := 4) X dX2_bits_17 rfl ?_
    refine g_sub (le_0 (le_1 e_1 (le_1 (ei (and_m1 hI.1 hv)) le_n))) (ih ((k + 1, v &&& (v - 1))) ?_ ?_)
    · try dsimp only
      exact ⟨Nat.lt_of_le_of_lt Nat.and_le_left hI.1, by have := bcN_step hI.1 hv; omega⟩
    · try dsimp only
      exact Nat.lt_of_le_of_lt Nat.and_le_right (by omega)
