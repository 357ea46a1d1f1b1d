abbrev isLt (x : Int32) : Prop := (97 ≤ x ∧ x ≤ 122) ∨ (65 ≤ x ∧ x ≤ 90)
abbrev isDg (x : Int32) : Prop := 48 ≤ x ∧ x ≤ 57
set_option maxHeartbeats 600000 in
theorem k_X3_isLetter {l : Launch} {E : gk_E} {S : gk_S} {x : Int32}   : gk_T l E yX3_isLetter cX3_isLetter 1 ((some .boolean)) 0 0 0 0 [.int x] S (fun r S' => r = some (.int (bP (isLt x))) ∧ S' = S) := by
  refine gk_T.of [some (.int x)] (by decide) (Nat.le_of_ble_eq_true rfl) (fun _ _ h => h) ?_
  intro p_ e_ R_ s_ m_ args_ below_ meth_ c_ hR X hr hin
  subst hR
  refine g_iload_n X dX3_isLetter_0 rfl ?_
  refine g_bipush (v := 97) X dX3_isLetter_1 rfl ?_
  refine g_icmp_lt (tgt := 12) X dX3_isLetter_3 rfl (fun c3 => ?_) (fun c3 => ?_)
  · refine g_iload_n X dX3_isLetter_12 rfl ?_
    refine g_bipush (v := 65) X dX3_isLetter_13 rfl ?_
    refine g_icmp_lt (tgt := 28) X dX3_isLetter_15 rfl (fun c15 => ?_) (fun c15 => ?_)
    · refine g_iconst (v := 0) X dX3_isLetter_28 rfl ?_
      refine g_zret X hr dX3_isLetter_29 ?_ (Nat.le_of_ble_eq_true rfl) (Nat.le_of_ble_eq_true rfl) ?_
      · first | rfl | exact nb_bP
      · exact ⟨by first | exact lb_1 (by unfold isLt; grind) | exact lb_0 (by unfold isLt; grind), rfl⟩
    · refine g_iload_n X dX3_isLetter_18 rfl ?_
      refine g_bipush (v := 90) X dX3_isLetter_19 rfl ?_
      refine g_icmp_gt (tgt := 28) X dX3_isLetter_21 rfl (fun c21 => ?_) (fun c21 => ?_)
      · refine g_iconst (v := 0) X dX3_isLetter_28 rfl ?_
        refine g_zret X hr dX3_isLetter_29 ?_ (Nat.le_of_ble_eq_true rfl) (Nat.le_of_ble_eq_true rfl) ?_
        · first | rfl | exact nb_bP
        · exact ⟨by first | exact lb_1 (by unfold isLt; grind) | exact lb_0 (by unfold isLt; grind), rfl⟩
      · refine g_iconst (v := 1) X dX3_isLetter_24 rfl ?_
        refine g_goto (tgt := 29) X dX3_isLetter_25 rfl ?_
        refine g_zret X hr dX3_isLetter_29 ?_ (Nat.le_of_ble_eq_true rfl) (Nat.le_of_ble_eq_true rfl) ?_
        · first | rfl | exact nb_bP
        · exact ⟨by first | exact lb_1 (by unfold isLt; grind) | exact lb_0 (by unfold isLt; grind), rfl⟩
  · refine g_iload_n X dX3_isLetter_6 rfl ?_
    refine g_bipush (v := 122) X dX3_isLetter_7 rfl ?_
    refine g_icmp_le (tgt := 24) X dX3_isLetter_9 rfl (fun c9 => ?_) (fun c9 => ?_)
    · refine g_iconst (v := 1) X dX3_isLetter_24 rfl ?_
      refine g_goto (tgt := 29) X dX3_isLetter_25 rfl ?_
      refine g_zret X hr dX3_isLetter_29 ?_ (Nat.le_of_ble_eq_true rfl) (Nat.le_of_ble_eq_true rfl) ?_
      · first | rfl | exact nb_bP
      · exact ⟨by first | exact lb_1 (by unfold isLt; grind) | exact lb_0 (by unfold isLt; grind), rfl⟩
    · refine g_iload_n X dX3_isLetter_12 rfl ?_
      refine g_bipush (v := 65) X dX3_isLetter_13 rfl ?_
      refine g_icmp_lt (tgt := 28) X dX3_isLetter_15 rfl (fun c15 => ?_) (fun c15 => ?_)
      · refine g_iconst (v := 0) X dX3_isLetter_28 rfl ?_
        refine g_zret X hr dX3_isLetter_29 ?_ (Nat.le_of_ble_eq_true rfl) (Nat.le_of_ble_eq_true rfl) ?_
        · first | rfl | exact nb_bP
        · exact ⟨by first | exact lb_1 (by unfold isLt; grind) | exact lb_0 (by unfold isLt; grind), rfl⟩
      · refine g_iload_n X dX3_isLetter_18 rfl ?_
        refine g_bipush (v := 90) X dX3_isLetter_19 rfl ?_
        refine g_icmp_gt (tgt := 28) X dX3_isLetter_21 rfl (fun c21 => ?_) (fun c21 => ?_)
        · refine g_iconst (v := 0) X dX3_isLetter_28 rfl ?_
          refine g_zret X hr dX3_isLetter_29 ?_ (Nat.le_of_ble_eq_true rfl) (Nat.le_of_ble_eq_true rfl) ?_
          · first | rfl | exact nb_bP
          · exact ⟨by first | exact lb_1 (by unfold isLt; grind) | exact lb_0 (by unfold isLt; grind), rfl⟩
        · refine g_iconst (v := 1) X dX3_isLetter_24 rfl ?_
          refine g_goto (tgt := 29) X dX3_isLetter_25 rfl ?_
          refine g_zret X hr dX3_isLetter_29 ?_ (Nat.le_of_ble_eq_true rfl) (Nat.le_of_ble_eq_true rfl) ?_
          · first | rfl | exact nb_bP
          · exact ⟨by first | exact lb_1 (by unfold isLt; grind) | exact lb_0 (by unfold isLt; grind), rfl⟩
set_option maxHeartbeats 600000 in
theorem k_X3_isDigit {l : Launch} {E : gk_E} {S : gk_S} {x : Int32}   : gk_T l E yX3_isDigit cX3_isDigit 1 ((some .boolean)) 0 0 0 0 [.int x] S (fun r S' => r = some (.int (bP (isDg x))) ∧ S' = S) := by
  refine gk_T.of [some (.int x)] (by decide) (Nat.le_of_ble_eq_true rfl) (fun _ _ h => h) ?_
  intro p_ e_ R_ s_ m_ args_ below_ meth_ c_ hR X hr hin
  subst hR
  refine g_iload_n X dX3_isDigit_0 rfl ?_
  refine g_bipush (v := 48) X dX3_isDigit_1 rfl ?_
  refine g_icmp_lt (tgt := 16) X dX3_isDigit_3 rfl (fun c3 => ?_) (fun c3 => ?_)
  · refine g_iconst (v := 0) X dX3_isDigit_16 rfl ?_
    refine g_zret X hr dX3_isDigit_17 ?_ (Nat.le_of_ble_eq_true rfl) (Nat.le_of_ble_eq_true rfl) ?_
    · first | rfl | exact nb_bP
    · exact ⟨by first | exact lb_1 (by unfold isDg; grind) | exact lb_0 (by unfold isDg; grind), rfl⟩
  · refine g_iload_n X dX3_isDigit_6 rfl ?_
    refine g_bipush (v := 57) X dX3_isDigit_7 rfl ?_
    refine g_icmp_gt (tgt := 16) X dX3_isDigit_9 rfl (fun c9 => ?_) (fun c9 => ?_)
    · refine g_iconst (v := 0) X dX3_isDigit_16 rfl ?_
      refine g_zret X hr dX3_isDigit_17 ?_ (Nat.le_of_ble_eq_true rfl) (Nat.le_of_ble_eq_true rfl) ?_
      · first | rfl | exact nb_bP
      · exact ⟨by first | exact lb_1 (by unfold isDg; grind) | exact lb_0 (by unfold isDg; grind), rfl⟩
    · refine g_iconst (v := 1) X dX3_isDigit_12 rfl ?_
      refine g_goto (tgt := 17) X dX3_isDigit_13 rfl ?_
      refine g_zret X hr dX3_isDigit_17 ?_ (Nat.le_of_ble_eq_true rfl) (Nat.le_of_ble_eq_true rfl) ?_
      · first | rfl | exact nb_bP
      · exact ⟨by first | exact lb_1 (by unfold isDg; grind) | exact lb_0 (by unfold isDg; grind), rfl⟩
