set_option maxHeartbeats 600000 in
theorem k_X0_claim {l : Launch} {E : gk_E} (ho : E.2.2.2.2 = true) {S : gk_S} {c : Int32} {w : Int32} {a n : Nat} {f : Nat → Int32} (hu : RU E S a n f) : gk_T l E yX0_claim cX0_claim 3 ((some .int)) 3 61 0 0 [.ref (E.2.2.1 0), .int c, .int w] S (fun r S' => r = some (.int (if (0 ≤ c ∧ c ≤ nI n - 1) ∧ 0 ≤ w ∧ w ≤ 2 then (if w = 0 then f (ix c) else if w = 1 then (S.1 11 2 >>> (c &&& 31)) &&& 1 else S.1 11 (3 + ix c)) else -1)) ∧ S' = S) := by
  refine gk_T.of [some (.ref (E.2.2.1 0)), some (.int c), some (.int w)] (by decide) (Nat.le_of_ble_eq_true rfl) (fun _ _ h => h) ?_
  intro p_ e_ R_ s_ m_ args_ below_ meth_ c_ hR X hr hin
  subst hR
  have hn8 : n ≤ 8 := hu.1
  refine g_aload_n X dX0_claim_0 rfl ?_
  refine g_iload_n X dX0_claim_1 rfl ?_
  refine g_callV (C := RX0) (T := TX0) (N := 13) X (k_X0_isClaim ho hu) (lw_V q1082 q1084 qs36 q135 q1085) hd_X0_isClaim dX0_claim_2 (rd0 ho) rfl rfl ⟨Nat.le_of_ble_eq_true rfl, Nat.le_of_ble_eq_true rfl⟩ ⟨Nat.le_of_ble_eq_true rfl, Nat.le_of_ble_eq_true rfl⟩ (Nat.le_of_ble_eq_true rfl) ?_
  rintro _ S1 ⟨rfl, hS1⟩
  obtain rfl := hS1.symm
  refine g_ifp_eq (tgt := 17) X dX0_claim_5 rfl (fun c5 => ?_) (fun c5 => ?_)
  · refine g_iconst (v := (-1)) X dX0_claim_17 rfl ?_
    exact g_iret X hr dX0_claim_18 (Nat.le_of_ble_eq_true rfl) (Nat.le_of_ble_eq_true rfl) (⟨by rw [if_neg (fun z => c5 z.1)], rfl⟩)
  · refine g_iload_n X dX0_claim_8 rfl ?_
    refine g_iconst (v := 0) X dX0_claim_9 rfl ?_
    refine g_iconst (v := 2) X dX0_claim_10 rfl ?_
    refine g_callS X (k_X0_in ho) (lw_S q291 q292 q135 q293) hd_X0_in dX0_claim_11 rfl ⟨Nat.le_of_ble_eq_true rfl, Nat.le_of_ble_eq_true rfl⟩ ⟨Nat.le_of_ble_eq_true rfl, Nat.le_of_ble_eq_true rfl⟩ (Nat.le_of_ble_eq_true rfl) ?_
    rintro _ S1 ⟨rfl, hS1⟩
    obtain rfl := hS1.symm
    refine g_ifp_ne (tgt := 19) X dX0_claim_14 rfl (fun c14 => ?_) (fun c14 => ?_)
    · have hc : ix c < 8 := Nat.lt_of_lt_of_le (cl_lt hn8 c5) hn8
      refine g_iload_n X dX0_claim_19 rfl ?_
      refine g_if_ne (tgt := 35) X dX0_claim_20 rfl (fun c20 => ?_) (fun c20 => ?_)
      · refine g_iload_n X dX0_claim_35 rfl ?_
        refine g_iconst (v := 1) X dX0_claim_36 rfl ?_
        refine g_icmp_ne (tgt := 56) X dX0_claim_37 rfl (fun c37 => ?_) (fun c37 => ?_)
        · refine g_aload_n X dX0_claim_56 rfl ?_
          refine g_get (C := RX0) (T := TX0) (N := 13) X 0 in_X0 dX0_claim_57 q241 (rd0 ho) rfl (Nat.le_of_ble_eq_true rfl) (fun _ h9 => h9) rfl ?_
          refine g_getN (C := RX1) (T := TX1) (N := 8) X 1 in_X1 dX0_claim_60 q197 (rd1 ho) rfl (Nat.le_of_ble_eq_true rfl) (fun _ h9 => h9) rfl ?_
          refine g_iconst (v := 3) X dX0_claim_63 rfl ?_
          refine g_iload_n X dX0_claim_64 rfl ?_
          refine g_iadd X dX0_claim_65 ?_
          refine g_iald (j := 3 + ix c) X dX0_claim_66 (rdi ho (11) (rfl)) (ad_3 c5.1 3) (by omega) (by decide) ?_
          exact g_iret X hr dX0_claim_67 (Nat.le_of_ble_eq_true rfl) (Nat.le_of_ble_eq_true rfl) (⟨by rw [if_pos ⟨c5, c14⟩, if_neg c20, if_neg c37], rfl⟩)
        · refine g_aload_n X dX0_claim_40 rfl ?_
          refine g_get (C := RX0) (T := TX0) (N := 13) X 0 in_X0 dX0_claim_41 q241 (rd0 ho) rfl (Nat.le_of_ble_eq_true rfl) (fun _ h9 => h9) rfl ?_
          refine g_getN (C := RX1) (T := TX1) (N := 8) X 1 in_X1 dX0_claim_44 q197 (rd1 ho) rfl (Nat.le_of_ble_eq_true rfl) (fun _ h9 => h9) rfl ?_
          refine g_iconst (v := 2) X dX0_claim_47 rfl ?_
          refine g_iald (j := 2) X dX0_claim_48 (rdi ho (11) (rfl)) rfl (by decide) (by decide) ?_
          refine g_iload_n X dX0_claim_49 rfl ?_
          refine g_ishr X dX0_claim_50 ?_
          refine g_iconst (v := 1) X dX0_claim_51 rfl ?_
          refine g_iand X dX0_claim_52 ?_
          refine g_goto (tgt := 67) X dX0_claim_53 rfl ?_
          exact g_iret X hr dX0_claim_67 (Nat.le_of_ble_eq_true rfl) (Nat.le_of_ble_eq_true rfl) (⟨by rw [if_pos ⟨c5, c14⟩, if_neg c20, if_pos c37], rfl⟩)
      · refine g_aload_n X dX0_claim_23 rfl ?_
        refine g_callV (C := RX0) (T := TX0) (N := 13) X (k_X0_rules ho hu) (lw_V q1019 q1021 qs28 q135 q1022) hd_X0_rules dX0_claim_24 (rd0 ho) rfl rfl ⟨Nat.le_of_ble_eq_true rfl, Nat.le_of_ble_eq_true rfl⟩ ⟨Nat.le_of_ble_eq_true rfl, Nat.le_of_ble_eq_true rfl⟩ (Nat.le_of_ble_eq_true rfl) ?_
        rintro _ S1 ⟨rfl, hS1⟩
        obtain rfl := hS1.symm
        obtain ⟨-, -, w0, tb, dl, cl, ht1, ht2⟩ := id hu
        refine g_getN (C := RX4) (T := TX4) (N := 5) X 1 in_X4 dX0_claim_27 q393 (rd_dy ht1) rfl (Nat.le_of_ble_eq_true rfl) (fun _ h9 => h9) rfl ?_
        refine g_iload_n X dX0_claim_30 rfl ?_
        refine g_iald (j := ix c) X dX0_claim_31 (rd_dy ht2) (ix_i c5.1) hc (by decide) ?_
        refine g_goto (tgt := 67) X dX0_claim_32 rfl ?_
        exact g_iret X hr dX0_claim_67 (Nat.le_of_ble_eq_true rfl) (Nat.le_of_ble_eq_true rfl) (⟨by rw [if_pos ⟨c5, c14⟩, if_pos c20], rfl⟩)
    · refine g_iconst (v := (-1)) X dX0_claim_17 rfl ?_
      exact g_iret X hr dX0_claim_18 (Nat.le_of_ble_eq_true rfl) (Nat.le_of_ble_eq_true rfl) (⟨by rw [if_neg (fun z => c14 z.2)], rfl⟩)
set_option maxHeartbeats 600000 in
theorem k_X2_claim {l : Launch} {E : gk_E} (ho : E.2.2.2.2 = true) {S : gk_S} {c : Int32} {w : Int32} {n : Nat} {f : Nat → Int32} (hu : MU S n f) : gk_T l E yX2_claim cX2_claim 3 ((some .int)) 2 43 0 0 [.ref (E.2.2.1 3), .int c, .int w] S (fun r S' => r = some (.int (if 0 ≤ c ∧ c ≤ nI n - 1 then (if w = 0 then f (ix c) else if w = 1 then (S.1 400 7 >>> (c &&& 31)) &&& 1 else if w = 2 then S.1 400 (9 + ix c) else -1) else -1)) ∧ S' = S) := by
  refine gk_T.of [some (.ref (E.2.2.1 3)), some (.int c), some (.int w)] (by decide) (Nat.le_of_ble_eq_true rfl) (fun _ _ h => h) ?_
  intro p_ e_ R_ s_ m_ args_ below_ meth_ c_ hR X hr hin
  subst hR
  have hn8 : n ≤ 8 := hu.1
  refine g_aload_n X dX2_claim_0 rfl ?_
  refine g_iload_n X dX2_claim_1 rfl ?_
  refine g_callV (C := RX2) (T := TX2) (N := 35) X (k_X2_isClaim ho hu) (lw_V q1751 q1753 qs96 q139 q1754) hd_X2_isClaim dX2_claim_2 (rd3 ho) rfl rfl ⟨Nat.le_of_ble_eq_true rfl, Nat.le_of_ble_eq_true rfl⟩ ⟨Nat.le_of_ble_eq_true rfl, Nat.le_of_ble_eq_true rfl⟩ (Nat.le_of_ble_eq_true rfl) ?_
  rintro _ S1 ⟨rfl, hS1⟩
  obtain rfl := hS1.symm
  refine g_ifp_ne (tgt := 10) X dX2_claim_5 rfl (fun c5 => ?_) (fun c5 => ?_)
  · have hc : ix c < 8 := Nat.lt_of_lt_of_le (cl_lt hn8 c5) hn8
    refine g_iload_n X dX2_claim_10 rfl ?_
    refine g_if_ne (tgt := 22) X dX2_claim_11 rfl (fun c11 => ?_) (fun c11 => ?_)
    · refine g_iload_n X dX2_claim_22 rfl ?_
      refine g_iconst (v := 1) X dX2_claim_23 rfl ?_
      refine g_icmp_ne (tgt := 41) X dX2_claim_24 rfl (fun c24 => ?_) (fun c24 => ?_)
      · refine g_iload_n X dX2_claim_41 rfl ?_
        refine g_iconst (v := 2) X dX2_claim_42 rfl ?_
        refine g_icmp_ne (tgt := 58) X dX2_claim_43 rfl (fun c43 => ?_) (fun c43 => ?_)
        · refine g_iconst (v := (-1)) X dX2_claim_58 rfl ?_
          exact g_iret X hr dX2_claim_59 (Nat.le_of_ble_eq_true rfl) (Nat.le_of_ble_eq_true rfl) (⟨by rw [if_pos c5, if_neg c11, if_neg c24, if_neg c43], rfl⟩)
        · refine g_aload_n X dX2_claim_46 rfl ?_
          refine g_get (C := RX2) (T := TX2) (N := 35) X 0 in_X2 dX2_claim_47 q1405 (rd3 ho) rfl (Nat.le_of_ble_eq_true rfl) (fun _ h9 => h9) rfl ?_
          refine g_bipush (v := 9) X dX2_claim_50 rfl ?_
          refine g_iload_n X dX2_claim_52 rfl ?_
          refine g_iadd X dX2_claim_53 ?_
          refine g_iald (j := 9 + ix c) X dX2_claim_54 (rdi ho (400) (rfl)) (ad_3 c5.1 9) (by omega) (by decide) ?_
          refine g_goto (tgt := 59) X dX2_claim_55 rfl ?_
          exact g_iret X hr dX2_claim_59 (Nat.le_of_ble_eq_true rfl) (Nat.le_of_ble_eq_true rfl) (⟨by rw [if_pos c5, if_neg c11, if_neg c24, if_pos c43], rfl⟩)
      · refine g_aload_n X dX2_claim_27 rfl ?_
        refine g_get (C := RX2) (T := TX2) (N := 35) X 0 in_X2 dX2_claim_28 q1405 (rd3 ho) rfl (Nat.le_of_ble_eq_true rfl) (fun _ h9 => h9) rfl ?_
        refine g_bipush (v := 7) X dX2_claim_31 rfl ?_
        refine g_iald (j := 7) X dX2_claim_33 (rdi ho (400) (rfl)) rfl (by decide) (by decide) ?_
        refine g_iload_n X dX2_claim_34 rfl ?_
        refine g_ishr X dX2_claim_35 ?_
        refine g_iconst (v := 1) X dX2_claim_36 rfl ?_
        refine g_iand X dX2_claim_37 ?_
        refine g_goto (tgt := 59) X dX2_claim_38 rfl ?_
        exact g_iret X hr dX2_claim_59 (Nat.le_of_ble_eq_true rfl) (Nat.le_of_ble_eq_true rfl) (⟨by rw [if_pos c5, if_neg c11, if_pos c24], rfl⟩)
    · refine g_aload_n X dX2_claim_14 rfl ?_
      refine g_iload_n X dX2_claim_15 rfl ?_
      refine g_callV (C := RX2) (T := TX2) (N := 35) X (k_X2_tableOf ho hu (ix_i c5.1) (cl_lt hn8 c5)) (lw_V q1768 q1770 qs100 q139 q1771) hd_X2_tableOf dX2_claim_16 (rd3 ho) rfl rfl ⟨Nat.le_of_ble_eq_true rfl, Nat.le_of_ble_eq_true rfl⟩ ⟨Nat.le_of_ble_eq_true rfl, Nat.le_of_ble_eq_true rfl⟩ (Nat.le_of_ble_eq_true rfl) ?_
      rintro _ S1 ⟨rfl, hS1⟩
      obtain rfl := hS1.symm
      refine g_goto (tgt := 59) X dX2_claim_19 rfl ?_
      exact g_iret X hr dX2_claim_59 (Nat.le_of_ble_eq_true rfl) (Nat.le_of_ble_eq_true rfl) (⟨by rw [if_pos c5, if_pos c11], rfl⟩)
  · refine g_iconst (v := (-1)) X dX2_claim_8 rfl ?_
    exact g_iret X hr dX2_claim_9 (Nat.le_of_ble_eq_true rfl) (Nat.le_of_ble_eq_true rfl) (⟨by rw [if_neg c5], rfl⟩)
set_option maxHeartbeats 600000 in
theorem k_X0_is {l : Launch} {E : gk_E} (ho : E.2.2.2.2 = true) {S : gk_S} {w : Int32} {a n : Nat} {f : Nat → Int32} (hu : RU E S a n f) : gk_T l E yX0_is cX0_is 2 ((some .int)) 4 81 0 0 [.ref (E.2.2.1 0), .int w] S (fun r S' => r = some (.int (if w = 0 then S.1 11 0 else if w = 1 then S.1 11 1 else if w = 2 then S.1 11 2 &&& alC n else if w = 3 then (frA (fun c => ¬ S.1 11 (3 + ix c) ≤ 0) n) else if w = 4 then nI n else -2)) ∧ S' = S) := by
  refine gk_T.of [some (.ref (E.2.2.1 0)), some (.int w)] (by decide) (Nat.le_of_ble_eq_true rfl) (fun _ _ h => h) ?_
  intro p_ e_ R_ s_ m_ args_ below_ meth_ c_ hR X hr hin
  subst hR
  refine g_iload_n X dX0_is_0 rfl ?_
  rcases Decidable.em ((w).toInt < 0 ∨ 4 < (w).toInt) with h1 | h1
  · refine g_tableOut (tgt := 78) X dX0_is_1 h1 rfl ?_
    refine g_bipush (v := (-2)) X dX0_is_78 rfl ?_
    exact g_iret X hr dX0_is_80 (Nat.le_of_ble_eq_true rfl) (Nat.le_of_ble_eq_true rfl) (⟨by rw [if_neg (fun z => by rw [z] at h1; revert h1; decide), if_neg (fun z => by rw [z] at h1; revert h1; decide), if_neg (fun z => by rw [z] at h1; revert h1; decide), if_neg (fun z => by rw [z] at h1; revert h1; decide), if_neg (fun z => by rw [z] at h1; revert h1; decide)], rfl⟩)
  · rcases (show (w).toInt = 0 ∨ (w).toInt = 1 ∨ (w).toInt = 2 ∨ (w).toInt = 3 ∨ (w).toInt = 4 from by omega) with s1 | s1 | s1 | s1 | s1
    · have s1 : w = 0 := Int32.toInt_inj.mp (s1.trans (by decide))
      refine g_tableIn (off := 35) (tgt := 36) X dX0_is_1 (by rw [s1]; decide) (by rw [s1]; decide) (by rw [s1]; rfl) rfl ?_
      refine g_aload_n X dX0_is_36 rfl ?_
      refine g_get (C := RX0) (T := TX0) (N := 13) X 0 in_X0 dX0_is_37 q241 (rd0 ho) rfl (Nat.le_of_ble_eq_true rfl) (fun _ h9 => h9) rfl ?_
      refine g_getN (C := RX1) (T := TX1) (N := 8) X 1 in_X1 dX0_is_40 q197 (rd1 ho) rfl (Nat.le_of_ble_eq_true rfl) (fun _ h9 => h9) rfl ?_
      refine g_iconst (v := 0) X dX0_is_43 rfl ?_
      refine g_iald (j := 0) X dX0_is_44 (rdi ho (11) (rfl)) rfl (by decide) (by decide) ?_
      exact g_iret X hr dX0_is_45 (Nat.le_of_ble_eq_true rfl) (Nat.le_of_ble_eq_true rfl) (⟨by rw [if_pos s1], rfl⟩)
    · have s1 : w = 1 := Int32.toInt_inj.mp (s1.trans (by decide))
      refine g_tableIn (off := 45) (tgt := 46) X dX0_is_1 (by rw [s1]; decide) (by rw [s1]; decide) (by rw [s1]; rfl) rfl ?_
      refine g_aload_n X dX0_is_46 rfl ?_
      refine g_get (C := RX0) (T := TX0) (N := 13) X 0 in_X0 dX0_is_47 q241 (rd0 ho) rfl (Nat.le_of_ble_eq_true rfl) (fun _ h9 => h9) rfl ?_
      refine g_getN (C := RX1) (T := TX1) (N := 8) X 1 in_X1 dX0_is_50 q197 (rd1 ho) rfl (Nat.le_of_ble_eq_true rfl) (fun _ h9 => h9) rfl ?_
      refine g_iconst (v := 1) X dX0_is_53 rfl ?_
      refine g_iald (j := 1) X dX0_is_54 (rdi ho (11) (rfl)) rfl (by decide) (by decide) ?_
      exact g_iret X hr dX0_is_55 (Nat.le_of_ble_eq_true rfl) (Nat.le_of_ble_eq_true rfl) (⟨by rw [if_neg (by rw [s1]; decide), if_pos s1], rfl⟩)
    · have s1 : w = 2 := Int32.toInt_inj.mp (s1.trans (by decide))
      refine g_tableIn (off := 55) (tgt := 56) X dX0_is_1 (by rw [s1]; decide) (by rw [s1]; decide) (by rw [s1]; rfl) rfl ?_
      refine g_aload_n X dX0_is_56 rfl ?_
      refine g_aload_n X dX0_is_57 rfl ?_
      refine g_get (C := RX0) (T := TX0) (N := 13) X 0 in_X0 dX0_is_58 q241 (rd0 ho) rfl (Nat.le_of_ble_eq_true rfl) (fun _ h9 => h9) rfl ?_
      refine g_getN (C := RX1) (T := TX1) (N := 8) X 1 in_X1 dX0_is_61 q197 (rd1 ho) rfl (Nat.le_of_ble_eq_true rfl) (fun _ h9 => h9) rfl ?_
      refine g_callV (C := RX0) (T := TX0) (N := 13) X (k_X0_heldNow ho (q := 11) rfl hu) (lw_V q1035 q1037 qs30 q135 q1038) hd_X0_heldNow dX0_is_64 (rd0 ho) rfl rfl ⟨Nat.le_of_ble_eq_true rfl, Nat.le_of_ble_eq_true rfl⟩ ⟨Nat.le_of_ble_eq_true rfl, Nat.le_of_ble_eq_true rfl⟩ (Nat.le_of_ble_eq_true rfl) ?_
      rintro _ S1 ⟨rfl, hS1⟩
      obtain rfl := hS1.symm
      exact g_iret X hr dX0_is_67 (Nat.le_of_ble_eq_true rfl) (Nat.le_of_ble_eq_true rfl) (⟨by rw [if_neg (by rw [s1]; decide), if_neg (by rw [s1]; decide), if_pos s1], rfl⟩)
    · have s1 : w = 3 := Int32.toInt_inj.mp (s1.trans (by decide))
      refine g_tableIn (off := 67) (tgt := 68) X dX0_is_1 (by rw [s1]; decide) (by rw [s1]; decide) (by rw [s1]; rfl) rfl ?_
      refine g_aload_n X dX0_is_68 rfl ?_
      refine g_callV (C := RX0) (T := TX0) (N := 13) X (k_X0_barredNow ho hu) (lw_V q1173 q1175 qs43 q135 q1176) hd_X0_barredNow dX0_is_69 (rd0 ho) rfl rfl ⟨Nat.le_of_ble_eq_true rfl, Nat.le_of_ble_eq_true rfl⟩ ⟨Nat.le_of_ble_eq_true rfl, Nat.le_of_ble_eq_true rfl⟩ (Nat.le_of_ble_eq_true rfl) ?_
      rintro _ S1 ⟨rfl, hS1⟩
      obtain rfl := hS1.symm
      exact g_iret X hr dX0_is_72 (Nat.le_of_ble_eq_true rfl) (Nat.le_of_ble_eq_true rfl) (⟨by rw [if_neg (by rw [s1]; decide), if_neg (by rw [s1]; decide), if_neg (by rw [s1]; decide), if_pos s1], rfl⟩)
    · have s1 : w = 4 := Int32.toInt_inj.mp (s1.trans (by decide))
      refine g_tableIn (off := 72) (tgt := 73) X dX0_is_1 (by rw [s1]; decide) (by rw [s1]; decide) (by rw [s1]; rfl) rfl ?_
      refine g_aload_n X dX0_is_73 rfl ?_
      refine g_callV (C := RX0) (T := TX0) (N := 13) X (k_X0_claims ho hu) (lw_V q1015 q1017 qs27 q135 q1018) hd_X0_claims dX0_is_74 (rd0 ho) rfl rfl ⟨Nat.le_of_ble_eq_true rfl, Nat.le_of_ble_eq_true rfl⟩ ⟨Nat.le_of_ble_eq_true rfl, Nat.le_of_ble_eq_true rfl⟩ (Nat.le_of_ble_eq_true rfl) ?_
      rintro _ S1 ⟨rfl, hS1⟩
      obtain rfl := hS1.symm
      exact g_iret X hr dX0_is_77 (Nat.le_of_ble_eq_true rfl) (Nat.le_of_ble_eq_true rfl) (⟨by rw [if_neg (by rw [s1]; decide), if_neg (by rw [s1]; decide), if_neg (by rw [s1]; decide), if_neg (by rw [s1]; decide), if_pos s1], rfl⟩)
theorem in01 {w : Int32} (h : 0 ≤ w ∧ w ≤ 1) : w = 0 ∨ w = 1 := by
  have h1 := ix_i h.1
  have h2 := ix_le 1 (by decide) h.1 h.2
  rcases (show ix w = 0 ∨ ix w = 1 by omega) with q | q
  · left; rw [h1, q]; rfl
  · right; rw [h1, q]; rfl
theorem in12 {w : Int32} (h : 1 ≤ w ∧ w ≤ 2) : w = 1 ∨ w = 2 := by
  have h0 : (0 : Int32) ≤ w := Int32.le_trans (by decide) h.1
  have h1 := ix_i h0
  have h2 := ix_le 2 (by decide) h0 h.2
  rcases (show ix w = 0 ∨ ix w = 1 ∨ ix w = 2 by omega) with q | q | q
  · rw [h1, q] at h; exact absurd h.1 (by decide)
  · left; rw [h1, q]; rfl
  · right; rw [h1, q]; rfl
set_option maxHeartbeats 600000 in
theorem k_X2_is {l : Launch} {E : gk_E} (ho : E.2.2.2.2 = true) {S : gk_S} {w : Int32} {n : Nat} {f : Nat → Int32} (hu : MU S n f) : gk_T l E yX2_is cX2_is 2 ((some .int)) 3 60 0 0 [.ref (E.2.2.1 3), .int w] S (fun r S' => r = some (.int (if w = 0 then S.1 400 5 else if w = 1 then S.1 400 6 else if w = 2 then S.1 400 7 &&& alC n else if w = 3 then (frA (fun c => ¬ S.1 400 (9 + ix c) = 0) n) else if w = 4 then nI n else -2)) ∧ S' = S) := by
  refine gk_T.of [some (.ref (E.2.2.1 3)), some (.int w)] (by decide) (Nat.le_of_ble_eq_true rfl) (fun _ _ h => h) ?_
  intro p_ e_ R_ s_ m_ args_ below_ meth_ c_ hR X hr hin
  subst hR
  refine g_iload_n X dX2_is_0 rfl ?_
  refine g_iconst (v := 0) X dX2_is_1 rfl ?_
  refine g_iconst (v := 1) X dX2_is_2 rfl ?_
  refine g_callS X (k_X2_isIn ho) (lw_S q1516 q1517 q139 q1518) hd_X2_isIn dX2_is_3 rfl ⟨Nat.le_of_ble_eq_true rfl, Nat.le_of_ble_eq_true rfl⟩ ⟨Nat.le_of_ble_eq_true rfl, Nat.le_of_ble_eq_true rfl⟩ (Nat.le_of_ble_eq_true rfl) ?_
  rintro _ S1 ⟨rfl, hS1⟩
  obtain rfl := hS1.symm
  refine g_ifp_eq (tgt := 20) X dX2_is_6 rfl (fun c6 => ?_) (fun c6 => ?_)
  · refine g_iload_n X dX2_is_20 rfl ?_
    refine g_iconst (v := 2) X dX2_is_21 rfl ?_
    refine g_icmp_ne (tgt := 32) X dX2_is_22 rfl (fun c22 => ?_) (fun c22 => ?_)
    · refine g_iload_n X dX2_is_32 rfl ?_
      refine g_iconst (v := 3) X dX2_is_33 rfl ?_
      refine g_icmp_ne (tgt := 44) X dX2_is_34 rfl (fun c34 => ?_) (fun c34 => ?_)
      · refine g_iload_n X dX2_is_44 rfl ?_
        refine g_iconst (v := 4) X dX2_is_45 rfl ?_
        refine g_icmp_ne (tgt := 56) X dX2_is_46 rfl (fun c46 => ?_) (fun c46 => ?_)
        · refine g_bipush (v := (-2)) X dX2_is_56 rfl ?_
          exact g_iret X hr dX2_is_58 (Nat.le_of_ble_eq_true rfl) (Nat.le_of_ble_eq_true rfl) (⟨by rw [if_neg (fun z => c6 (by rw [z]; decide)), if_neg (fun z => c6 (by rw [z]; decide)), if_neg c22, if_neg c34, if_neg c46], rfl⟩)
        · refine g_aload_n X dX2_is_49 rfl ?_
          refine g_callV (C := RX2) (T := TX2) (N := 35) X (k_X2_claims ho hu) (lw_V q1707 q1709 qs94 q139 q1710) hd_X2_claims dX2_is_50 (rd3 ho) rfl rfl ⟨Nat.le_of_ble_eq_true rfl, Nat.le_of_ble_eq_true rfl⟩ ⟨Nat.le_of_ble_eq_true rfl, Nat.le_of_ble_eq_true rfl⟩ (Nat.le_of_ble_eq_true rfl) ?_
          rintro _ S1 ⟨rfl, hS1⟩
          obtain rfl := hS1.symm
          refine g_goto (tgt := 58) X dX2_is_53 rfl ?_
          exact g_iret X hr dX2_is_58 (Nat.le_of_ble_eq_true rfl) (Nat.le_of_ble_eq_true rfl) (⟨by rw [if_neg (fun z => c6 (by rw [z]; decide)), if_neg (fun z => c6 (by rw [z]; decide)), if_neg c22, if_neg c34, if_pos c46], rfl⟩)
      · refine g_aload_n X dX2_is_37 rfl ?_
        refine g_callV (C := RX2) (T := TX2) (N := 35) X (k_X2_barredNow ho hu) (lw_V q1883 q1885 qs117 q139 q1886) hd_X2_barredNow dX2_is_38 (rd3 ho) rfl rfl ⟨Nat.le_of_ble_eq_true rfl, Nat.le_of_ble_eq_true rfl⟩ ⟨Nat.le_of_ble_eq_true rfl, Nat.le_of_ble_eq_true rfl⟩ (Nat.le_of_ble_eq_true rfl) ?_
        rintro _ S1 ⟨rfl, hS1⟩
        obtain rfl := hS1.symm
        refine g_goto (tgt := 58) X dX2_is_41 rfl ?_
        exact g_iret X hr dX2_is_58 (Nat.le_of_ble_eq_true rfl) (Nat.le_of_ble_eq_true rfl) (⟨by rw [if_neg (fun z => c6 (by rw [z]; decide)), if_neg (fun z => c6 (by rw [z]; decide)), if_neg c22, if_pos c34], rfl⟩)
    · refine g_aload_n X dX2_is_25 rfl ?_
      refine g_callV (C := RX2) (T := TX2) (N := 35) X (k_X2_heldNow ho hu) (lw_V q1755 q1757 qs97 q139 q1758) hd_X2_heldNow dX2_is_26 (rd3 ho) rfl rfl ⟨Nat.le_of_ble_eq_true rfl, Nat.le_of_ble_eq_true rfl⟩ ⟨Nat.le_of_ble_eq_true rfl, Nat.le_of_ble_eq_true rfl⟩ (Nat.le_of_ble_eq_true rfl) ?_
      rintro _ S1 ⟨rfl, hS1⟩
      obtain rfl := hS1.symm
      refine g_goto (tgt := 58) X dX2_is_29 rfl ?_
      exact g_iret X hr dX2_is_58 (Nat.le_of_ble_eq_true rfl) (Nat.le_of_ble_eq_true rfl) (⟨by rw [if_neg (fun z => c6 (by rw [z]; decide)), if_neg (fun z => c6 (by rw [z]; decide)), if_pos c22], rfl⟩)
  · have hw : ix w < 2 := Nat.lt_succ_of_le (ix_le 1 (by decide) c6.1 c6.2)
    refine g_aload_n X dX2_is_9 rfl ?_
    refine g_get (C := RX2) (T := TX2) (N := 35) X 0 in_X2 dX2_is_10 q1405 (rd3 ho) rfl (Nat.le_of_ble_eq_true rfl) (fun _ h9 => h9) rfl ?_
    refine g_iconst (v := 5) X dX2_is_13 rfl ?_
    refine g_iload_n X dX2_is_14 rfl ?_
    refine g_iadd X dX2_is_15 ?_
    refine g_iald (j := 5 + ix w) X dX2_is_16 (rdi ho (400) (rfl)) (ad_3 c6.1 5) (by omega) (by decide) ?_
    refine g_goto (tgt := 58) X dX2_is_17 rfl ?_
    exact g_iret X hr dX2_is_58 (Nat.le_of_ble_eq_true rfl) (Nat.le_of_ble_eq_true rfl) (⟨by rcases in01 c6 with z | z; (rw [z]; rfl); (rw [z]; rfl), rfl⟩)
set_option maxHeartbeats 600000 in
theorem k_X0_of {l : Launch} {E : gk_E} (ho : E.2.2.2.2 = true) {S : gk_S} {g : Int32} {w : Int32} {nf : Nat} (h0 : S.1 10 0 = nI nf) (h1 : nf ≤ 5) : gk_T l E yX0_of cX0_of 3 ((some .int)) 2 43 0 0 [.ref (E.2.2.1 0), .int g, .int w] S (fun r S' => r = some (.int (if (0 ≤ g ∧ g ≤ nI nf - 1) ∧ 0 ≤ w ∧ w ≤ 2 then (if w = 0 then S.1 12 (ix g) else if w = 1 then S.1 11 (11 + ix g) else S.1 11 (16 + ix g)) else -2)) ∧ S' = S) := by
  refine gk_T.of [some (.ref (E.2.2.1 0)), some (.int g), some (.int w)] (by decide) (Nat.le_of_ble_eq_true rfl) (fun _ _ h => h) ?_
  intro p_ e_ R_ s_ m_ args_ below_ meth_ c_ hR X hr hin
  subst hR
  refine g_aload_n X dX0_of_0 rfl ?_
  refine g_iload_n X dX0_of_1 rfl ?_
  refine g_callV (C := RX0) (T := TX0) (N := 13) X (k_X0_isFarmer ho) (lw_V q1161 q1163 qs42 q135 q1164) hd_X0_isFarmer dX0_of_2 (rd0 ho) rfl rfl ⟨Nat.le_of_ble_eq_true rfl, Nat.le_of_ble_eq_true rfl⟩ ⟨Nat.le_of_ble_eq_true rfl, Nat.le_of_ble_eq_true rfl⟩ (Nat.le_of_ble_eq_true rfl) ?_
  rintro _ S1 ⟨rfl, hS1⟩
  obtain rfl := hS1.symm
  refine g_ifp_eq (tgt := 17) X dX0_of_5 rfl (fun c5 => ?_) (fun c5 => ?_)
  · refine g_bipush (v := (-2)) X dX0_of_17 rfl ?_
    exact g_iret X hr dX0_of_19 (Nat.le_of_ble_eq_true rfl) (Nat.le_of_ble_eq_true rfl) (⟨by rw [if_neg (fun z => c5 (by rw [h0]; exact z.1))], rfl⟩)
  · refine g_iload_n X dX0_of_8 rfl ?_
    refine g_iconst (v := 0) X dX0_of_9 rfl ?_
    refine g_iconst (v := 2) X dX0_of_10 rfl ?_
    refine g_callS X (k_X0_in ho) (lw_S q291 q292 q135 q293) hd_X0_in dX0_of_11 rfl ⟨Nat.le_of_ble_eq_true rfl, Nat.le_of_ble_eq_true rfl⟩ ⟨Nat.le_of_ble_eq_true rfl, Nat.le_of_ble_eq_true rfl⟩ (Nat.le_of_ble_eq_true rfl) ?_
    rintro _ S1 ⟨rfl, hS1⟩
    obtain rfl := hS1.symm
    refine g_ifp_ne (tgt := 20) X dX0_of_14 rfl (fun c14 => ?_) (fun c14 => ?_)
    · rw [h0] at c5
      have hg : ix g < 5 := Nat.lt_of_lt_of_le (cl_lt (by omega) c5) h1
      refine g_iload_n X dX0_of_20 rfl ?_
      refine g_if_ne (tgt := 36) X dX0_of_21 rfl (fun c21 => ?_) (fun c21 => ?_)
      · refine g_aload_n X dX0_of_36 rfl ?_
        refine g_get (C := RX0) (T := TX0) (N := 13) X 0 in_X0 dX0_of_37 q241 (rd0 ho) rfl (Nat.le_of_ble_eq_true rfl) (fun _ h9 => h9) rfl ?_
        refine g_getN (C := RX1) (T := TX1) (N := 8) X 1 in_X1 dX0_of_40 q197 (rd1 ho) rfl (Nat.le_of_ble_eq_true rfl) (fun _ h9 => h9) rfl ?_
        refine g_iload_n X dX0_of_43 rfl ?_
        refine g_iconst (v := 1) X dX0_of_44 rfl ?_
        refine g_icmp_ne (tgt := 53) X dX0_of_45 rfl (fun c45 => ?_) (fun c45 => ?_)
        · refine g_bipush (v := 16) X dX0_of_53 rfl ?_
          refine g_iload_n X dX0_of_55 rfl ?_
          refine g_iadd X dX0_of_56 ?_
          first
          | refine g_iald (j := 11 + ix g) X dX0_of_57 (rdi ho (11) (rfl)) (ad_3 c5.1 11) (by omega) (by decide) ?_
          | refine g_iald (j := 16 + ix g) X dX0_of_57 (rdi ho (11) (rfl)) (ad_3 c5.1 16) (by omega) (by decide) ?_
          exact g_iret X hr dX0_of_58 (Nat.le_of_ble_eq_true rfl) (Nat.le_of_ble_eq_true rfl) (⟨by rw [if_pos ⟨c5, c14⟩, if_neg c21, if_neg c45], rfl⟩)
        · refine g_bipush (v := 11) X dX0_of_48 rfl ?_
          refine g_goto (tgt := 55) X dX0_of_50 rfl ?_
          refine g_iload_n X dX0_of_55 rfl ?_
          refine g_iadd X dX0_of_56 ?_
          first
          | refine g_iald (j := 11 + ix g) X dX0_of_57 (rdi ho (11) (rfl)) (ad_3 c5.1 11) (by omega) (by decide) ?_
          | refine g_iald (j := 16 + ix g) X dX0_of_57 (rdi ho (11) (rfl)) (ad_3 c5.1 16) (by omega) (by decide) ?_
          exact g_iret X hr dX0_of_58 (Nat.le_of_ble_eq_true rfl) (Nat.le_of_ble_eq_true rfl) (⟨by rw [if_pos ⟨c5, c14⟩, if_neg c21, if_pos c45], rfl⟩)
      · refine g_aload_n X dX0_of_24 rfl ?_
        refine g_get (C := RX0) (T := TX0) (N := 13) X 0 in_X0 dX0_of_25 q241 (rd0 ho) rfl (Nat.le_of_ble_eq_true rfl) (fun _ h9 => h9) rfl ?_
        refine g_getN (C := RX1) (T := TX1) (N := 8) X 2 in_X1 dX0_of_28 q199 (rd1 ho) rfl (Nat.le_of_ble_eq_true rfl) (fun _ h9 => h9) rfl ?_
        refine g_iload_n X dX0_of_31 rfl ?_
        refine g_iald (j := ix g) X dX0_of_32 (rdi ho (12) (rfl)) (ix_i c5.1) hg (by decide) ?_
        refine g_goto (tgt := 58) X dX0_of_33 rfl ?_
        exact g_iret X hr dX0_of_58 (Nat.le_of_ble_eq_true rfl) (Nat.le_of_ble_eq_true rfl) (⟨by rw [if_pos ⟨c5, c14⟩, if_pos c21], rfl⟩)
    · refine g_bipush (v := (-2)) X dX0_of_17 rfl ?_
      exact g_iret X hr dX0_of_19 (Nat.le_of_ble_eq_true rfl) (Nat.le_of_ble_eq_true rfl) (⟨by rw [if_neg (fun z => c14 z.2)], rfl⟩)
set_option maxHeartbeats 600000 in
theorem k_X2_of {l : Launch} {E : gk_E} (ho : E.2.2.2.2 = true) {S : gk_S} {g : Int32} {w : Int32} {nf : Nat} (h0 : S.1 400 0 = nI nf) (h1 : nf ≤ 5) : gk_T l E yX2_of cX2_of 3 ((some .int)) 2 43 0 0 [.ref (E.2.2.1 3), .int g, .int w] S (fun r S' => r = some (.int (if 0 ≤ g ∧ g ≤ nI nf - 1 then (if w = 0 then S.1 400 (27 + ix g) else if 1 ≤ w ∧ w ≤ 2 then S.1 400 (17 + 2 * ix g + ix w - 1) else -2) else -2)) ∧ S' = S) := by
  refine gk_T.of [some (.ref (E.2.2.1 3)), some (.int g), some (.int w)] (by decide) (Nat.le_of_ble_eq_true rfl) (fun _ _ h => h) ?_
  intro p_ e_ R_ s_ m_ args_ below_ meth_ c_ hR X hr hin
  subst hR
  refine g_aload_n X dX2_of_0 rfl ?_
  refine g_iload_n X dX2_of_1 rfl ?_
  refine g_callV (C := RX2) (T := TX2) (N := 35) X (k_X2_isFarmer ho) (lw_V q1871 q1873 qs116 q139 q1874) hd_X2_isFarmer dX2_of_2 (rd3 ho) rfl rfl ⟨Nat.le_of_ble_eq_true rfl, Nat.le_of_ble_eq_true rfl⟩ ⟨Nat.le_of_ble_eq_true rfl, Nat.le_of_ble_eq_true rfl⟩ (Nat.le_of_ble_eq_true rfl) ?_
  rintro _ S1 ⟨rfl, hS1⟩
  obtain rfl := hS1.symm
  refine g_ifp_ne (tgt := 11) X dX2_of_5 rfl (fun c5 => ?_) (fun c5 => ?_)
  · rw [h0] at c5
    have hg : ix g < 5 := Nat.lt_of_lt_of_le (cl_lt (by omega) c5) h1
    refine g_iload_n X dX2_of_11 rfl ?_
    refine g_if_ne (tgt := 27) X dX2_of_12 rfl (fun c12 => ?_) (fun c12 => ?_)
    · refine g_iload_n X dX2_of_27 rfl ?_
      refine g_iconst (v := 1) X dX2_of_28 rfl ?_
      refine g_iconst (v := 2) X dX2_of_29 rfl ?_
      refine g_callS X (k_X2_isIn ho) (lw_S q1516 q1517 q139 q1518) hd_X2_isIn dX2_of_30 rfl ⟨Nat.le_of_ble_eq_true rfl, Nat.le_of_ble_eq_true rfl⟩ ⟨Nat.le_of_ble_eq_true rfl, Nat.le_of_ble_eq_true rfl⟩ (Nat.le_of_ble_eq_true rfl) ?_
      rintro _ S1 ⟨rfl, hS1⟩
      obtain rfl := hS1.symm
      refine g_ifp_eq (tgt := 54) X dX2_of_33 rfl (fun c33 => ?_) (fun c33 => ?_)
      · refine g_bipush (v := (-2)) X dX2_of_54 rfl ?_
        exact g_iret X hr dX2_of_56 (Nat.le_of_ble_eq_true rfl) (Nat.le_of_ble_eq_true rfl) (⟨by rw [if_pos c5, if_neg c12, if_neg c33], rfl⟩)
      · have hw : ix w = 1 ∨ ix w = 2 := (in12 c33).imp (fun z => by rw [z]; rfl) (fun z => by rw [z]; rfl)
        have hwi : w = nI (ix w) := (in12 c33).elim (fun z => by rw [z]; rfl) (fun z => by rw [z]; rfl)
        refine g_aload_n X dX2_of_36 rfl ?_
        refine g_get (C := RX2) (T := TX2) (N := 35) X 0 in_X2 dX2_of_37 q1405 (rd3 ho) rfl (Nat.le_of_ble_eq_true rfl) (fun _ h9 => h9) rfl ?_
        refine g_bipush (v := 17) X dX2_of_40 rfl ?_
        refine g_iconst (v := 2) X dX2_of_42 rfl ?_
        refine g_iload_n X dX2_of_43 rfl ?_
        refine g_imul X dX2_of_44 ?_
        refine g_iadd X dX2_of_45 ?_
        refine g_iload_n X dX2_of_46 rfl ?_
        refine g_iadd X dX2_of_47 ?_
        refine g_iconst (v := 1) X dX2_of_48 rfl ?_
        refine g_isub X dX2_of_49 ?_
        refine g_iald (j := 17 + 2 * ix g + ix w - 1) X dX2_of_50 (rdi ho (400) (rfl)) (by conv => { lhs; rw [ix_i c5.1, hwi] }; show nI 17 + nI 2 * nI (ix g) + nI (ix w) - nI 1 = _; rw [pk_mul, nI_add, nI_add, pk_sub (by omega)]) (by omega) (by decide) ?_
        refine g_goto (tgt := 56) X dX2_of_51 rfl ?_
        exact g_iret X hr dX2_of_56 (Nat.le_of_ble_eq_true rfl) (Nat.le_of_ble_eq_true rfl) (⟨by rw [if_pos c5, if_neg c12, if_pos c33], rfl⟩)
    · refine g_aload_n X dX2_of_15 rfl ?_
      refine g_get (C := RX2) (T := TX2) (N := 35) X 0 in_X2 dX2_of_16 q1405 (rd3 ho) rfl (Nat.le_of_ble_eq_true rfl) (fun _ h9 => h9) rfl ?_
      refine g_bipush (v := 27) X dX2_of_19 rfl ?_
      refine g_iload_n X dX2_of_21 rfl ?_
      refine g_iadd X dX2_of_22 ?_
      refine g_iald (j := 27 + ix g) X dX2_of_23 (rdi ho (400) (rfl)) (ad_3 c5.1 27) (by omega) (by decide) ?_
      refine g_goto (tgt := 56) X dX2_of_24 rfl ?_
      exact g_iret X hr dX2_of_56 (Nat.le_of_ble_eq_true rfl) (Nat.le_of_ble_eq_true rfl) (⟨by rw [if_pos c5, if_pos c12], rfl⟩)
  · refine g_bipush (v := (-2)) X dX2_of_8 rfl ?_
    exact g_iret X hr dX2_of_10 (Nat.le_of_ble_eq_true rfl) (Nat.le_of_ble_eq_true rfl) (⟨by rw [if_neg (fun z => c5 (by rw [h0]; exact z))], rfl⟩)
theorem bk_lt {n : Nat} {c : Int32} (hn : n ≤ 20) (h : 0 ≤ c ∧ c ≤ nI n - 1) : ix c < n := by
  cases n with
  | zero =>
    exfalso
    have h1 := Int32.le_iff_toInt_le.mp h.1
    have h2 := Int32.le_iff_toInt_le.mp h.2
    rw [show (nI 0 - 1 : Int32).toInt = -1 by decide] at h2
    rw [show (0 : Int32).toInt = 0 by decide] at h1
    omega
  | succ m =>
    have h2 := h.2
    rw [nI_pred] at h2
    exact Nat.lt_succ_of_le (ix_le m (by omega) h.1 h2)
/-- an entry of the model's book -/
def enM (v w : Int32) : Int32 := if w = 0 then v / 450 else if w = 1 then v / 90 - v / 90 / 5 * 5 else if w = 2 then v / 10 - v / 10 / 9 * 9 - 1 else if w = 3 then v / 2 - v / 2 / 5 * 5 else v - v / 2 * 2
set_option maxHeartbeats 600000 in
theorem k_X0_book {l : Launch} {E : gk_E} (ho : E.2.2.2.2 = true) {S : gk_S} {i : Int32} {w : Int32} {nb : Nat} (h0 : S.1 11 21 = nI nb) (h1 : nb ≤ 20) : gk_T l E yX0_book cX0_book 3 ((some .int)) 1 22 0 0 [.ref (E.2.2.1 0), .int i, .int w] S (fun r S' => r = some (.int (if i = -1 then nI nb else if (0 ≤ i ∧ i ≤ nI nb - 1) ∧ 0 ≤ w ∧ w ≤ 4 then S.1 11 (22 + 5 * ix i + ix w) else -2)) ∧ S' = S) := by
  refine gk_T.of [some (.ref (E.2.2.1 0)), some (.int i), some (.int w)] (by decide) (Nat.le_of_ble_eq_true rfl) (fun _ _ h => h) ?_
  intro p_ e_ R_ s_ m_ args_ below_ meth_ c_ hR X hr hin
  subst hR
  refine g_iload_n X dX0_book_0 rfl ?_
  refine g_iconst (v := (-1)) X dX0_book_1 rfl ?_
  refine g_icmp_ne (tgt := 16) X dX0_book_2 rfl (fun c2 => ?_) (fun c2 => ?_)
  · refine g_iload_n X dX0_book_16 rfl ?_
    refine g_iconst (v := 0) X dX0_book_17 rfl ?_
    refine g_aload_n X dX0_book_18 rfl ?_
    refine g_get (C := RX0) (T := TX0) (N := 13) X 0 in_X0 dX0_book_19 q241 (rd0 ho) rfl (Nat.le_of_ble_eq_true rfl) (fun _ h9 => h9) rfl ?_
    refine g_getN (C := RX1) (T := TX1) (N := 8) X 1 in_X1 dX0_book_22 q197 (rd1 ho) rfl (Nat.le_of_ble_eq_true rfl) (fun _ h9 => h9) rfl ?_
    refine g_bipush (v := 21) X dX0_book_25 rfl ?_
    refine g_iald (j := 21) X dX0_book_27 (rdi ho (11) (rfl)) rfl (by decide) (by decide) ?_
    refine g_iconst (v := 1) X dX0_book_28 rfl ?_
    refine g_isub X dX0_book_29 ?_
    refine g_callS X (k_X0_in ho) (lw_S q291 q292 q135 q293) hd_X0_in dX0_book_30 rfl ⟨Nat.le_of_ble_eq_true rfl, Nat.le_of_ble_eq_true rfl⟩ ⟨Nat.le_of_ble_eq_true rfl, Nat.le_of_ble_eq_true rfl⟩ (Nat.le_of_ble_eq_true rfl) ?_
    rintro _ S1 ⟨rfl, hS1⟩
    obtain rfl := hS1.symm
    refine g_ifp_eq (tgt := 64) X dX0_book_33 rfl (fun c33 => ?_) (fun c33 => ?_)
    · refine g_bipush (v := (-2)) X dX0_book_64 rfl ?_
      exact g_iret X hr dX0_book_66 (Nat.le_of_ble_eq_true rfl) (Nat.le_of_ble_eq_true rfl) (⟨by rw [if_neg c2, if_neg (fun z => c33 (by rw [h0]; exact z.1))], rfl⟩)
    · refine g_iload_n X dX0_book_36 rfl ?_
      refine g_iconst (v := 0) X dX0_book_37 rfl ?_
      refine g_iconst (v := 4) X dX0_book_38 rfl ?_
      refine g_callS X (k_X0_in ho) (lw_S q291 q292 q135 q293) hd_X0_in dX0_book_39 rfl ⟨Nat.le_of_ble_eq_true rfl, Nat.le_of_ble_eq_true rfl⟩ ⟨Nat.le_of_ble_eq_true rfl, Nat.le_of_ble_eq_true rfl⟩ (Nat.le_of_ble_eq_true rfl) ?_
      rintro _ S1 ⟨rfl, hS1⟩
      obtain rfl := hS1.symm
      refine g_ifp_eq (tgt := 64) X dX0_book_42 rfl (fun c42 => ?_) (fun c42 => ?_)
      · refine g_bipush (v := (-2)) X dX0_book_64 rfl ?_
        exact g_iret X hr dX0_book_66 (Nat.le_of_ble_eq_true rfl) (Nat.le_of_ble_eq_true rfl) (⟨by rw [if_neg c2, if_neg (fun z => c42 z.2)], rfl⟩)
      · rw [h0] at c33
        have hb := bk_lt h1 c33
        have hw := ix_le 4 (by decide) c42.1 c42.2
        refine g_aload_n X dX0_book_45 rfl ?_
        refine g_get (C := RX0) (T := TX0) (N := 13) X 0 in_X0 dX0_book_46 q241 (rd0 ho) rfl (Nat.le_of_ble_eq_true rfl) (fun _ h9 => h9) rfl ?_
        refine g_getN (C := RX1) (T := TX1) (N := 8) X 1 in_X1 dX0_book_49 q197 (rd1 ho) rfl (Nat.le_of_ble_eq_true rfl) (fun _ h9 => h9) rfl ?_
        refine g_bipush (v := 22) X dX0_book_52 rfl ?_
        refine g_iconst (v := 5) X dX0_book_54 rfl ?_
        refine g_iload_n X dX0_book_55 rfl ?_
        refine g_imul X dX0_book_56 ?_
        refine g_iadd X dX0_book_57 ?_
        refine g_iload_n X dX0_book_58 rfl ?_
        refine g_iadd X dX0_book_59 ?_
        refine g_iald (j := 22 + 5 * ix i + ix w) X dX0_book_60 (rdi ho (11) (rfl)) (by conv => { lhs; rw [ix_i c33.1, ix_i c42.1] }; show nI 22 + nI 5 * nI (ix i) + nI (ix w) = _; rw [pk_mul, nI_add, nI_add]) (by omega) (by decide) ?_
        refine g_goto (tgt := 66) X dX0_book_61 rfl ?_
        exact g_iret X hr dX0_book_66 (Nat.le_of_ble_eq_true rfl) (Nat.le_of_ble_eq_true rfl) (⟨by rw [if_neg c2, if_pos ⟨c33, c42⟩], rfl⟩)
  · refine g_aload_n X dX0_book_5 rfl ?_
    refine g_get (C := RX0) (T := TX0) (N := 13) X 0 in_X0 dX0_book_6 q241 (rd0 ho) rfl (Nat.le_of_ble_eq_true rfl) (fun _ h9 => h9) rfl ?_
    refine g_getN (C := RX1) (T := TX1) (N := 8) X 1 in_X1 dX0_book_9 q197 (rd1 ho) rfl (Nat.le_of_ble_eq_true rfl) (fun _ h9 => h9) rfl ?_
    refine g_bipush (v := 21) X dX0_book_12 rfl ?_
    refine g_iald (j := 21) X dX0_book_14 (rdi ho (11) (rfl)) rfl (by decide) (by decide) ?_
    exact g_iret X hr dX0_book_15 (Nat.le_of_ble_eq_true rfl) (Nat.le_of_ble_eq_true rfl) (⟨by rw [if_pos c2, h0], rfl⟩)
set_option maxHeartbeats 600000 in
theorem k_X2_entry {l : Launch} {E : gk_E} (ho : E.2.2.2.2 = true) {S : gk_S} {i : Int32} {w : Int32} {k : Nat} (hi : i = nI k) (hk : k < 20) : gk_T l E yX2_entry cX2_entry 4 ((some .int)) 0 0 0 0 [.ref (E.2.2.1 3), .int i, .int w] S (fun r S' => r = some (.int (enM (S.1 400 (1346 + k)) w)) ∧ S' = S) := by
  refine gk_T.of [some (.ref (E.2.2.1 3)), some (.int i), some (.int w), none] (by decide) (Nat.le_of_ble_eq_true rfl) (le_1 rfl (le_1 rfl (le_1 rfl (le_p le_n)))) ?_
  intro p_ e_ R_ s_ m_ args_ below_ meth_ c_ hR X hr hin
  subst hR
  refine g_aload_n X dX2_entry_0 rfl ?_
  refine g_get (C := RX2) (T := TX2) (N := 35) X 0 in_X2 dX2_entry_1 q1405 (rd3 ho) rfl (Nat.le_of_ble_eq_true rfl) (fun _ h9 => h9) rfl ?_
  refine g_sipush (v := 1346) X dX2_entry_4 rfl ?_
  refine g_iload_n X dX2_entry_7 rfl ?_
  refine g_iadd X dX2_entry_8 ?_
  refine g_iald (j := 1346 + k) X dX2_entry_9 (rdi ho (400) (rfl)) (by rw [hi]; exact nI_add 1346 k) (by omega) (by decide) ?_
  refine g_istore_n X dX2_entry_10 (Nat.le_of_ble_eq_true rfl) ?_
  refine g_iload_n X dX2_entry_11 rfl ?_
  refine g_if_ne (tgt := 23) X dX2_entry_12 rfl (fun c12 => ?_) (fun c12 => ?_)
  · refine g_iload_n X dX2_entry_23 rfl ?_
    refine g_iconst (v := 1) X dX2_entry_24 rfl ?_
    refine g_icmp_ne (tgt := 37) X dX2_entry_25 rfl (fun c25 => ?_) (fun c25 => ?_)
    · refine g_iload_n X dX2_entry_37 rfl ?_
      refine g_iconst (v := 2) X dX2_entry_38 rfl ?_
      refine g_icmp_ne (tgt := 54) X dX2_entry_39 rfl (fun c39 => ?_) (fun c39 => ?_)
      · refine g_iload_n X dX2_entry_54 rfl ?_
        refine g_iconst (v := 3) X dX2_entry_55 rfl ?_
        refine g_icmp_ne (tgt := 67) X dX2_entry_56 rfl (fun c56 => ?_) (fun c56 => ?_)
        · refine g_iload_n X dX2_entry_67 rfl ?_
          refine g_iconst (v := 2) X dX2_entry_68 rfl ?_
          refine g_irem X dX2_entry_69 (by decide) ?_
          exact g_iret X hr dX2_entry_70 (Nat.le_of_ble_eq_true rfl) (Nat.le_of_ble_eq_true rfl) (⟨by unfold enM; rw [if_neg c12, if_neg c25, if_neg c39, if_neg c56], rfl⟩)
        · refine g_iload_n X dX2_entry_59 rfl ?_
          refine g_iconst (v := 2) X dX2_entry_60 rfl ?_
          refine g_idiv X dX2_entry_61 (by decide) ?_
          refine g_iconst (v := 5) X dX2_entry_62 rfl ?_
          refine g_irem X dX2_entry_63 (by decide) ?_
          refine g_goto (tgt := 70) X dX2_entry_64 rfl ?_
          exact g_iret X hr dX2_entry_70 (Nat.le_of_ble_eq_true rfl) (Nat.le_of_ble_eq_true rfl) (⟨by unfold enM; rw [if_neg c12, if_neg c25, if_neg c39, if_pos c56], rfl⟩)
      · refine g_iload_n X dX2_entry_42 rfl ?_
        refine g_bipush (v := 10) X dX2_entry_43 rfl ?_
        refine g_idiv X dX2_entry_45 (by decide) ?_
        refine g_bipush (v := 9) X dX2_entry_46 rfl ?_
        refine g_irem X dX2_entry_48 (by decide) ?_
        refine g_iconst (v := 1) X dX2_entry_49 rfl ?_
        refine g_isub X dX2_entry_50 ?_
        refine g_goto (tgt := 70) X dX2_entry_51 rfl ?_
        exact g_iret X hr dX2_entry_70 (Nat.le_of_ble_eq_true rfl) (Nat.le_of_ble_eq_true rfl) (⟨by unfold enM; rw [if_neg c12, if_neg c25, if_pos c39], rfl⟩)
    · refine g_iload_n X dX2_entry_28 rfl ?_
      refine g_bipush (v := 90) X dX2_entry_29 rfl ?_
      refine g_idiv X dX2_entry_31 (by decide) ?_
      refine g_iconst (v := 5) X dX2_entry_32 rfl ?_
      refine g_irem X dX2_entry_33 (by decide) ?_
      refine g_goto (tgt := 70) X dX2_entry_34 rfl ?_
      exact g_iret X hr dX2_entry_70 (Nat.le_of_ble_eq_true rfl) (Nat.le_of_ble_eq_true rfl) (⟨by unfold enM; rw [if_neg c12, if_pos c25], rfl⟩)
  · refine g_iload_n X dX2_entry_15 rfl ?_
    refine g_sipush (v := 450) X dX2_entry_16 rfl ?_
    refine g_idiv X dX2_entry_19 (by decide) ?_
    refine g_goto (tgt := 70) X dX2_entry_20 rfl ?_
    exact g_iret X hr dX2_entry_70 (Nat.le_of_ble_eq_true rfl) (Nat.le_of_ble_eq_true rfl) (⟨by unfold enM; rw [if_pos c12], rfl⟩)
set_option maxHeartbeats 600000 in
theorem k_X2_book {l : Launch} {E : gk_E} (ho : E.2.2.2.2 = true) {S : gk_S} {i : Int32} {w : Int32} {nb : Nat} (h0 : S.1 400 8 = nI nb) (h1 : nb ≤ 20) : gk_T l E yX2_book cX2_book 3 ((some .int)) 1 23 0 0 [.ref (E.2.2.1 3), .int i, .int w] S (fun r S' => r = some (.int (if i = -1 then nI nb else if (0 ≤ i ∧ i ≤ nI nb - 1) ∧ 0 ≤ w ∧ w ≤ 4 then enM (S.1 400 (1346 + ix i)) w else -2)) ∧ S' = S) := by
  refine gk_T.of [some (.ref (E.2.2.1 3)), some (.int i), some (.int w)] (by decide) (Nat.le_of_ble_eq_true rfl) (fun _ _ h => h) ?_
  intro p_ e_ R_ s_ m_ args_ below_ meth_ c_ hR X hr hin
  subst hR
  refine g_iload_n X dX2_book_0 rfl ?_
  refine g_iconst (v := (-1)) X dX2_book_1 rfl ?_
  refine g_icmp_ne (tgt := 13) X dX2_book_2 rfl (fun c2 => ?_) (fun c2 => ?_)
  · refine g_iload_n X dX2_book_13 rfl ?_
    refine g_iconst (v := 0) X dX2_book_14 rfl ?_
    refine g_aload_n X dX2_book_15 rfl ?_
    refine g_get (C := RX2) (T := TX2) (N := 35) X 0 in_X2 dX2_book_16 q1405 (rd3 ho) rfl (Nat.le_of_ble_eq_true rfl) (fun _ h9 => h9) rfl ?_
    refine g_bipush (v := 8) X dX2_book_19 rfl ?_
    refine g_iald (j := 8) X dX2_book_21 (rdi ho (400) (rfl)) rfl (by decide) (by decide) ?_
    refine g_iconst (v := 1) X dX2_book_22 rfl ?_
    refine g_isub X dX2_book_23 ?_
    refine g_callS X (k_X2_isIn ho) (lw_S q1516 q1517 q139 q1518) hd_X2_isIn dX2_book_24 rfl ⟨Nat.le_of_ble_eq_true rfl, Nat.le_of_ble_eq_true rfl⟩ ⟨Nat.le_of_ble_eq_true rfl, Nat.le_of_ble_eq_true rfl⟩ (Nat.le_of_ble_eq_true rfl) ?_
    rintro _ S1 ⟨rfl, hS1⟩
    obtain rfl := hS1.symm
    refine g_ifp_eq (tgt := 48) X dX2_book_27 rfl (fun c27 => ?_) (fun c27 => ?_)
    · refine g_bipush (v := (-2)) X dX2_book_48 rfl ?_
      exact g_iret X hr dX2_book_50 (Nat.le_of_ble_eq_true rfl) (Nat.le_of_ble_eq_true rfl) (⟨by rw [if_neg c2, if_neg (fun z => c27 (by rw [h0]; exact z.1))], rfl⟩)
    · refine g_iload_n X dX2_book_30 rfl ?_
      refine g_iconst (v := 0) X dX2_book_31 rfl ?_
      refine g_iconst (v := 4) X dX2_book_32 rfl ?_
      refine g_callS X (k_X2_isIn ho) (lw_S q1516 q1517 q139 q1518) hd_X2_isIn dX2_book_33 rfl ⟨Nat.le_of_ble_eq_true rfl, Nat.le_of_ble_eq_true rfl⟩ ⟨Nat.le_of_ble_eq_true rfl, Nat.le_of_ble_eq_true rfl⟩ (Nat.le_of_ble_eq_true rfl) ?_
      rintro _ S1 ⟨rfl, hS1⟩
      obtain rfl := hS1.symm
      refine g_ifp_eq (tgt := 48) X dX2_book_36 rfl (fun c36 => ?_) (fun c36 => ?_)
      · refine g_bipush (v := (-2)) X dX2_book_48 rfl ?_
        exact g_iret X hr dX2_book_50 (Nat.le_of_ble_eq_true rfl) (Nat.le_of_ble_eq_true rfl) (⟨by rw [if_neg c2, if_neg (fun z => c36 z.2)], rfl⟩)
      · rw [h0] at c27
        have hb := bk_lt h1 c27
        refine g_aload_n X dX2_book_39 rfl ?_
        refine g_iload_n X dX2_book_40 rfl ?_
        refine g_iload_n X dX2_book_41 rfl ?_
        refine g_callV (C := RX2) (T := TX2) (N := 35) X (k_X2_entry ho (ix_i c27.1) (by omega)) (lw_V q1895 q1897 qs118 q139 q1898) hd_X2_entry dX2_book_42 (rd3 ho) rfl rfl ⟨Nat.le_of_ble_eq_true rfl, Nat.le_of_ble_eq_true rfl⟩ ⟨Nat.le_of_ble_eq_true rfl, Nat.le_of_ble_eq_true rfl⟩ (Nat.le_of_ble_eq_true rfl) ?_
        rintro _ S1 ⟨rfl, hS1⟩
        obtain rfl := hS1.symm
        refine g_goto (tgt := 50) X dX2_book_45 rfl ?_
        exact g_iret X hr dX2_book_50 (Nat.le_of_ble_eq_true rfl) (Nat.le_of_ble_eq_true rfl) (⟨by rw [if_neg c2, if_pos ⟨c27, c36⟩], rfl⟩)
  · refine g_aload_n X dX2_book_5 rfl ?_
    refine g_get (C := RX2) (T := TX2) (N := 35) X 0 in_X2 dX2_book_6 q1405 (rd3 ho) rfl (Nat.le_of_ble_eq_true rfl) (fun _ h9 => h9) rfl ?_
    refine g_bipush (v := 8) X dX2_book_9 rfl ?_
    refine g_iald (j := 8) X dX2_book_11 (rdi ho (400) (rfl)) rfl (by decide) (by decide) ?_
    exact g_iret X hr dX2_book_12 (Nat.le_of_ble_eq_true rfl) (Nat.le_of_ble_eq_true rfl) (⟨by rw [if_pos c2, h0], rfl⟩)
