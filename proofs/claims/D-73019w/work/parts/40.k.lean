set_option maxHeartbeats 20000000 in
theorem k_J13_numberOfTrailingZeros {l : Launch} {E : gk_E} (ho : E.2.2.2.2 = true) {S : gk_S} {x : Int32} {v : Nat} (hx : x = nI v) (hv : v < 65536) (hv0 : v ≠ 0) : gk_T l E yJ13_numberOfTrailingZeros cJ13_numberOfTrailingZeros 2 ((some .int)) 0 0 0 0 [.int x] S (fun r S' => r = some (.int (nI (lowN 16 v))) ∧ S' = S) := by
  refine gk_T.of [some (.int x), none] (by decide) (Nat.le_of_ble_eq_true rfl) (le_1 rfl (le_p le_n)) ?_
  intro p_ e_ R_ s_ m_ args_ below_ meth_ c_ hR X hr hin
  subst hR
  refine g_iload_n X dJ13_numberOfTrailingZeros_0 rfl ?_
  refine g_iconst (v := (-1)) X dJ13_numberOfTrailingZeros_1 rfl ?_
  refine g_ixor X dJ13_numberOfTrailingZeros_2 ?_
  refine g_iload_n X dJ13_numberOfTrailingZeros_3 rfl ?_
  refine g_iconst (v := 1) X dJ13_numberOfTrailingZeros_4 rfl ?_
  refine g_isub X dJ13_numberOfTrailingZeros_5 ?_
  refine g_iand X dJ13_numberOfTrailingZeros_6 ?_
  obtain ⟨k, hk, hk2, hk3⟩ : ∃ k, k < 16 ∧ lowN 16 v = k ∧ (x ^^^ -1) &&& (x - 1) = nI (2 ^ k - 1) := ⟨lowN 16 v, (low_ok hv hv0).2, rfl, by rw [← (low_ok hv hv0).1, hx]; show (nI v ^^^ nI 4294967295) &&& (nI v - nI 1) = _; rw [nx_xor, pk_sub (by omega), nx_and]⟩
  rw [hk2]
  rw [hk3]
  clear hk3 hk2 hv0 hv hx
  refine g_istore_n X dJ13_numberOfTrailingZeros_7 (Nat.le_of_ble_eq_true rfl) ?_
  refine g_iload_n X dJ13_numberOfTrailingZeros_8 rfl ?_
  refine g_if_gt (tgt := 17) X dJ13_numberOfTrailingZeros_9 rfl (fun c9 => ?_) (fun c9 => ?_)
  · refine g_iconst (v := 1) X dJ13_numberOfTrailingZeros_17 rfl ?_
    refine g_istore_n X dJ13_numberOfTrailingZeros_18 (Nat.le_of_ble_eq_true rfl) ?_
    refine g_iload_n X dJ13_numberOfTrailingZeros_19 rfl ?_
    refine g_ldcw X dJ13_numberOfTrailingZeros_20 q1200 ?_
    refine g_icmp_le (tgt := 34) X dJ13_numberOfTrailingZeros_23 rfl (fun c23 => ?_) (fun c23 => ?_)
    · refine g_iload_n X dJ13_numberOfTrailingZeros_34 rfl ?_
      refine g_sipush (v := 256) X dJ13_numberOfTrailingZeros_35 rfl ?_
      refine g_icmp_le (tgt := 49) X dJ13_numberOfTrailingZeros_38 rfl (fun c38 => ?_) (fun c38 => ?_)
      · refine g_iload_n X dJ13_numberOfTrailingZeros_49 rfl ?_
        refine g_bipush (v := 16) X dJ13_numberOfTrailingZeros_50 rfl ?_
        refine g_icmp_le (tgt := 62) X dJ13_numberOfTrailingZeros_52 rfl (fun c52 => ?_) (fun c52 => ?_)
        · refine g_iload_n X dJ13_numberOfTrailingZeros_62 rfl ?_
          refine g_iconst (v := 4) X dJ13_numberOfTrailingZeros_63 rfl ?_
          refine g_icmp_le (tgt := 74) X dJ13_numberOfTrailingZeros_64 rfl (fun c64 => ?_) (fun c64 => ?_)
          · refine g_iload_n X dJ13_numberOfTrailingZeros_74 rfl ?_
            refine g_iload_n X dJ13_numberOfTrailingZeros_75 rfl ?_
            refine g_iconst (v := 1) X dJ13_numberOfTrailingZeros_76 rfl ?_
            refine g_iushr X dJ13_numberOfTrailingZeros_77 rfl ?_
            refine g_iadd X dJ13_numberOfTrailingZeros_78 ?_
            exact g_iret X hr dJ13_numberOfTrailingZeros_79 (Nat.le_of_ble_eq_true rfl) (Nat.le_of_ble_eq_true rfl) (⟨ei (by rcases (show k = 0 ∨ k = 1 ∨ k = 2 ∨ k = 3 ∨ k = 4 ∨ k = 5 ∨ k = 6 ∨ k = 7 ∨ k = 8 ∨ k = 9 ∨ k = 10 ∨ k = 11 ∨ k = 12 ∨ k = 13 ∨ k = 14 ∨ k = 15 from by omega) with rfl | rfl | rfl | rfl | rfl | rfl | rfl | rfl | rfl | rfl | rfl | rfl | rfl | rfl | rfl | rfl <;> first | exact absurd c9 (by decide +kernel) | exact absurd c23 (by decide +kernel) | exact absurd c38 (by decide +kernel) | exact absurd c52 (by decide +kernel) | exact absurd c64 (by decide +kernel) | decide +kernel), rfl⟩)
          · refine g_iinc (v := 2) X dJ13_numberOfTrailingZeros_67 rfl rfl (Nat.le_of_ble_eq_true rfl) ?_
            refine g_iload_n X dJ13_numberOfTrailingZeros_70 rfl ?_
            refine g_iconst (v := 2) X dJ13_numberOfTrailingZeros_71 rfl ?_
            refine g_iushr X dJ13_numberOfTrailingZeros_72 rfl ?_
            refine g_istore_n X dJ13_numberOfTrailingZeros_73 (Nat.le_of_ble_eq_true rfl) ?_
            refine g_iload_n X dJ13_numberOfTrailingZeros_74 rfl ?_
            refine g_iload_n X dJ13_numberOfTrailingZeros_75 rfl ?_
            refine g_iconst (v := 1) X dJ13_numberOfTrailingZeros_76 rfl ?_
            refine g_iushr X dJ13_numberOfTrailingZeros_77 rfl ?_
            refine g_iadd X dJ13_numberOfTrailingZeros_78 ?_
            exact g_iret X hr dJ13_numberOfTrailingZeros_79 (Nat.le_of_ble_eq_true rfl) (Nat.le_of_ble_eq_true rfl) (⟨ei (by rcases (show k = 0 ∨ k = 1 ∨ k = 2 ∨ k = 3 ∨ k = 4 ∨ k = 5 ∨ k = 6 ∨ k = 7 ∨ k = 8 ∨ k = 9 ∨ k = 10 ∨ k = 11 ∨ k = 12 ∨ k = 13 ∨ k = 14 ∨ k = 15 from by omega) with rfl | rfl | rfl | rfl | rfl | rfl | rfl | rfl | rfl | rfl | rfl | rfl | rfl | rfl | rfl | rfl <;> first | exact absurd c9 (by decide +kernel) | exact absurd c23 (by decide +kernel) | exact absurd c38 (by decide +kernel) | exact absurd c52 (by decide +kernel) | exact absurd c64 (by decide +kernel) | decide +kernel), rfl⟩)
        · refine g_iinc (v := 4) X dJ13_numberOfTrailingZeros_55 rfl rfl (Nat.le_of_ble_eq_true rfl) ?_
          refine g_iload_n X dJ13_numberOfTrailingZeros_58 rfl ?_
          refine g_iconst (v := 4) X dJ13_numberOfTrailingZeros_59 rfl ?_
          refine g_iushr X dJ13_numberOfTrailingZeros_60 rfl ?_
          refine g_istore_n X dJ13_numberOfTrailingZeros_61 (Nat.le_of_ble_eq_true rfl) ?_
          refine g_iload_n X dJ13_numberOfTrailingZeros_62 rfl ?_
          refine g_iconst (v := 4) X dJ13_numberOfTrailingZeros_63 rfl ?_
          refine g_icmp_le (tgt := 74) X dJ13_numberOfTrailingZeros_64 rfl (fun c64 => ?_) (fun c64 => ?_)
          · refine g_iload_n X dJ13_numberOfTrailingZeros_74 rfl ?_
            refine g_iload_n X dJ13_numberOfTrailingZeros_75 rfl ?_
            refine g_iconst (v := 1) X dJ13_numberOfTrailingZeros_76 rfl ?_
            refine g_iushr X dJ13_numberOfTrailingZeros_77 rfl ?_
            refine g_iadd X dJ13_numberOfTrailingZeros_78 ?_
            exact g_iret X hr dJ13_numberOfTrailingZeros_79 (Nat.le_of_ble_eq_true rfl) (Nat.le_of_ble_eq_true rfl) (⟨ei (by rcases (show k = 0 ∨ k = 1 ∨ k = 2 ∨ k = 3 ∨ k = 4 ∨ k = 5 ∨ k = 6 ∨ k = 7 ∨ k = 8 ∨ k = 9 ∨ k = 10 ∨ k = 11 ∨ k = 12 ∨ k = 13 ∨ k = 14 ∨ k = 15 from by omega) with rfl | rfl | rfl | rfl | rfl | rfl | rfl | rfl | rfl | rfl | rfl | rfl | rfl | rfl | rfl | rfl <;> first | exact absurd c9 (by decide +kernel) | exact absurd c23 (by decide +kernel) | exact absurd c38 (by decide +kernel) | exact absurd c52 (by decide +kernel) | exact absurd c64 (by decide +kernel) | decide +kernel), rfl⟩)
          · refine g_iinc (v := 2) X dJ13_numberOfTrailingZeros_67 rfl rfl (Nat.le_of_ble_eq_true rfl) ?_
            refine g_iload_n X dJ13_numberOfTrailingZeros_70 rfl ?_
            refine g_iconst (v := 2) X dJ13_numberOfTrailingZeros_71 rfl ?_
            refine g_iushr X dJ13_numberOfTrailingZeros_72 rfl ?_
            refine g_istore_n X dJ13_numberOfTrailingZeros_73 (Nat.le_of_ble_eq_true rfl) ?_
            refine g_iload_n X dJ13_numberOfTrailingZeros_74 rfl ?_
            refine g_iload_n X dJ13_numberOfTrailingZeros_75 rfl ?_
            refine g_iconst (v := 1) X dJ13_numberOfTrailingZeros_76 rfl ?_
            refine g_iushr X dJ13_numberOfTrailingZeros_77 rfl ?_
            refine g_iadd X dJ13_numberOfTrailingZeros_78 ?_
            exact g_iret X hr dJ13_numberOfTrailingZeros_79 (Nat.le_of_ble_eq_true rfl) (Nat.le_of_ble_eq_true rfl) (⟨ei (by rcases (show k = 0 ∨ k = 1 ∨ k = 2 ∨ k = 3 ∨ k = 4 ∨ k = 5 ∨ k = 6 ∨ k = 7 ∨ k = 8 ∨ k = 9 ∨ k = 10 ∨ k = 11 ∨ k = 12 ∨ k = 13 ∨ k = 14 ∨ k = 15 from by omega) with rfl | rfl | rfl | rfl | rfl | rfl | rfl | rfl | rfl | rfl | rfl | rfl | rfl | rfl | rfl | rfl <;> first | exact absurd c9 (by decide +kernel) | exact absurd c23 (by decide +kernel) | exact absurd c38 (by decide +kernel) | exact absurd c52 (by decide +kernel) | exact absurd c64 (by decide +kernel) | decide +kernel), rfl⟩)
      · refine g_iinc (v := 8) X dJ13_numberOfTrailingZeros_41 rfl rfl (Nat.le_of_ble_eq_true rfl) ?_
        refine g_iload_n X dJ13_numberOfTrailingZeros_44 rfl ?_
        refine g_bipush (v := 8) X dJ13_numberOfTrailingZeros_45 rfl ?_
        refine g_iushr X dJ13_numberOfTrailingZeros_47 rfl ?_
        refine g_istore_n X dJ13_numberOfTrailingZeros_48 (Nat.le_of_ble_eq_true rfl) ?_
        refine g_iload_n X dJ13_numberOfTrailingZeros_49 rfl ?_
        refine g_bipush (v := 16) X dJ13_numberOfTrailingZeros_50 rfl ?_
        refine g_icmp_le (tgt := 62) X dJ13_numberOfTrailingZeros_52 rfl (fun c52 => ?_) (fun c52 => ?_)
        · refine g_iload_n X dJ13_numberOfTrailingZeros_62 rfl ?_
          refine g_iconst (v := 4) X dJ13_numberOfTrailingZeros_63 rfl ?_
          refine g_icmp_le (tgt := 74) X dJ13_numberOfTrailingZeros_64 rfl (fun c64 => ?_) (fun c64 => ?_)
          · refine g_iload_n X dJ13_numberOfTrailingZeros_74 rfl ?_
            refine g_iload_n X dJ13_numberOfTrailingZeros_75 rfl ?_
            refine g_iconst (v := 1) X dJ13_numberOfTrailingZeros_76 rfl ?_
            refine g_iushr X dJ13_numberOfTrailingZeros_77 rfl ?_
            refine g_iadd X dJ13_numberOfTrailingZeros_78 ?_
            exact g_iret X hr dJ13_numberOfTrailingZeros_79 (Nat.le_of_ble_eq_true rfl) (Nat.le_of_ble_eq_true rfl) (⟨ei (by rcases (show k = 0 ∨ k = 1 ∨ k = 2 ∨ k = 3 ∨ k = 4 ∨ k = 5 ∨ k = 6 ∨ k = 7 ∨ k = 8 ∨ k = 9 ∨ k = 10 ∨ k = 11 ∨ k = 12 ∨ k = 13 ∨ k = 14 ∨ k = 15 from by omega) with rfl | rfl | rfl | rfl | rfl | rfl | rfl | rfl | rfl | rfl | rfl | rfl | rfl | rfl | rfl | rfl <;> first | exact absurd c9 (by decide +kernel) | exact absurd c23 (by decide +kernel) | exact absurd c38 (by decide +kernel) | exact absurd c52 (by decide +kernel) | exact absurd c64 (by decide +kernel) | decide +kernel), rfl⟩)
          · refine g_iinc (v := 2) X dJ13_numberOfTrailingZeros_67 rfl rfl (Nat.le_of_ble_eq_true rfl) ?_
            refine g_iload_n X dJ13_numberOfTrailingZeros_70 rfl ?_
            refine g_iconst (v := 2) X dJ13_numberOfTrailingZeros_71 rfl ?_
            refine g_iushr X dJ13_numberOfTrailingZeros_72 rfl ?_
            refine g_istore_n X dJ13_numberOfTrailingZeros_73 (Nat.le_of_ble_eq_true rfl) ?_
            refine g_iload_n X dJ13_numberOfTrailingZeros_74 rfl ?_
            refine g_iload_n X dJ13_numberOfTrailingZeros_75 rfl ?_
            refine g_iconst (v := 1) X dJ13_numberOfTrailingZeros_76 rfl ?_
            refine g_iushr X dJ13_numberOfTrailingZeros_77 rfl ?_
            refine g_iadd X dJ13_numberOfTrailingZeros_78 ?_
            exact g_iret X hr dJ13_numberOfTrailingZeros_79 (Nat.le_of_ble_eq_true rfl) (Nat.le_of_ble_eq_true rfl) (⟨ei (by rcases (show k = 0 ∨ k = 1 ∨ k = 2 ∨ k = 3 ∨ k = 4 ∨ k = 5 ∨ k = 6 ∨ k = 7 ∨ k = 8 ∨ k = 9 ∨ k = 10 ∨ k = 11 ∨ k = 12 ∨ k = 13 ∨ k = 14 ∨ k = 15 from by omega) with rfl | rfl | rfl | rfl | rfl | rfl | rfl | rfl | rfl | rfl | rfl | rfl | rfl | rfl | rfl | rfl <;> first | exact absurd c9 (by decide +kernel) | exact absurd c23 (by decide +kernel) | exact absurd c38 (by decide +kernel) | exact absurd c52 (by decide +kernel) | exact absurd c64 (by decide +kernel) | decide +kernel), rfl⟩)
        · refine g_iinc (v := 4) X dJ13_numberOfTrailingZeros_55 rfl rfl (Nat.le_of_ble_eq_true rfl) ?_
          refine g_iload_n X dJ13_numberOfTrailingZeros_58 rfl ?_
          refine g_iconst (v := 4) X dJ13_numberOfTrailingZeros_59 rfl ?_
          refine g_iushr X dJ13_numberOfTrailingZeros_60 rfl ?_
          refine g_istore_n X dJ13_numberOfTrailingZeros_61 (Nat.le_of_ble_eq_true rfl) ?_
          refine g_iload_n X dJ13_numberOfTrailingZeros_62 rfl ?_
          refine g_iconst (v := 4) X dJ13_numberOfTrailingZeros_63 rfl ?_
          refine g_icmp_le (tgt := 74) X dJ13_numberOfTrailingZeros_64 rfl (fun c64 => ?_) (fun c64 => ?_)
          · refine g_iload_n X dJ13_numberOfTrailingZeros_74 rfl ?_
            refine g_iload_n X dJ13_numberOfTrailingZeros_75 rfl ?_
            refine g_iconst (v := 1) X dJ13_numberOfTrailingZeros_76 rfl ?_
            refine g_iushr X dJ13_numberOfTrailingZeros_77 rfl ?_
            refine g_iadd X dJ13_numberOfTrailingZeros_78 ?_
            exact g_iret X hr dJ13_numberOfTrailingZeros_79 (Nat.le_of_ble_eq_true rfl) (Nat.le_of_ble_eq_true rfl) (⟨ei (by rcases (show k = 0 ∨ k = 1 ∨ k = 2 ∨ k = 3 ∨ k = 4 ∨ k = 5 ∨ k = 6 ∨ k = 7 ∨ k = 8 ∨ k = 9 ∨ k = 10 ∨ k = 11 ∨ k = 12 ∨ k = 13 ∨ k = 14 ∨ k = 15 from by omega) with rfl | rfl | rfl | rfl | rfl | rfl | rfl | rfl | rfl | rfl | rfl | rfl | rfl | rfl | rfl | rfl <;> first | exact absurd c9 (by decide +kernel) | exact absurd c23 (by decide +kernel) | exact absurd c38 (by decide +kernel) | exact absurd c52 (by decide +kernel) | exact absurd c64 (by decide +kernel) | decide +kernel), rfl⟩)
          · refine g_iinc (v := 2) X dJ13_numberOfTrailingZeros_67 rfl rfl (Nat.le_of_ble_eq_true rfl) ?_
            refine g_iload_n X dJ13_numberOfTrailingZeros_70 rfl ?_
            refine g_iconst (v := 2) X dJ13_numberOfTrailingZeros_71 rfl ?_
            refine g_iushr X dJ13_numberOfTrailingZeros_72 rfl ?_
            refine g_istore_n X dJ13_numberOfTrailingZeros_73 (Nat.le_of_ble_eq_true rfl) ?_
            refine g_iload_n X dJ13_numberOfTrailingZeros_74 rfl ?_
            refine g_iload_n X dJ13_numberOfTrailingZeros_75 rfl ?_
            refine g_iconst (v := 1) X dJ13_numberOfTrailingZeros_76 rfl ?_
            refine g_iushr X dJ13_numberOfTrailingZeros_77 rfl ?_
            refine g_iadd X dJ13_numberOfTrailingZeros_78 ?_
            exact g_iret X hr dJ13_numberOfTrailingZeros_79 (Nat.le_of_ble_eq_true rfl) (Nat.le_of_ble_eq_true rfl) (⟨ei (by rcases (show k = 0 ∨ k = 1 ∨ k = 2 ∨ k = 3 ∨ k = 4 ∨ k = 5 ∨ k = 6 ∨ k = 7 ∨ k = 8 ∨ k = 9 ∨ k = 10 ∨ k = 11 ∨ k = 12 ∨ k = 13 ∨ k = 14 ∨ k = 15 from by omega) with rfl | rfl | rfl | rfl | rfl | rfl | rfl | rfl | rfl | rfl | rfl | rfl | rfl | rfl | rfl | rfl <;> first | exact absurd c9 (by decide +kernel) | exact absurd c23 (by decide +kernel) | exact absurd c38 (by decide +kernel) | exact absurd c52 (by decide +kernel) | exact absurd c64 (by decide +kernel) | decide +kernel), rfl⟩)
    · refine g_iinc (v := 16) X dJ13_numberOfTrailingZeros_26 rfl rfl (Nat.le_of_ble_eq_true rfl) ?_
      refine g_iload_n X dJ13_numberOfTrailingZeros_29 rfl ?_
      refine g_bipush (v := 16) X dJ13_numberOfTrailingZeros_30 rfl ?_
      refine g_iushr X dJ13_numberOfTrailingZeros_32 rfl ?_
      refine g_istore_n X dJ13_numberOfTrailingZeros_33 (Nat.le_of_ble_eq_true rfl) ?_
      refine g_iload_n X dJ13_numberOfTrailingZeros_34 rfl ?_
      refine g_sipush (v := 256) X dJ13_numberOfTrailingZeros_35 rfl ?_
      refine g_icmp_le (tgt := 49) X dJ13_numberOfTrailingZeros_38 rfl (fun c38 => ?_) (fun c38 => ?_)
      · refine g_iload_n X dJ13_numberOfTrailingZeros_49 rfl ?_
        refine g_bipush (v := 16) X dJ13_numberOfTrailingZeros_50 rfl ?_
        refine g_icmp_le (tgt := 62) X dJ13_numberOfTrailingZeros_52 rfl (fun c52 => ?_) (fun c52 => ?_)
        · refine g_iload_n X dJ13_numberOfTrailingZeros_62 rfl ?_
          refine g_iconst (v := 4) X dJ13_numberOfTrailingZeros_63 rfl ?_
          refine g_icmp_le (tgt := 74) X dJ13_numberOfTrailingZeros_64 rfl (fun c64 => ?_) (fun c64 => ?_)
          · refine g_iload_n X dJ13_numberOfTrailingZeros_74 rfl ?_
            refine g_iload_n X dJ13_numberOfTrailingZeros_75 rfl ?_
            refine g_iconst (v := 1) X dJ13_numberOfTrailingZeros_76 rfl ?_
            refine g_iushr X dJ13_numberOfTrailingZeros_77 rfl ?_
            refine g_iadd X dJ13_numberOfTrailingZeros_78 ?_
            exact g_iret X hr dJ13_numberOfTrailingZeros_79 (Nat.le_of_ble_eq_true rfl) (Nat.le_of_ble_eq_true rfl) (⟨ei (by rcases (show k = 0 ∨ k = 1 ∨ k = 2 ∨ k = 3 ∨ k = 4 ∨ k = 5 ∨ k = 6 ∨ k = 7 ∨ k = 8 ∨ k = 9 ∨ k = 10 ∨ k = 11 ∨ k = 12 ∨ k = 13 ∨ k = 14 ∨ k = 15 from by omega) with rfl | rfl | rfl | rfl | rfl | rfl | rfl | rfl | rfl | rfl | rfl | rfl | rfl | rfl | rfl | rfl <;> first | exact absurd c9 (by decide +kernel) | exact absurd c23 (by decide +kernel) | exact absurd c38 (by decide +kernel) | exact absurd c52 (by decide +kernel) | exact absurd c64 (by decide +kernel) | decide +kernel), rfl⟩)
          · refine g_iinc (v := 2) X dJ13_numberOfTrailingZeros_67 rfl rfl (Nat.le_of_ble_eq_true rfl) ?_
            refine g_iload_n X dJ13_numberOfTrailingZeros_70 rfl ?_
            refine g_iconst (v := 2) X dJ13_numberOfTrailingZeros_71 rfl ?_
            refine g_iushr X dJ13_numberOfTrailingZeros_72 rfl ?_
            refine g_istore_n X dJ13_numberOfTrailingZeros_73 (Nat.le_of_ble_eq_true rfl) ?_
            refine g_iload_n X dJ13_numberOfTrailingZeros_74 rfl ?_
            refine g_iload_n X dJ13_numberOfTrailingZeros_75 rfl ?_
            refine g_iconst (v := 1) X dJ13_numberOfTrailingZeros_76 rfl ?_
            refine g_iushr X dJ13_numberOfTrailingZeros_77 rfl ?_
            refine g_iadd X dJ13_numberOfTrailingZeros_78 ?_
            exact g_iret X hr dJ13_numberOfTrailingZeros_79 (Nat.le_of_ble_eq_true rfl) (Nat.le_of_ble_eq_true rfl) (⟨ei (by rcases (show k = 0 ∨ k = 1 ∨ k = 2 ∨ k = 3 ∨ k = 4 ∨ k = 5 ∨ k = 6 ∨ k = 7 ∨ k = 8 ∨ k = 9 ∨ k = 10 ∨ k = 11 ∨ k = 12 ∨ k = 13 ∨ k = 14 ∨ k = 15 from by omega) with rfl | rfl | rfl | rfl | rfl | rfl | rfl | rfl | rfl | rfl | rfl | rfl | rfl | rfl | rfl | rfl <;> first | exact absurd c9 (by decide +kernel) | exact absurd c23 (by decide +kernel) | exact absurd c38 (by decide +kernel) | exact absurd c52 (by decide +kernel) | exact absurd c64 (by decide +kernel) | decide +kernel), rfl⟩)
        · refine g_iinc (v := 4) X dJ13_numberOfTrailingZeros_55 rfl rfl (Nat.le_of_ble_eq_true rfl) ?_
          refine g_iload_n X dJ13_numberOfTrailingZeros_58 rfl ?_
          refine g_iconst (v := 4) X dJ13_numberOfTrailingZeros_59 rfl ?_
          refine g_iushr X dJ13_numberOfTrailingZeros_60 rfl ?_
          refine g_istore_n X dJ13_numberOfTrailingZeros_61 (Nat.le_of_ble_eq_true rfl) ?_
          refine g_iload_n X dJ13_numberOfTrailingZeros_62 rfl ?_
          refine g_iconst (v := 4) X dJ13_numberOfTrailingZeros_63 rfl ?_
          refine g_icmp_le (tgt := 74) X dJ13_numberOfTrailingZeros_64 rfl (fun c64 => ?_) (fun c64 => ?_)
          · refine g_iload_n X dJ13_numberOfTrailingZeros_74 rfl ?_
            refine g_iload_n X dJ13_numberOfTrailingZeros_75 rfl ?_
            refine g_iconst (v := 1) X dJ13_numberOfTrailingZeros_76 rfl ?_
            refine g_iushr X dJ13_numberOfTrailingZeros_77 rfl ?_
            refine g_iadd X dJ13_numberOfTrailingZeros_78 ?_
            exact g_iret X hr dJ13_numberOfTrailingZeros_79 (Nat.le_of_ble_eq_true rfl) (Nat.le_of_ble_eq_true rfl) (⟨ei (by rcases (show k = 0 ∨ k = 1 ∨ k = 2 ∨ k = 3 ∨ k = 4 ∨ k = 5 ∨ k = 6 ∨ k = 7 ∨ k = 8 ∨ k = 9 ∨ k = 10 ∨ k = 11 ∨ k = 12 ∨ k = 13 ∨ k = 14 ∨ k = 15 from by omega) with rfl | rfl | rfl | rfl | rfl | rfl | rfl | rfl | rfl | rfl | rfl | rfl | rfl | rfl | rfl | rfl <;> first | exact absurd c9 (by decide +kernel) | exact absurd c23 (by decide +kernel) | exact absurd c38 (by decide +kernel) | exact absurd c52 (by decide +kernel) | exact absurd c64 (by decide +kernel) | decide +kernel), rfl⟩)
          · refine g_iinc (v := 2) X dJ13_numberOfTrailingZeros_67 rfl rfl (Nat.le_of_ble_eq_true rfl) ?_
            refine g_iload_n X dJ13_numberOfTrailingZeros_70 rfl ?_
            refine g_iconst (v := 2) X dJ13_numberOfTrailingZeros_71 rfl ?_
            refine g_iushr X dJ13_numberOfTrailingZeros_72 rfl ?_
            refine g_istore_n X dJ13_numberOfTrailingZeros_73 (Nat.le_of_ble_eq_true rfl) ?_
            refine g_iload_n X dJ13_numberOfTrailingZeros_74 rfl ?_
            refine g_iload_n X dJ13_numberOfTrailingZeros_75 rfl ?_
            refine g_iconst (v := 1) X dJ13_numberOfTrailingZeros_76 rfl ?_
            refine g_iushr X dJ13_numberOfTrailingZeros_77 rfl ?_
            refine g_iadd X dJ13_numberOfTrailingZeros_78 ?_
            exact g_iret X hr dJ13_numberOfTrailingZeros_79 (Nat.le_of_ble_eq_true rfl) (Nat.le_of_ble_eq_true rfl) (⟨ei (by rcases (show k = 0 ∨ k = 1 ∨ k = 2 ∨ k = 3 ∨ k = 4 ∨ k = 5 ∨ k = 6 ∨ k = 7 ∨ k = 8 ∨ k = 9 ∨ k = 10 ∨ k = 11 ∨ k = 12 ∨ k = 13 ∨ k = 14 ∨ k = 15 from by omega) with rfl | rfl | rfl | rfl | rfl | rfl | rfl | rfl | rfl | rfl | rfl | rfl | rfl | rfl | rfl | rfl <;> first | exact absurd c9 (by decide +kernel) | exact absurd c23 (by decide +kernel) | exact absurd c38 (by decide +kernel) | exact absurd c52 (by decide +kernel) | exact absurd c64 (by decide +kernel) | decide +kernel), rfl⟩)
      · refine g_iinc (v := 8) X dJ13_numberOfTrailingZeros_41 rfl rfl (Nat.le_of_ble_eq_true rfl) ?_
        refine g_iload_n X dJ13_numberOfTrailingZeros_44 rfl ?_
        refine g_bipush (v := 8) X dJ13_numberOfTrailingZeros_45 rfl ?_
        refine g_iushr X dJ13_numberOfTrailingZeros_47 rfl ?_
        refine g_istore_n X dJ13_numberOfTrailingZeros_48 (Nat.le_of_ble_eq_true rfl) ?_
        refine g_iload_n X dJ13_numberOfTrailingZeros_49 rfl ?_
        refine g_bipush (v := 16) X dJ13_numberOfTrailingZeros_50 rfl ?_
        refine g_icmp_le (tgt := 62) X dJ13_numberOfTrailingZeros_52 rfl (fun c52 => ?_) (fun c52 => ?_)
        · refine g_iload_n X dJ13_numberOfTrailingZeros_62 rfl ?_
          refine g_iconst (v := 4) X dJ13_numberOfTrailingZeros_63 rfl ?_
          refine g_icmp_le (tgt := 74) X dJ13_numberOfTrailingZeros_64 rfl (fun c64 => ?_) (fun c64 => ?_)
          · refine g_iload_n X dJ13_numberOfTrailingZeros_74 rfl ?_
            refine g_iload_n X dJ13_numberOfTrailingZeros_75 rfl ?_
            refine g_iconst (v := 1) X dJ13_numberOfTrailingZeros_76 rfl ?_
            refine g_iushr X dJ13_numberOfTrailingZeros_77 rfl ?_
            refine g_iadd X dJ13_numberOfTrailingZeros_78 ?_
            exact g_iret X hr dJ13_numberOfTrailingZeros_79 (Nat.le_of_ble_eq_true rfl) (Nat.le_of_ble_eq_true rfl) (⟨ei (by rcases (show k = 0 ∨ k = 1 ∨ k = 2 ∨ k = 3 ∨ k = 4 ∨ k = 5 ∨ k = 6 ∨ k = 7 ∨ k = 8 ∨ k = 9 ∨ k = 10 ∨ k = 11 ∨ k = 12 ∨ k = 13 ∨ k = 14 ∨ k = 15 from by omega) with rfl | rfl | rfl | rfl | rfl | rfl | rfl | rfl | rfl | rfl | rfl | rfl | rfl | rfl | rfl | rfl <;> first | exact absurd c9 (by decide +kernel) | exact absurd c23 (by decide +kernel) | exact absurd c38 (by decide +kernel) | exact absurd c52 (by decide +kernel) | exact absurd c64 (by decide +kernel) | decide +kernel), rfl⟩)
          · refine g_iinc (v := 2) X dJ13_numberOfTrailingZeros_67 rfl rfl (Nat.le_of_ble_eq_true rfl) ?_
            refine g_iload_n X dJ13_numberOfTrailingZeros_70 rfl ?_
            refine g_iconst (v := 2) X dJ13_numberOfTrailingZeros_71 rfl ?_
            refine g_iushr X dJ13_numberOfTrailingZeros_72 rfl ?_
            refine g_istore_n X dJ13_numberOfTrailingZeros_73 (Nat.le_of_ble_eq_true rfl) ?_
            refine g_iload_n X dJ13_numberOfTrailingZeros_74 rfl ?_
            refine g_iload_n X dJ13_numberOfTrailingZeros_75 rfl ?_
            refine g_iconst (v := 1) X dJ13_numberOfTrailingZeros_76 rfl ?_
            refine g_iushr X dJ13_numberOfTrailingZeros_77 rfl ?_
            refine g_iadd X dJ13_numberOfTrailingZeros_78 ?_
            exact g_iret X hr dJ13_numberOfTrailingZeros_79 (Nat.le_of_ble_eq_true rfl) (Nat.le_of_ble_eq_true rfl) (⟨ei (by rcases (show k = 0 ∨ k = 1 ∨ k = 2 ∨ k = 3 ∨ k = 4 ∨ k = 5 ∨ k = 6 ∨ k = 7 ∨ k = 8 ∨ k = 9 ∨ k = 10 ∨ k = 11 ∨ k = 12 ∨ k = 13 ∨ k = 14 ∨ k = 15 from by omega) with rfl | rfl | rfl | rfl | rfl | rfl | rfl | rfl | rfl | rfl | rfl | rfl | rfl | rfl | rfl | rfl <;> first | exact absurd c9 (by decide +kernel) | exact absurd c23 (by decide +kernel) | exact absurd c38 (by decide +kernel) | exact absurd c52 (by decide +kernel) | exact absurd c64 (by decide +kernel) | decide +kernel), rfl⟩)
        · refine g_iinc (v := 4) X dJ13_numberOfTrailingZeros_55 rfl rfl (Nat.le_of_ble_eq_true rfl) ?_
          refine g_iload_n X dJ13_numberOfTrailingZeros_58 rfl ?_
          refine g_iconst (v := 4) X dJ13_numberOfTrailingZeros_59 rfl ?_
          refine g_iushr X dJ13_numberOfTrailingZeros_60 rfl ?_
          refine g_istore_n X dJ13_numberOfTrailingZeros_61 (Nat.le_of_ble_eq_true rfl) ?_
          refine g_iload_n X dJ13_numberOfTrailingZeros_62 rfl ?_
          refine g_iconst (v := 4) X dJ13_numberOfTrailingZeros_63 rfl ?_
          refine g_icmp_le (tgt := 74) X dJ13_numberOfTrailingZeros_64 rfl (fun c64 => ?_) (fun c64 => ?_)
          · refine g_iload_n X dJ13_numberOfTrailingZeros_74 rfl ?_
            refine g_iload_n X dJ13_numberOfTrailingZeros_75 rfl ?_
            refine g_iconst (v := 1) X dJ13_numberOfTrailingZeros_76 rfl ?_
            refine g_iushr X dJ13_numberOfTrailingZeros_77 rfl ?_
            refine g_iadd X dJ13_numberOfTrailingZeros_78 ?_
            exact g_iret X hr dJ13_numberOfTrailingZeros_79 (Nat.le_of_ble_eq_true rfl) (Nat.le_of_ble_eq_true rfl) (⟨ei (by rcases (show k = 0 ∨ k = 1 ∨ k = 2 ∨ k = 3 ∨ k = 4 ∨ k = 5 ∨ k = 6 ∨ k = 7 ∨ k = 8 ∨ k = 9 ∨ k = 10 ∨ k = 11 ∨ k = 12 ∨ k = 13 ∨ k = 14 ∨ k = 15 from by omega) with rfl | rfl | rfl | rfl | rfl | rfl | rfl | rfl | rfl | rfl | rfl | rfl | rfl | rfl | rfl | rfl <;> first | exact absurd c9 (by decide +kernel) | exact absurd c23 (by decide +kernel) | exact absurd c38 (by decide +kernel) | exact absurd c52 (by decide +kernel) | exact absurd c64 (by decide +kernel) | decide +kernel), rfl⟩)
          · refine g_iinc (v := 2) X dJ13_numberOfTrailingZeros_67 rfl rfl (Nat.le_of_ble_eq_true rfl) ?_
            refine g_iload_n X dJ13_numberOfTrailingZeros_70 rfl ?_
            refine g_iconst (v := 2) X dJ13_numberOfTrailingZeros_71 rfl ?_
            refine g_iushr X dJ13_numberOfTrailingZeros_72 rfl ?_
            refine g_istore_n X dJ13_numberOfTrailingZeros_73 (Nat.le_of_ble_eq_true rfl) ?_
            refine g_iload_n X dJ13_numberOfTrailingZeros_74 rfl ?_
            refine g_iload_n X dJ13_numberOfTrailingZeros_75 rfl ?_
            refine g_iconst (v := 1) X dJ13_numberOfTrailingZeros_76 rfl ?_
            refine g_iushr X dJ13_numberOfTrailingZeros_77 rfl ?_
            refine g_iadd X dJ13_numberOfTrailingZeros_78 ?_
            exact g_iret X hr dJ13_numberOfTrailingZeros_79 (Nat.le_of_ble_eq_true rfl) (Nat.le_of_ble_eq_true rfl) (⟨ei (by rcases (show k = 0 ∨ k = 1 ∨ k = 2 ∨ k = 3 ∨ k = 4 ∨ k = 5 ∨ k = 6 ∨ k = 7 ∨ k = 8 ∨ k = 9 ∨ k = 10 ∨ k = 11 ∨ k = 12 ∨ k = 13 ∨ k = 14 ∨ k = 15 from by omega) with rfl | rfl | rfl | rfl | rfl | rfl | rfl | rfl | rfl | rfl | rfl | rfl | rfl | rfl | rfl | rfl <;> first | exact absurd c9 (by decide +kernel) | exact absurd c23 (by decide +kernel) | exact absurd c38 (by decide +kernel) | exact absurd c52 (by decide +kernel) | exact absurd c64 (by decide +kernel) | decide +kernel), rfl⟩)
  · refine g_iload_n X dJ13_numberOfTrailingZeros_12 rfl ?_
    refine g_bipush (v := 32) X dJ13_numberOfTrailingZeros_13 rfl ?_
    refine g_iand X dJ13_numberOfTrailingZeros_15 ?_
    exact g_iret X hr dJ13_numberOfTrailingZeros_16 (Nat.le_of_ble_eq_true rfl) (Nat.le_of_ble_eq_true rfl) (⟨ei (by rcases (show k = 0 ∨ k = 1 ∨ k = 2 ∨ k = 3 ∨ k = 4 ∨ k = 5 ∨ k = 6 ∨ k = 7 ∨ k = 8 ∨ k = 9 ∨ k = 10 ∨ k = 11 ∨ k = 12 ∨ k = 13 ∨ k = 14 ∨ k = 15 from by omega) with rfl | rfl | rfl | rfl | rfl | rfl | rfl | rfl | rfl | rfl | rfl | rfl | rfl | rfl | rfl | rfl <;> first | exact absurd c9 (by decide +kernel) | decide +kernel), rfl⟩)
set_option maxHeartbeats 600000 in
theorem k_X0_common {l : Launch} {E : gk_E} (ho : E.2.2.2.2 = true) : ∀ (d : Nat) {S : gk_S} {a b : Int32} {x y : Nat} (_ : a = nI x) (_ : b = nI y) (_ : x < 2 ^ 31) (_ : y ≤ d ∧ y < 2 ^ 31), gk_T l E yX0_common cX0_common 2 (some .int) d (21 * d) 0 0 [.int a, .int b] S (fun r S' => r = some (.int (nI (Nat.gcd x y))) ∧ S' = S) := by
  intro d
  induction d with
  | zero =>
    intro S a b x y ha hb hx ⟨hy, hy2⟩
    refine gk_T.of [some (.int a), some (.int b)] (by decide) (Nat.le_of_ble_eq_true rfl) (fun _ _ h => h) ?_
    intro p_ e_ R_ s_ m_ args_ below_ meth_ c_ hR X hr hin
    subst hR
    refine g_iload_n X dX0_common_0 rfl ?_
    refine g_if_ne (tgt := 8) X dX0_common_1 rfl (fun c1 => ?_) (fun c1 => ?_)
    · exact absurd (by rw [hb, show y = 0 by omega]; rfl) c1
    · refine g_iload_n X dX0_common_4 rfl ?_
      refine g_goto (tgt := 15) X dX0_common_5 rfl ?_
      exact g_iret X hr dX0_common_15 (Nat.le_of_ble_eq_true rfl) (Nat.le_of_ble_eq_true rfl) (⟨by rw [ha, show y = 0 from (nI_eq (by omega) (by decide)).mp (hb.symm.trans c1), Nat.gcd_zero_right], rfl⟩)
  | succ d ih =>
    intro S a b x y ha hb hx ⟨hy, hy2⟩
    refine gk_T.of [some (.int a), some (.int b)] (by decide) (Nat.le_of_ble_eq_true rfl) (fun _ _ h => h) ?_
    intro p_ e_ R_ s_ m_ args_ below_ meth_ c_ hR X hr hin
    subst hR
    refine g_iload_n X dX0_common_0 rfl ?_
    refine g_if_ne (tgt := 8) X dX0_common_1 rfl (fun c1 => ?_) (fun c1 => ?_)
    · have hy0 : y ≠ 0 := fun z => c1 (by rw [hb, z]; rfl)
      refine g_iload_n X dX0_common_8 rfl ?_
      refine g_iload_n X dX0_common_9 rfl ?_
      refine g_iload_n X dX0_common_10 rfl ?_
      refine g_irem X dX0_common_11 c1 ?_
      refine g_callS X (ih (x := y) (y := x % y) hb (by rw [ha, hb, pk_rem hx (by omega) (by omega)]) (by omega) ⟨by have := Nat.mod_lt x (show 0 < y by omega); omega, by have := Nat.mod_lt x (show 0 < y by omega); omega⟩) (lw_S q1259 q1260 q135 q1261) hd_X0_common dX0_common_12 rfl ⟨Nat.le_refl _, by show 8 + (2 + 11) + 21 * d ≤ 21 * (d + 1); omega⟩ ⟨Nat.le_of_ble_eq_true rfl, Nat.le_of_ble_eq_true rfl⟩ (Nat.le_of_ble_eq_true rfl) ?_
      rintro _ S1 ⟨rfl, hS1⟩
      obtain rfl := hS1.symm
      exact g_iret X hr dX0_common_15 (Nat.le_of_ble_eq_true rfl) (Nat.le_of_ble_eq_true rfl) (⟨by rw [Nat.gcd_comm x y, Nat.gcd_rec y x, Nat.gcd_comm], rfl⟩)
    · refine g_iload_n X dX0_common_4 rfl ?_
      refine g_goto (tgt := 15) X dX0_common_5 rfl ?_
      exact g_iret X hr dX0_common_15 (Nat.le_of_ble_eq_true rfl) (Nat.le_of_ble_eq_true rfl) (⟨by rw [ha, show y = 0 from (nI_eq (by omega) (by decide)).mp (hb.symm.trans c1), Nat.gcd_zero_right], rfl⟩)
set_option maxHeartbeats 600000 in
theorem k_X2_divisor {l : Launch} {E : gk_E} (ho : E.2.2.2.2 = true) {S : gk_S} {a : Int32} {b : Int32} {x y : Nat} (ha : a = nI x) (hb : b = nI y) (hx : x < 2 ^ 31) (hy : y < 2 ^ 31) : gk_T l E yX2_divisor cX2_divisor 5 ((some .int)) 0 0 0 0 [.int a, .int b] S (fun r S' => r = some (.int (nI (Nat.gcd x y))) ∧ S' = S) := by
  refine gk_T.of [some (.int a), some (.int b), none, none, none] (by decide) (Nat.le_of_ble_eq_true rfl) (le_1 rfl (le_1 rfl (le_p (le_p (le_p le_n))))) ?_
  intro p_ e_ R_ s_ m_ args_ below_ meth_ c_ hR X hr hin
  subst hR
  refine g_iload_n X dX2_divisor_0 rfl ?_
  refine g_istore_n X dX2_divisor_1 (Nat.le_of_ble_eq_true rfl) ?_
  refine g_iload_n X dX2_divisor_2 rfl ?_
  refine g_istore_n X dX2_divisor_3 (Nat.le_of_ble_eq_true rfl) ?_
  refine g_loop (σ := Nat × Nat) (fun (q : Nat × Nat) => match q with | (u, v) => S) (fun (q : Nat × Nat) => match q with | (u, v) => ([some (.int a), some (.int b), some (.int (nI u)), some (.int (nI v)), none] : List (Option Value))) (fun (q : Nat × Nat) => match q with | (u, v) => u < 2 ^ 31 ∧ v < 2 ^ 31 ∧ Nat.gcd u v = Nat.gcd x y) (fun (q : Nat × Nat) => match q with | (u, v) => v) ((x, y)) ?_ (rfl) (le_1 rfl (le_1 rfl (le_1 (ei ha) (le_1 (ei hb) (le_0 le_n))))) ?_
  · exact ⟨hx, hy, rfl⟩
  rintro ⟨u, v⟩ hI ih
  try dsimp only at hI ih ⊢
  refine g_iload_n X dX2_divisor_4 rfl ?_
  refine g_if_eq (tgt := 21) X dX2_divisor_5 rfl (fun c5 => ?_) (fun c5 => ?_)
  · have hv : v = 0 := (nI_eq hI.2.1 (by decide)).mp c5
    refine g_iload_n X dX2_divisor_21 rfl ?_
    exact g_iret X hr dX2_divisor_22 (Nat.le_of_ble_eq_true rfl) (Nat.le_of_ble_eq_true rfl) (⟨by rw [← hI.2.2, hv, Nat.gcd_zero_right], rfl⟩)
  · have hv : v ≠ 0 := fun z => c5 (by rw [z]; rfl)
    refine g_iload_n X dX2_divisor_8 rfl ?_
    refine g_iload_n X dX2_divisor_9 rfl ?_
    refine g_irem X dX2_divisor_10 c5 ?_
    refine g_istore X dX2_divisor_11 (Nat.le_of_ble_eq_true rfl) ?_
    refine g_iload_n X dX2_divisor_13 rfl ?_
    refine g_istore_n X dX2_divisor_14 (Nat.le_of_ble_eq_true rfl) ?_
    refine g_iload X dX2_divisor_15 rfl ?_
    refine g_istore_n X dX2_divisor_17 (Nat.le_of_ble_eq_true rfl) ?_
    refine g_goto (tgt := 4) X dX2_divisor_18 rfl ?_
    refine g_sub (le_1 rfl (le_1 rfl (le_1 rfl (le_1 (ei (pk_rem hI.1 (by omega) hI.2.1)) (le_0 le_n))))) (ih ((v, u % v)) ?_ ?_)
    · try dsimp only
      exact ⟨hI.2.1, Nat.lt_trans (Nat.mod_lt u (by omega)) hI.2.1, by rw [← hI.2.2, Nat.gcd_comm u v, Nat.gcd_rec v u, Nat.gcd_comm]⟩
    · try dsimp only
      exact Nat.mod_lt u (by omega)
theorem gcd_nz {u v : Nat} (h : 0 < u) (hu : u ≤ 63) : ¬ nI (Nat.gcd u v) = 0 := nI_ne0 (Nat.gcd_pos_of_pos_left v h) (by have := Nat.gcd_le_left v h; omega)
theorem ix_bc {w : Nat} (h : w < 65536) : ix (bcI (nI w)) = bcN w := by rw [bcI_N h, ix_n (by have := bcN_le (w := w); omega)]
set_option maxHeartbeats 600000 in
theorem k_X0_likely {l : Launch} {E : gk_E} (ho : E.2.2.2.2 = true) {S : gk_S} {b : Int32} {c : Int32} {q : Int32} {a n : Nat} {f : Nat → Int32} (hu : RU E S a n f) (ht : tbW n f) : gk_T l E yX0_likely cX0_likely 6 ((some .int)) 65 1365 0 0 [.ref (E.2.2.1 0), .int b, .int c, .int q] S (fun r S' => r = some (.int (if (0 ≤ b ∧ b ≤ alC n) ∧ (0 ≤ c ∧ c ≤ nI n - 1) ∧ wo n f b ≠ 0 then (if q = 0 then bcI (wo n f (b ||| one c)) else bcI (wo n f b)) / nI (Nat.gcd (ix (bcI (wo n f b))) (ix (bcI (wo n f (b ||| one c))))) else -1)) ∧ S' = S) := by
  refine gk_T.of [some (.ref (E.2.2.1 0)), some (.int b), some (.int c), some (.int q), none, none] (by decide) (Nat.le_of_ble_eq_true rfl) (le_1 rfl (le_1 rfl (le_1 rfl (le_1 rfl (le_p (le_p le_n)))))) ?_
  intro p_ e_ R_ s_ m_ args_ below_ meth_ c_ hR X hr hin
  subst hR
  have hn8 : n ≤ 8 := hu.1
  obtain ⟨hN, hN2⟩ := alC_n hn8
  obtain ⟨w, hw, hw2⟩ := wo_w (b := b) ht
  refine g_aload_n X dX0_likely_0 rfl ?_
  refine g_iload_n X dX0_likely_1 rfl ?_
  refine g_callV (C := RX0) (T := TX0) (N := 13) X (k_X0_areClaims ho hu) (lw_V q1193 q1195 qs44 q135 q1196) hd_X0_areClaims dX0_likely_2 (rd0 ho) rfl rfl ⟨Nat.le_of_ble_eq_true rfl, Nat.le_of_ble_eq_true rfl⟩ ⟨Nat.le_of_ble_eq_true rfl, Nat.le_of_ble_eq_true rfl⟩ (Nat.le_of_ble_eq_true rfl) ?_
  rintro _ S1 ⟨rfl, hS1⟩
  obtain rfl := hS1.symm
  refine g_ifp_eq (tgt := 24) X dX0_likely_5 rfl (fun c5 => ?_) (fun c5 => ?_)
  · refine g_iconst (v := (-1)) X dX0_likely_24 rfl ?_
    exact g_iret X hr dX0_likely_25 (Nat.le_of_ble_eq_true rfl) (Nat.le_of_ble_eq_true rfl) (⟨by rw [if_neg (fun z => c5 z.1)], rfl⟩)
  · refine g_aload_n X dX0_likely_8 rfl ?_
    refine g_iload_n X dX0_likely_9 rfl ?_
    refine g_callV (C := RX0) (T := TX0) (N := 13) X (k_X0_isClaim ho hu) (lw_V q1082 q1084 qs36 q135 q1085) hd_X0_isClaim dX0_likely_10 (rd0 ho) rfl rfl ⟨Nat.le_of_ble_eq_true rfl, Nat.le_of_ble_eq_true rfl⟩ ⟨Nat.le_of_ble_eq_true rfl, Nat.le_of_ble_eq_true rfl⟩ (Nat.le_of_ble_eq_true rfl) ?_
    rintro _ S1 ⟨rfl, hS1⟩
    obtain rfl := hS1.symm
    refine g_ifp_eq (tgt := 24) X dX0_likely_13 rfl (fun c13 => ?_) (fun c13 => ?_)
    · refine g_iconst (v := (-1)) X dX0_likely_24 rfl ?_
      exact g_iret X hr dX0_likely_25 (Nat.le_of_ble_eq_true rfl) (Nat.le_of_ble_eq_true rfl) (⟨by rw [if_neg (fun z => c13 z.2.1)], rfl⟩)
    · refine g_aload_n X dX0_likely_16 rfl ?_
      refine g_iload_n X dX0_likely_17 rfl ?_
      refine g_callV (C := RX0) (T := TX0) (N := 13) X (k_X0_isTogether ho hu) (lw_V q1221 q1223 qs46 q135 q1224) hd_X0_isTogether dX0_likely_18 (rd0 ho) rfl rfl ⟨Nat.le_of_ble_eq_true rfl, Nat.le_of_ble_eq_true rfl⟩ ⟨Nat.le_of_ble_eq_true rfl, Nat.le_of_ble_eq_true rfl⟩ (Nat.le_of_ble_eq_true rfl) ?_
      rintro _ S1 ⟨rfl, hS1⟩
      obtain rfl := hS1.symm
      refine g_ifp_ne (tgt := 26) X dX0_likely_21 rfl (fun c21 => ?_) (fun c21 => ?_)
      · obtain ⟨v, hv, hv2⟩ := wo_w (b := b ||| one c) ht
        have hw0 : w ≠ 0 := fun z => c21 (by rw [hw2, z]; rfl)
        have hA : bcI (wo n f b) = nI (bcN w) := by rw [hw2, bcI_N hw]
        have hB : bcI (wo n f (b ||| one c)) = nI (bcN v) := by rw [hv2, bcI_N hv]
        have h63 := bcN_le (w := w)
        have h64 := bcN_le (w := v)
        refine g_aload_n X dX0_likely_26 rfl ?_
        refine g_iload_n X dX0_likely_27 rfl ?_
        refine g_callV (C := RX0) (T := TX0) (N := 13) X (k_X0_worldsOf ho hu) (lw_V q1043 q1045 qs32 q135 q1046) hd_X0_worldsOf dX0_likely_28 (rd0 ho) rfl rfl ⟨Nat.le_of_ble_eq_true rfl, Nat.le_of_ble_eq_true rfl⟩ ⟨Nat.le_of_ble_eq_true rfl, Nat.le_of_ble_eq_true rfl⟩ (Nat.le_of_ble_eq_true rfl) ?_
        rintro _ S1 ⟨rfl, hS1⟩
        obtain rfl := hS1.symm
        refine g_callS X (k_J13_bitCount ho) (lw_S q1068 q1069 q163 q1070) hd_J13_bitCount dX0_likely_31 rfl ⟨Nat.le_of_ble_eq_true rfl, Nat.le_of_ble_eq_true rfl⟩ ⟨Nat.le_of_ble_eq_true rfl, Nat.le_of_ble_eq_true rfl⟩ (Nat.le_of_ble_eq_true rfl) ?_
        rintro _ S1 ⟨rfl, hS1⟩
        obtain rfl := hS1.symm
        refine g_istore X dX0_likely_34 (Nat.le_of_ble_eq_true rfl) ?_
        refine g_aload_n X dX0_likely_36 rfl ?_
        refine g_iload_n X dX0_likely_37 rfl ?_
        refine g_iconst (v := 1) X dX0_likely_38 rfl ?_
        refine g_iload_n X dX0_likely_39 rfl ?_
        refine g_ishl X dX0_likely_40 ?_
        refine g_ior X dX0_likely_41 ?_
        refine g_callV (C := RX0) (T := TX0) (N := 13) X (k_X0_worldsOf ho hu) (lw_V q1043 q1045 qs32 q135 q1046) hd_X0_worldsOf dX0_likely_42 (rd0 ho) rfl rfl ⟨Nat.le_of_ble_eq_true rfl, Nat.le_of_ble_eq_true rfl⟩ ⟨Nat.le_of_ble_eq_true rfl, Nat.le_of_ble_eq_true rfl⟩ (Nat.le_of_ble_eq_true rfl) ?_
        rintro _ S1 ⟨rfl, hS1⟩
        obtain rfl := hS1.symm
        refine g_callS X (k_J13_bitCount ho) (lw_S q1068 q1069 q163 q1070) hd_J13_bitCount dX0_likely_45 rfl ⟨Nat.le_of_ble_eq_true rfl, Nat.le_of_ble_eq_true rfl⟩ ⟨Nat.le_of_ble_eq_true rfl, Nat.le_of_ble_eq_true rfl⟩ (Nat.le_of_ble_eq_true rfl) ?_
        rintro _ S1 ⟨rfl, hS1⟩
        obtain rfl := hS1.symm
        refine g_istore X dX0_likely_48 (Nat.le_of_ble_eq_true rfl) ?_
        refine g_iload_n X dX0_likely_50 rfl ?_
        refine g_if_eq (tgt := 59) X dX0_likely_51 rfl (fun c51 => ?_) (fun c51 => ?_)
        · refine g_iload X dX0_likely_59 rfl ?_
          refine g_iload X dX0_likely_61 rfl ?_
          refine g_iload X dX0_likely_63 rfl ?_
          refine g_callS X (k_X0_common ho 64 hA hB (by omega) ⟨by omega, by omega⟩) (lw_S q1259 q1260 q135 q1261) hd_X0_common dX0_likely_65 rfl ⟨Nat.le_of_ble_eq_true rfl, Nat.le_of_ble_eq_true rfl⟩ ⟨Nat.le_of_ble_eq_true rfl, Nat.le_of_ble_eq_true rfl⟩ (Nat.le_of_ble_eq_true rfl) ?_
          rintro _ S1 ⟨rfl, hS1⟩
          obtain rfl := hS1.symm
          refine g_idiv X dX0_likely_68 (gcd_nz (bcN_pos hw hw0) h63) ?_
          exact g_iret X hr dX0_likely_69 (Nat.le_of_ble_eq_true rfl) (Nat.le_of_ble_eq_true rfl) (⟨by rw [if_pos ⟨c5, c13, c21⟩, if_pos c51, hw2, hv2, ix_bc hw, ix_bc hv], rfl⟩)
        · refine g_iload X dX0_likely_54 rfl ?_
          refine g_goto (tgt := 61) X dX0_likely_56 rfl ?_
          refine g_iload X dX0_likely_61 rfl ?_
          refine g_iload X dX0_likely_63 rfl ?_
          refine g_callS X (k_X0_common ho 64 hA hB (by omega) ⟨by omega, by omega⟩) (lw_S q1259 q1260 q135 q1261) hd_X0_common dX0_likely_65 rfl ⟨Nat.le_of_ble_eq_true rfl, Nat.le_of_ble_eq_true rfl⟩ ⟨Nat.le_of_ble_eq_true rfl, Nat.le_of_ble_eq_true rfl⟩ (Nat.le_of_ble_eq_true rfl) ?_
          rintro _ S1 ⟨rfl, hS1⟩
          obtain rfl := hS1.symm
          refine g_idiv X dX0_likely_68 (gcd_nz (bcN_pos hw hw0) h63) ?_
          exact g_iret X hr dX0_likely_69 (Nat.le_of_ble_eq_true rfl) (Nat.le_of_ble_eq_true rfl) (⟨by rw [if_pos ⟨c5, c13, c21⟩, if_neg c51, hw2, hv2, ix_bc hw, ix_bc hv], rfl⟩)
      · refine g_iconst (v := (-1)) X dX0_likely_24 rfl ?_
        exact g_iret X hr dX0_likely_25 (Nat.le_of_ble_eq_true rfl) (Nat.le_of_ble_eq_true rfl) (⟨by rw [if_neg (fun z => c21 z.2.2)], rfl⟩)
set_option maxHeartbeats 600000 in
theorem k_X2_likely {l : Launch} {E : gk_E} (ho : E.2.2.2.2 = true) {S : gk_S} {b : Int32} {c : Int32} {q : Int32} {n : Nat} {f : Nat → Int32} (hu : MU S n f) (ht : tbW n f) : gk_T l E yX2_likely cX2_likely 6 ((some .int)) 3 61 0 0 [.ref (E.2.2.1 3), .int b, .int c, .int q] S (fun r S' => r = some (.int (if (0 ≤ b ∧ b ≤ alC n) ∧ (0 ≤ c ∧ c ≤ nI n - 1) ∧ wo n f b ≠ 0 then (if q = 0 then bcI (wo n f b &&& f (ix c)) else bcI (wo n f b)) / nI (Nat.gcd (ix (bcI (wo n f b))) (ix (bcI (wo n f b &&& f (ix c))))) else -1)) ∧ S' = S) := by
  refine gk_T.of [some (.ref (E.2.2.1 3)), some (.int b), some (.int c), some (.int q), none, none] (by decide) (Nat.le_of_ble_eq_true rfl) (le_1 rfl (le_1 rfl (le_1 rfl (le_1 rfl (le_p (le_p le_n)))))) ?_
  intro p_ e_ R_ s_ m_ args_ below_ meth_ c_ hR X hr hin
  subst hR
  have hn8 : n ≤ 8 := hu.1
  obtain ⟨hN, hN2⟩ := alC_n hn8
  obtain ⟨w, hw, hw2⟩ := wo_w (b := b) ht
  refine g_aload_n X dX2_likely_0 rfl ?_
  refine g_iload_n X dX2_likely_1 rfl ?_
  refine g_callV (C := RX2) (T := TX2) (N := 35) X (k_X2_areClaims ho hu) (lw_V q1939 q1941 qs121 q139 q1942) hd_X2_areClaims dX2_likely_2 (rd3 ho) rfl rfl ⟨Nat.le_of_ble_eq_true rfl, Nat.le_of_ble_eq_true rfl⟩ ⟨Nat.le_of_ble_eq_true rfl, Nat.le_of_ble_eq_true rfl⟩ (Nat.le_of_ble_eq_true rfl) ?_
  rintro _ S1 ⟨rfl, hS1⟩
  obtain rfl := hS1.symm
  refine g_ifp_eq (tgt := 24) X dX2_likely_5 rfl (fun c5 => ?_) (fun c5 => ?_)
  · refine g_iconst (v := (-1)) X dX2_likely_24 rfl ?_
    exact g_iret X hr dX2_likely_25 (Nat.le_of_ble_eq_true rfl) (Nat.le_of_ble_eq_true rfl) (⟨by rw [if_neg (fun z => c5 z.1)], rfl⟩)
  · refine g_aload_n X dX2_likely_8 rfl ?_
    refine g_iload_n X dX2_likely_9 rfl ?_
    refine g_callV (C := RX2) (T := TX2) (N := 35) X (k_X2_isClaim ho hu) (lw_V q1751 q1753 qs96 q139 q1754) hd_X2_isClaim dX2_likely_10 (rd3 ho) rfl rfl ⟨Nat.le_of_ble_eq_true rfl, Nat.le_of_ble_eq_true rfl⟩ ⟨Nat.le_of_ble_eq_true rfl, Nat.le_of_ble_eq_true rfl⟩ (Nat.le_of_ble_eq_true rfl) ?_
    rintro _ S1 ⟨rfl, hS1⟩
    obtain rfl := hS1.symm
    refine g_ifp_eq (tgt := 24) X dX2_likely_13 rfl (fun c13 => ?_) (fun c13 => ?_)
    · refine g_iconst (v := (-1)) X dX2_likely_24 rfl ?_
      exact g_iret X hr dX2_likely_25 (Nat.le_of_ble_eq_true rfl) (Nat.le_of_ble_eq_true rfl) (⟨by rw [if_neg (fun z => c13 z.2.1)], rfl⟩)
    · refine g_aload_n X dX2_likely_16 rfl ?_
      refine g_iload_n X dX2_likely_17 rfl ?_
      refine g_callV (C := RX2) (T := TX2) (N := 35) X (k_X2_worldsOf ho hu) (lw_V q1763 q1765 qs99 q139 q1766) hd_X2_worldsOf dX2_likely_18 (rd3 ho) rfl rfl ⟨Nat.le_of_ble_eq_true rfl, Nat.le_of_ble_eq_true rfl⟩ ⟨Nat.le_of_ble_eq_true rfl, Nat.le_of_ble_eq_true rfl⟩ (Nat.le_of_ble_eq_true rfl) ?_
      rintro _ S1 ⟨rfl, hS1⟩
      obtain rfl := hS1.symm
      refine g_if_ne (tgt := 26) X dX2_likely_21 rfl (fun c21 => ?_) (fun c21 => ?_)
      · have hck := cl_lt hn8 c13
        obtain ⟨v, hv, hv2⟩ := ht (ix c) hck
        have hw0 : w ≠ 0 := fun z => c21 (by rw [hw2, z]; rfl)
        have hwv : wo n f b &&& f (ix c) = nI (w &&& v) := by rw [hw2, hv2, nx_and]
        have hA : bcI (wo n f b) = nI (bcN w) := by rw [hw2, bcI_N hw]
        have hB : bcI (wo n f b &&& f (ix c)) = nI (bcN (w &&& v)) := by rw [hwv, bcI_N (and_w hw)]
        have h63 := bcN_le (w := w)
        have h64 := bcN_le (w := w &&& v)
        refine g_aload_n X dX2_likely_26 rfl ?_
        refine g_iload_n X dX2_likely_27 rfl ?_
        refine g_callV (C := RX2) (T := TX2) (N := 35) X (k_X2_worldsOf ho hu) (lw_V q1763 q1765 qs99 q139 q1766) hd_X2_worldsOf dX2_likely_28 (rd3 ho) rfl rfl ⟨Nat.le_of_ble_eq_true rfl, Nat.le_of_ble_eq_true rfl⟩ ⟨Nat.le_of_ble_eq_true rfl, Nat.le_of_ble_eq_true rfl⟩ (Nat.le_of_ble_eq_true rfl) ?_
        rintro _ S1 ⟨rfl, hS1⟩
        obtain rfl := hS1.symm
        refine g_callS X (k_X2_bits ho hw2 hw) (lw_S q1822 q1823 q139 q1824) hd_X2_bits dX2_likely_31 rfl ⟨Nat.le_of_ble_eq_true rfl, Nat.le_of_ble_eq_true rfl⟩ ⟨Nat.le_of_ble_eq_true rfl, Nat.le_of_ble_eq_true rfl⟩ (Nat.le_of_ble_eq_true rfl) ?_
        rintro _ S1 ⟨rfl, hS1⟩
        obtain rfl := hS1.symm
        refine g_istore X dX2_likely_34 (Nat.le_of_ble_eq_true rfl) ?_
        refine g_aload_n X dX2_likely_36 rfl ?_
        refine g_iload_n X dX2_likely_37 rfl ?_
        refine g_callV (C := RX2) (T := TX2) (N := 35) X (k_X2_worldsOf ho hu) (lw_V q1763 q1765 qs99 q139 q1766) hd_X2_worldsOf dX2_likely_38 (rd3 ho) rfl rfl ⟨Nat.le_of_ble_eq_true rfl, Nat.le_of_ble_eq_true rfl⟩ ⟨Nat.le_of_ble_eq_true rfl, Nat.le_of_ble_eq_true rfl⟩ (Nat.le_of_ble_eq_true rfl) ?_
        rintro _ S1 ⟨rfl, hS1⟩
        obtain rfl := hS1.symm
        refine g_aload_n X dX2_likely_41 rfl ?_
        refine g_iload_n X dX2_likely_42 rfl ?_
        refine g_callV (C := RX2) (T := TX2) (N := 35) X (k_X2_tableOf ho hu (ix_i c13.1) hck) (lw_V q1768 q1770 qs100 q139 q1771) hd_X2_tableOf dX2_likely_43 (rd3 ho) rfl rfl ⟨Nat.le_of_ble_eq_true rfl, Nat.le_of_ble_eq_true rfl⟩ ⟨Nat.le_of_ble_eq_true rfl, Nat.le_of_ble_eq_true rfl⟩ (Nat.le_of_ble_eq_true rfl) ?_
        rintro _ S1 ⟨rfl, hS1⟩
        obtain rfl := hS1.symm
        refine g_iand X dX2_likely_46 ?_
        refine g_callS X (k_X2_bits ho hwv (and_w hw)) (lw_S q1822 q1823 q139 q1824) hd_X2_bits dX2_likely_47 rfl ⟨Nat.le_of_ble_eq_true rfl, Nat.le_of_ble_eq_true rfl⟩ ⟨Nat.le_of_ble_eq_true rfl, Nat.le_of_ble_eq_true rfl⟩ (Nat.le_of_ble_eq_true rfl) ?_
        rintro _ S1 ⟨rfl, hS1⟩
        obtain rfl := hS1.symm
        refine g_istore X dX2_likely_50 (Nat.le_of_ble_eq_true rfl) ?_
        refine g_iload_n X dX2_likely_52 rfl ?_
        refine g_if_eq (tgt := 61) X dX2_likely_53 rfl (fun c53 => ?_) (fun c53 => ?_)
        · refine g_iload X dX2_likely_61 rfl ?_
          refine g_iload X dX2_likely_63 rfl ?_
          refine g_iload X dX2_likely_65 rfl ?_
          refine g_callS X (k_X2_divisor ho hB hA (by omega) (by omega)) (lw_S q1992 q1993 q139 q1994) hd_X2_divisor dX2_likely_67 rfl ⟨Nat.le_of_ble_eq_true rfl, Nat.le_of_ble_eq_true rfl⟩ ⟨Nat.le_of_ble_eq_true rfl, Nat.le_of_ble_eq_true rfl⟩ (Nat.le_of_ble_eq_true rfl) ?_
          rintro _ S1 ⟨rfl, hS1⟩
          obtain rfl := hS1.symm
          refine g_idiv X dX2_likely_70 (by rw [Nat.gcd_comm]; exact gcd_nz (bcN_pos hw hw0) h63) ?_
          exact g_iret X hr dX2_likely_71 (Nat.le_of_ble_eq_true rfl) (Nat.le_of_ble_eq_true rfl) (⟨by rw [if_pos ⟨c5, c13, c21⟩, if_pos c53, hwv, hw2, ix_bc hw, ix_bc (and_w hw), Nat.gcd_comm], rfl⟩)
        · refine g_iload X dX2_likely_56 rfl ?_
          refine g_goto (tgt := 63) X dX2_likely_58 rfl ?_
          refine g_iload X dX2_likely_63 rfl ?_
          refine g_iload X dX2_likely_65 rfl ?_
          refine g_callS X (k_X2_divisor ho hB hA (by omega) (by omega)) (lw_S q1992 q1993 q139 q1994) hd_X2_divisor dX2_likely_67 rfl ⟨Nat.le_of_ble_eq_true rfl, Nat.le_of_ble_eq_true rfl⟩ ⟨Nat.le_of_ble_eq_true rfl, Nat.le_of_ble_eq_true rfl⟩ (Nat.le_of_ble_eq_true rfl) ?_
          rintro _ S1 ⟨rfl, hS1⟩
          obtain rfl := hS1.symm
          refine g_idiv X dX2_likely_70 (by rw [Nat.gcd_comm]; exact gcd_nz (bcN_pos hw hw0) h63) ?_
          exact g_iret X hr dX2_likely_71 (Nat.le_of_ble_eq_true rfl) (Nat.le_of_ble_eq_true rfl) (⟨by rw [if_pos ⟨c5, c13, c21⟩, if_neg c53, hwv, hw2, ix_bc hw, ix_bc (and_w hw), Nat.gcd_comm], rfl⟩)
      · refine g_iconst (v := (-1)) X dX2_likely_24 rfl ?_
        exact g_iret X hr dX2_likely_25 (Nat.le_of_ble_eq_true rfl) (Nat.le_of_ble_eq_true rfl) (⟨by rw [if_neg (fun z => z.2.2 c21)], rfl⟩)
