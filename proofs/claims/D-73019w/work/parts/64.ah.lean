def saG (a : Nat → Int32) (k : Nat) (x y z : Int32) : Nat → Int32 := upd (upd (upd (upd a (62 + 3 * k) x) (63 + 3 * k) y) (64 + 3 * k) z) 4 (nI (k + 1))
theorem i3k (k b : Nat) : nI b + nI 3 * nI k = nI (b + 3 * k) := by rw [pk_mul, nI_add]
set_option maxHeartbeats 600000 in
theorem k_X2_said {l : Launch} {E : gk_E} (ho : E.2.2.2.2 = true) {S : gk_S} {x : Int32} {y : Int32} {z : Int32} {k : Nat} (hk : S.1 400 4 = nI k) (hk8 : k ≤ 8) : gk_T l E yX2_said cX2_said 5 ((some .int)) 2 43 0 0 [.ref (E.2.2.1 3), .int x, .int y, .int z] S (fun r S' => if x = -1 then r = some (.int 0) ∧ S' = gk_si S 400 (upd (S.1 400) 4 0) else if ¬ ((0 ≤ x ∧ x ≤ S.1 400 0 - 1) ∧ (0 ≤ y ∧ y ≤ 4) ∧ (-99 ≤ z ∧ z ≤ 99) ∧ k ≠ 8) then r = some (.int (-2)) ∧ S' = S else r = some (.int (nI (k + 1))) ∧ S' = gk_si S 400 (saG (S.1 400) k x y z)) := by
  refine gk_T.of [some (.ref (E.2.2.1 3)), some (.int x), some (.int y), some (.int z), none] (by decide) (Nat.le_of_ble_eq_true rfl) (le_1 rfl (le_1 rfl (le_1 rfl (le_1 rfl (le_p le_n))))) ?_
  intro p_ e_ R_ s_ m_ args_ below_ meth_ c_ hR X hr hin
  subst hR
  refine g_iload_n X dX2_said_0 rfl ?_
  refine g_iconst (v := (-1)) X dX2_said_1 rfl ?_
  refine g_icmp_ne (tgt := 14) X dX2_said_2 rfl (fun c2 => ?_) (fun c2 => ?_)
  · refine g_aload_n X dX2_said_14 rfl ?_
    refine g_iload_n X dX2_said_15 rfl ?_
    refine g_callV (C := RX2) (T := TX2) (N := 35) X (k_X2_isFarmer ho) (lw_V q1871 q1873 qs116 q139 q1874) hd_X2_isFarmer dX2_said_16 (rd3 ho) rfl rfl ⟨Nat.le_of_ble_eq_true rfl, Nat.le_of_ble_eq_true rfl⟩ ⟨Nat.le_of_ble_eq_true rfl, Nat.le_of_ble_eq_true rfl⟩ (Nat.le_of_ble_eq_true rfl) ?_
    rintro _ S1 ⟨rfl, hS1⟩
    obtain rfl := hS1.symm
    refine g_ifp_eq (tgt := 51) X dX2_said_19 rfl (fun c19 => ?_) (fun c19 => ?_)
    · refine g_bipush (v := (-2)) X dX2_said_51 rfl ?_
      exact g_iret X hr dX2_said_53 (Nat.le_of_ble_eq_true rfl) (Nat.le_of_ble_eq_true rfl) ((by rw [if_neg c2, if_pos (fun z => c19 z.1)]; exact ⟨rfl, rfl⟩))
    · refine g_iload_n X dX2_said_22 rfl ?_
      refine g_callS X (k_X2_isField ho) (lw_S q1523 q1524 q139 q1525) hd_X2_isField dX2_said_23 rfl ⟨Nat.le_of_ble_eq_true rfl, Nat.le_of_ble_eq_true rfl⟩ ⟨Nat.le_of_ble_eq_true rfl, Nat.le_of_ble_eq_true rfl⟩ (Nat.le_of_ble_eq_true rfl) ?_
      rintro _ S1 ⟨rfl, hS1⟩
      obtain rfl := hS1.symm
      refine g_ifp_eq (tgt := 51) X dX2_said_26 rfl (fun c26 => ?_) (fun c26 => ?_)
      · refine g_bipush (v := (-2)) X dX2_said_51 rfl ?_
        exact g_iret X hr dX2_said_53 (Nat.le_of_ble_eq_true rfl) (Nat.le_of_ble_eq_true rfl) ((by rw [if_neg c2, if_pos (fun z => c26 z.2.1)]; exact ⟨rfl, rfl⟩))
      · refine g_iload_n X dX2_said_29 rfl ?_
        refine g_bipush (v := (-99)) X dX2_said_30 rfl ?_
        refine g_bipush (v := 99) X dX2_said_32 rfl ?_
        refine g_callS X (k_X2_isIn ho) (lw_S q1516 q1517 q139 q1518) hd_X2_isIn dX2_said_34 rfl ⟨Nat.le_of_ble_eq_true rfl, Nat.le_of_ble_eq_true rfl⟩ ⟨Nat.le_of_ble_eq_true rfl, Nat.le_of_ble_eq_true rfl⟩ (Nat.le_of_ble_eq_true rfl) ?_
        rintro _ S1 ⟨rfl, hS1⟩
        obtain rfl := hS1.symm
        refine g_ifp_eq (tgt := 51) X dX2_said_37 rfl (fun c37 => ?_) (fun c37 => ?_)
        · refine g_bipush (v := (-2)) X dX2_said_51 rfl ?_
          exact g_iret X hr dX2_said_53 (Nat.le_of_ble_eq_true rfl) (Nat.le_of_ble_eq_true rfl) ((by rw [if_neg c2, if_pos (fun z => c37 z.2.2.1)]; exact ⟨rfl, rfl⟩))
        · refine g_aload_n X dX2_said_40 rfl ?_
          refine g_get (C := RX2) (T := TX2) (N := 35) X 0 in_X2 dX2_said_41 q1405 (rd3 ho) rfl (Nat.le_of_ble_eq_true rfl) (fun _ h9 => h9) rfl ?_
          refine g_iconst (v := 4) X dX2_said_44 rfl ?_
          refine g_iald (j := 4) X dX2_said_45 (rdi ho (400) (rfl)) rfl (by decide) (by decide) ?_
          rw [hk]
          refine g_bipush (v := 8) X dX2_said_46 rfl ?_
          refine g_icmp_ne (tgt := 54) X dX2_said_48 rfl (fun c48 => ?_) (fun c48 => ?_)
          · have hk7 : k < 8 := by
              have : ¬ k = 8 := fun z => c48 (by rw [z]; rfl)
              omega
            refine g_bipush (v := 62) X dX2_said_54 rfl ?_
            refine g_iconst (v := 3) X dX2_said_56 rfl ?_
            refine g_aload_n X dX2_said_57 rfl ?_
            refine g_get (C := RX2) (T := TX2) (N := 35) X 0 in_X2 dX2_said_58 q1405 (rd3 ho) rfl (Nat.le_of_ble_eq_true rfl) (fun _ h9 => h9) rfl ?_
            refine g_iconst (v := 4) X dX2_said_61 rfl ?_
            refine g_iald (j := 4) X dX2_said_62 (rdi ho (400) (rfl)) rfl (by decide) (by decide) ?_
            rw [hk]
            refine g_imul X dX2_said_63 ?_
            refine g_iadd X dX2_said_64 ?_
            refine g_top (y := nI (62 + 3 * k)) (i3k k 62) ?_
            refine g_istore X dX2_said_65 (Nat.le_of_ble_eq_true rfl) ?_
            refine g_aload_n X dX2_said_67 rfl ?_
            refine g_get (C := RX2) (T := TX2) (N := 35) X 0 in_X2 dX2_said_68 q1405 (rd3 ho) rfl (Nat.le_of_ble_eq_true rfl) (fun _ h9 => h9) rfl ?_
            refine g_iload X dX2_said_71 rfl ?_
            refine g_iload_n X dX2_said_73 rfl ?_
            refine g_iast X ho (400) (j := 62 + 3 * k) dX2_said_74 rfl (rfl) rfl (by omega) (by decide) ?_
            refine g_aload_n X dX2_said_75 rfl ?_
            refine g_get (C := RX2) (T := TX2) (N := 35) X 0 in_X2 dX2_said_76 q1405 (rd3 ho) rfl (Nat.le_of_ble_eq_true rfl) (fun _ h9 => h9) rfl ?_
            refine g_iload X dX2_said_79 rfl ?_
            refine g_iconst (v := 1) X dX2_said_81 rfl ?_
            refine g_iadd X dX2_said_82 ?_
            refine g_iload_n X dX2_said_83 rfl ?_
            refine g_iast X ho (400) (j := 63 + 3 * k) dX2_said_84 rfl (rfl) (by rw [nI_1]; congr 1; omega) (by omega) (by decide) ?_
            refine g_aload_n X dX2_said_85 rfl ?_
            refine g_get (C := RX2) (T := TX2) (N := 35) X 0 in_X2 dX2_said_86 q1405 (rd3 ho) rfl (Nat.le_of_ble_eq_true rfl) (fun _ h9 => h9) rfl ?_
            refine g_iload X dX2_said_89 rfl ?_
            refine g_iconst (v := 2) X dX2_said_91 rfl ?_
            refine g_iadd X dX2_said_92 ?_
            refine g_iload_n X dX2_said_93 rfl ?_
            refine g_iast X ho (400) (j := 64 + 3 * k) dX2_said_94 rfl (rfl) (by show nI _ + nI 2 = _; rw [nI_add]; congr 1; omega) (by omega) (by decide) ?_
            refine g_aload_n X dX2_said_95 rfl ?_
            refine g_get (C := RX2) (T := TX2) (N := 35) X 0 in_X2 dX2_said_96 q1405 (rd3 ho) rfl (Nat.le_of_ble_eq_true rfl) (fun _ h9 => h9) rfl ?_
            refine g_iconst (v := 4) X dX2_said_99 rfl ?_
            refine g_dup2_11 X dX2_said_100 rfl rfl ?_
            refine g_iald (j := 4) X dX2_said_101 (rdi ho (400) (rfl)) rfl (by decide) (by decide) ?_
            refine g_top (y := nI k) (by rw [si_s, upd_n (by omega), si_s, upd_n (by omega), si_s, upd_n (by omega)]; exact hk) ?_
            refine g_iconst (v := 1) X dX2_said_102 rfl ?_
            refine g_iadd X dX2_said_103 ?_
            refine g_iast X ho (400) (j := 4) dX2_said_104 rfl (rfl) rfl (by decide) (by decide) ?_
            refine g_eq (S2 := gk_si S 400 (saG (S.1 400) k x y z)) (by rw [si_si, si_si, si_si, si_s, si_s, si_s, nI_1]; rfl) ?_
            refine g_aload_n X dX2_said_105 rfl ?_
            refine g_get (C := RX2) (T := TX2) (N := 35) X 0 in_X2 dX2_said_106 q1405 (rd3 ho) rfl (Nat.le_of_ble_eq_true rfl) (fun _ h9 => h9) rfl ?_
            refine g_iconst (v := 4) X dX2_said_109 rfl ?_
            refine g_iald (j := 4) X dX2_said_110 (rdi ho (400) (rfl)) rfl (by decide) (by decide) ?_
            refine g_top (y := nI (k + 1)) (by rw [si_s]; exact upd_s) ?_
            exact g_iret X hr dX2_said_111 (Nat.le_of_ble_eq_true rfl) (Nat.le_of_ble_eq_true rfl) ((by rw [if_neg c2, if_neg (fun z => z ⟨c19, c26, c37, by omega⟩)]; exact ⟨rfl, rfl⟩))
          · refine g_bipush (v := (-2)) X dX2_said_51 rfl ?_
            exact g_iret X hr dX2_said_53 (Nat.le_of_ble_eq_true rfl) (Nat.le_of_ble_eq_true rfl) ((by rw [if_neg c2, if_pos (fun z => z.2.2.2 ((nI_eq (by omega) (by decide)).mp c48))]; exact ⟨rfl, rfl⟩))
  · refine g_aload_n X dX2_said_5 rfl ?_
    refine g_get (C := RX2) (T := TX2) (N := 35) X 0 in_X2 dX2_said_6 q1405 (rd3 ho) rfl (Nat.le_of_ble_eq_true rfl) (fun _ h9 => h9) rfl ?_
    refine g_iconst (v := 4) X dX2_said_9 rfl ?_
    refine g_iconst (v := 0) X dX2_said_10 rfl ?_
    refine g_iast X ho (400) (j := 4) dX2_said_11 rfl (rfl) rfl (by decide) (by decide) ?_
    refine g_iconst (v := 0) X dX2_said_12 rfl ?_
    exact g_iret X hr dX2_said_13 (Nat.le_of_ble_eq_true rfl) (Nat.le_of_ble_eq_true rfl) ((by rw [if_pos c2]; exact ⟨rfl, rfl⟩))
