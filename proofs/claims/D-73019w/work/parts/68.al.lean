/-- the model's argument of one farmer in spring: the array, whether he's refuted -/
def rfM (n : Nat) (f : Nat → Int32) (v i : Nat) (a : Nat → Int32) : (Nat → Int32) × Bool :=
  if n = 0 then (a, false)
  else if hs (a 7) (nI (v % n)) then (upd a 6 (nI (dwN v)), false)
  else if csP n f (a 7) (fun k => a (9 + k)) (nI (v % n)) then (upd (upd a 6 (nI (dwN v))) 7 (a 7 ||| one (nI (v % n))), false)
  else (upd (if a (9 + v % n) = 0 then upd (upd a 6 (nI (dwN v))) (9 + v % n) (a 5 + 3) else upd a 6 (nI (dwN v))) (18 + 2 * i) (cuM (a (18 + 2 * i) + 1).toInt64 0 9999), true)
theorem rfM_0 {n : Nat} {f : Nat → Int32} {v i : Nat} {a : Nat → Int32} (h : n = 0) : rfM n f v i a = (a, false) := if_pos h
theorem rfM_1 {n : Nat} {f : Nat → Int32} {v i : Nat} {a : Nat → Int32} (h : ¬ n = 0) (h1 : hs (a 7) (nI (v % n))) : rfM n f v i a = (upd a 6 (nI (dwN v)), false) := (if_neg h).trans (if_pos h1)
theorem rfM_2 {n : Nat} {f : Nat → Int32} {v i : Nat} {a : Nat → Int32} (h : ¬ n = 0) (h1 : ¬ hs (a 7) (nI (v % n))) (h2 : csP n f (a 7) (fun k => a (9 + k)) (nI (v % n))) : rfM n f v i a = (upd (upd a 6 (nI (dwN v))) 7 (a 7 ||| one (nI (v % n))), false) := ((if_neg h).trans (if_neg h1)).trans (if_pos h2)
theorem rfM_3 {n : Nat} {f : Nat → Int32} {v i : Nat} {a : Nat → Int32} (h : ¬ n = 0) (h1 : ¬ hs (a 7) (nI (v % n))) (h2 : ¬ csP n f (a 7) (fun k => a (9 + k)) (nI (v % n))) : rfM n f v i a = (upd (if a (9 + v % n) = 0 then upd (upd a 6 (nI (dwN v))) (9 + v % n) (a 5 + 3) else upd a 6 (nI (dwN v))) (18 + 2 * i) (cuM (a (18 + 2 * i) + 1).toInt64 0 9999), true) := ((if_neg h).trans (if_neg h1)).trans (if_neg h2)
def rfL (n v : Nat) : Int32 := if n = 0 then -1 else nI (v % n)
theorem cs6 {n : Nat} {f a : Nat → Int32} {x c : Int32} : bP (csP n f (upd a 6 x 7) (fun k => upd a 6 x (9 + k)) c) = bP (csP n f (a 7) (fun k => a (9 + k)) c) := by
  have e : (fun k => upd a 6 x (9 + k)) = fun k => a (9 + k) := funext fun k => upd_n (by omega)
  rw [e]
  rfl
theorem rf_rd {a : Nat → Int32} {c i : Nat} {x y : Int32} (hc : c < 8) : (if a (9 + c) = 0 then upd (upd a 6 x) (9 + c) y else upd a 6 x) (18 + 2 * i) = a (18 + 2 * i) := by
  split
  · rw [upd_n (by omega), upd_n (by omega)]
  · rw [upd_n (by omega)]
set_option maxHeartbeats 600000 in
theorem k_X2_isRefutedNow {l : Launch} {E : gk_E} (ho : E.2.2.2.2 = true) {S : gk_S} {x : Int32} {n v i : Nat} {f : Nat → Int32} (hu : MU S n f) (hv : S.1 400 6 = nI v) (hv2 : v < 30859) (hx : x = nI i) (hi : i < 5) : gk_T l E yX2_isRefutedNow cX2_isRefutedNow 3 ((some .boolean)) 4 81 0 0 [.ref (E.2.2.1 3), .int x] S (fun r S' => r = some (.int (bP ((rfM n f v i (S.1 400)).2 = true))) ∧ S' = gk_si (gk_si S 408 (upd (S.1 408) i (rfL n v))) 400 (rfM n f v i (S.1 400)).1) := by
  refine gk_T.of [some (.ref (E.2.2.1 3)), some (.int x), none] (by decide) (Nat.le_of_ble_eq_true rfl) (le_1 rfl (le_1 rfl (le_p le_n))) ?_
  intro p_ e_ R_ s_ m_ args_ below_ meth_ c_ hR X hr hin
  subst hR
  have hn8 : n ≤ 8 := hu.1
  refine g_aload_n X dX2_isRefutedNow_0 rfl ?_
  refine g_get (C := RX2) (T := TX2) (N := 35) X 27 in_X2 dX2_isRefutedNow_1 q1432 (rd3 ho) rfl (Nat.le_of_ble_eq_true rfl) (fun _ h9 => h9) rfl ?_
  refine g_iload_n X dX2_isRefutedNow_4 rfl ?_
  refine g_iconst (v := (-1)) X dX2_isRefutedNow_5 rfl ?_
  refine g_iast X ho (408) (j := i) dX2_isRefutedNow_6 rfl (rfl) hx hi (by decide) ?_
  refine g_aload_n X dX2_isRefutedNow_7 rfl ?_
  refine g_callV (C := RX2) (T := TX2) (N := 35) X (k_X2_claims ho (S := gk_si S 408 _) hu) (lw_V q1707 q1709 qs94 q139 q1710) hd_X2_claims dX2_isRefutedNow_8 (rd3 ho) rfl rfl ⟨Nat.le_of_ble_eq_true rfl, Nat.le_of_ble_eq_true rfl⟩ ⟨Nat.le_of_ble_eq_true rfl, Nat.le_of_ble_eq_true rfl⟩ (Nat.le_of_ble_eq_true rfl) ?_
  rintro _ S1 ⟨rfl, hS1⟩
  obtain rfl := hS1.symm
  refine g_if_ne (tgt := 16) X dX2_isRefutedNow_11 rfl (fun c11 => ?_) (fun c11 => ?_)
  · have hn : ¬ n = 0 := fun z => c11 (by rw [z]; rfl)
    have hc : v % n < n := Nat.mod_lt _ (by omega)
    have hc8 : v % n < 8 := by omega
    refine g_aload_n X dX2_isRefutedNow_16 rfl ?_
    refine g_aload_n X dX2_isRefutedNow_17 rfl ?_
    refine g_callV (C := RX2) (T := TX2) (N := 35) X (k_X2_claims ho (S := gk_si S 408 _) hu) (lw_V q1707 q1709 qs94 q139 q1710) hd_X2_claims dX2_isRefutedNow_18 (rd3 ho) rfl rfl ⟨Nat.le_of_ble_eq_true rfl, Nat.le_of_ble_eq_true rfl⟩ ⟨Nat.le_of_ble_eq_true rfl, Nat.le_of_ble_eq_true rfl⟩ (Nat.le_of_ble_eq_true rfl) ?_
    rintro _ S1 ⟨rfl, hS1⟩
    obtain rfl := hS1.symm
    refine g_callV (C := RX2) (T := TX2) (N := 35) X (k_X2_drawnBy ho (S := gk_si S 408 _) hv hv2 rfl (by omega) (by omega)) (lw_V q1808 q1810 qs107 q139 q1811) hd_X2_drawnBy dX2_isRefutedNow_21 (rd3 ho) rfl rfl ⟨Nat.le_of_ble_eq_true rfl, Nat.le_of_ble_eq_true rfl⟩ ⟨Nat.le_of_ble_eq_true rfl, Nat.le_of_ble_eq_true rfl⟩ (Nat.le_of_ble_eq_true rfl) ?_
    rintro _ S1 ⟨rfl, hS1⟩
    obtain rfl := hS1.symm
    refine g_istore_n X dX2_isRefutedNow_24 (Nat.le_of_ble_eq_true rfl) ?_
    refine g_aload_n X dX2_isRefutedNow_25 rfl ?_
    refine g_get (C := RX2) (T := TX2) (N := 35) X 27 in_X2 dX2_isRefutedNow_26 q1432 (rd3 ho) rfl (Nat.le_of_ble_eq_true rfl) (fun _ h9 => h9) rfl ?_
    refine g_iload_n X dX2_isRefutedNow_29 rfl ?_
    refine g_iload_n X dX2_isRefutedNow_30 rfl ?_
    refine g_iast X ho (408) (j := i) dX2_isRefutedNow_31 rfl (rfl) hx hi (by decide) ?_
    refine g_eq (S2 := gk_si (gk_si S 408 (upd (S.1 408) i (nI (v % n)))) 400 (upd (S.1 400) 6 (nI (dwN v)))) (by rw [si_co (i := 400) (by decide), si_si]; show gk_si (gk_si S 408 (upd (upd (S.1 408) i (-1)) i (nI (v % n)))) 400 (upd (S.1 400) 6 _) = _; rw [upd_upd]) ?_
    refine g_aload_n X dX2_isRefutedNow_32 rfl ?_
    refine g_get (C := RX2) (T := TX2) (N := 35) X 0 in_X2 dX2_isRefutedNow_33 q1405 (rd3 ho) rfl (Nat.le_of_ble_eq_true rfl) (fun _ h9 => h9) rfl ?_
    refine g_bipush (v := 7) X dX2_isRefutedNow_36 rfl ?_
    refine g_iald (j := 7) X dX2_isRefutedNow_38 (rdi ho (400) (rfl)) rfl (by decide) (by decide) ?_
    refine g_iload_n X dX2_isRefutedNow_39 rfl ?_
    refine g_callS X (k_X2_has ho) (lw_S q1711 q1712 q139 q1713) hd_X2_has dX2_isRefutedNow_40 rfl ⟨Nat.le_of_ble_eq_true rfl, Nat.le_of_ble_eq_true rfl⟩ ⟨Nat.le_of_ble_eq_true rfl, Nat.le_of_ble_eq_true rfl⟩ (Nat.le_of_ble_eq_true rfl) ?_
    rintro _ S1 ⟨rfl, hS1⟩
    obtain rfl := hS1.symm
    refine g_ifp_eq (tgt := 48) X dX2_isRefutedNow_43 rfl (fun c43 => ?_) (fun c43 => ?_)
    · refine g_aload_n X dX2_isRefutedNow_48 rfl ?_
      refine g_iload_n X dX2_isRefutedNow_49 rfl ?_
      refine g_callV (C := RX2) (T := TX2) (N := 35) X (k_X2_canSay ho (S := gk_si (gk_si S 408 (upd (S.1 408) i (nI (v % n)))) 400 (upd (S.1 400) 6 (nI (dwN v)))) hu) (lw_V q1747 q1749 qs95 q139 q1750) hd_X2_canSay dX2_isRefutedNow_50 (rd3 ho) rfl rfl ⟨Nat.le_of_ble_eq_true rfl, Nat.le_of_ble_eq_true rfl⟩ ⟨Nat.le_of_ble_eq_true rfl, Nat.le_of_ble_eq_true rfl⟩ (Nat.le_of_ble_eq_true rfl) ?_
      rintro _ S1 ⟨rfl, hS1⟩
      obtain rfl := hS1.symm
      refine g_top (y := bP (csP n f (S.1 400 7) (fun k => S.1 400 (9 + k)) (nI (v % n)))) (by rw [si_s]; exact cs6 (n := n) (f := f) (a := S.1 400) (x := nI (dwN v)) (c := nI (v % n))) ?_
      refine g_ifp_eq (tgt := 71) X dX2_isRefutedNow_53 rfl (fun c53 => ?_) (fun c53 => ?_)
      · refine g_aload_n X dX2_isRefutedNow_71 rfl ?_
        refine g_get (C := RX2) (T := TX2) (N := 35) X 0 in_X2 dX2_isRefutedNow_72 q1405 (rd3 ho) rfl (Nat.le_of_ble_eq_true rfl) (fun _ h9 => h9) rfl ?_
        refine g_bipush (v := 9) X dX2_isRefutedNow_75 rfl ?_
        refine g_iload_n X dX2_isRefutedNow_77 rfl ?_
        refine g_iadd X dX2_isRefutedNow_78 ?_
        refine g_iald (j := 9 + (v % n)) X dX2_isRefutedNow_79 (rdi ho (400) (rfl)) (by show nI 9 + nI _ = _; rw [nI_add]) (by omega) (by decide) ?_
        refine g_top (y := S.1 400 (9 + v % n)) (by rw [si_s, upd_n (by omega)]) ?_
        refine g_if_ne (tgt := 100) X dX2_isRefutedNow_80 rfl (fun c80 => ?_) (fun c80 => ?_)
        · refine g_eq (S2 := gk_si (gk_si S 408 (upd (S.1 408) i (nI (v % n)))) 400 (if S.1 400 (9 + v % n) = 0 then upd (upd (S.1 400) 6 (nI (dwN v))) (9 + v % n) (S.1 400 5 + 3) else upd (S.1 400) 6 (nI (dwN v)))) (by rw [if_neg c80]) ?_
          refine g_aload_n X dX2_isRefutedNow_100 rfl ?_
          refine g_get (C := RX2) (T := TX2) (N := 35) X 0 in_X2 dX2_isRefutedNow_101 q1405 (rd3 ho) rfl (Nat.le_of_ble_eq_true rfl) (fun _ h9 => h9) rfl ?_
          refine g_bipush (v := 17) X dX2_isRefutedNow_104 rfl ?_
          refine g_iconst (v := 2) X dX2_isRefutedNow_106 rfl ?_
          refine g_iload_n X dX2_isRefutedNow_107 rfl ?_
          refine g_imul X dX2_isRefutedNow_108 ?_
          refine g_iadd X dX2_isRefutedNow_109 ?_
          refine g_iconst (v := 1) X dX2_isRefutedNow_110 rfl ?_
          refine g_iadd X dX2_isRefutedNow_111 ?_
          refine g_aload_n X dX2_isRefutedNow_112 rfl ?_
          refine g_get (C := RX2) (T := TX2) (N := 35) X 0 in_X2 dX2_isRefutedNow_113 q1405 (rd3 ho) rfl (Nat.le_of_ble_eq_true rfl) (fun _ h9 => h9) rfl ?_
          refine g_bipush (v := 17) X dX2_isRefutedNow_116 rfl ?_
          refine g_iconst (v := 2) X dX2_isRefutedNow_118 rfl ?_
          refine g_iload_n X dX2_isRefutedNow_119 rfl ?_
          refine g_imul X dX2_isRefutedNow_120 ?_
          refine g_iadd X dX2_isRefutedNow_121 ?_
          refine g_iconst (v := 1) X dX2_isRefutedNow_122 rfl ?_
          refine g_iadd X dX2_isRefutedNow_123 ?_
          refine g_iald (j := 18 + 2 * i) X dX2_isRefutedNow_124 (rdi ho (400) (rfl)) (by rw [hx]; show nI 17 + nI 2 * nI i + 1 = _; rw [pk_mul, nI_add, nI_1]; congr 1; omega) (by omega) (by decide) ?_
          refine g_top (y := S.1 400 (18 + 2 * i)) (by rw [si_s]; exact rf_rd hc8) ?_
          refine g_iconst (v := 1) X dX2_isRefutedNow_125 rfl ?_
          refine g_iadd X dX2_isRefutedNow_126 ?_
          refine g_i2l X dX2_isRefutedNow_127 rfl ?_
          refine g_iconst (v := 0) X dX2_isRefutedNow_128 rfl ?_
          refine g_sipush (v := 9999) X dX2_isRefutedNow_129 rfl ?_
          refine g_callS X (k_X2_cut ho) (lw_S q1819 q1820 q139 q1821) hd_X2_cut dX2_isRefutedNow_132 rfl ⟨Nat.le_of_ble_eq_true rfl, Nat.le_of_ble_eq_true rfl⟩ ⟨Nat.le_of_ble_eq_true rfl, Nat.le_of_ble_eq_true rfl⟩ (Nat.le_of_ble_eq_true rfl) ?_
          rintro _ S1 ⟨rfl, hS1⟩
          obtain rfl := hS1.symm
          refine g_iast X ho (400) (j := 18 + 2 * i) dX2_isRefutedNow_135 rfl (rfl) (by rw [hx]; show nI 17 + nI 2 * nI i + 1 = _; rw [pk_mul, nI_add, nI_1]; congr 1; omega) (by omega) (by decide) ?_
          refine g_eq (S2 := gk_si (gk_si S 408 (upd (S.1 408) i (rfL n v))) 400 (rfM n f v i (S.1 400)).1) (by unfold rfL; rw [rfM_3 (f := f) (i := i) (a := S.1 400) hn c43 c53, if_neg hn, si_si, si_s]) ?_
          refine g_iconst (v := 1) X dX2_isRefutedNow_136 rfl ?_
          refine g_zret X hr dX2_isRefutedNow_137 ?_ (Nat.le_of_ble_eq_true rfl) (Nat.le_of_ble_eq_true rfl) ?_
          · first | rfl | exact nb_bP
          · exact ⟨by rw [rfM_3 (f := f) (i := i) (a := S.1 400) hn c43 c53]; rfl, rfl⟩
        · refine g_aload_n X dX2_isRefutedNow_83 rfl ?_
          refine g_get (C := RX2) (T := TX2) (N := 35) X 0 in_X2 dX2_isRefutedNow_84 q1405 (rd3 ho) rfl (Nat.le_of_ble_eq_true rfl) (fun _ h9 => h9) rfl ?_
          refine g_bipush (v := 9) X dX2_isRefutedNow_87 rfl ?_
          refine g_iload_n X dX2_isRefutedNow_89 rfl ?_
          refine g_iadd X dX2_isRefutedNow_90 ?_
          refine g_aload_n X dX2_isRefutedNow_91 rfl ?_
          refine g_get (C := RX2) (T := TX2) (N := 35) X 0 in_X2 dX2_isRefutedNow_92 q1405 (rd3 ho) rfl (Nat.le_of_ble_eq_true rfl) (fun _ h9 => h9) rfl ?_
          refine g_iconst (v := 5) X dX2_isRefutedNow_95 rfl ?_
          refine g_iald (j := 5) X dX2_isRefutedNow_96 (rdi ho (400) (rfl)) rfl (by decide) (by decide) ?_
          refine g_iconst (v := 3) X dX2_isRefutedNow_97 rfl ?_
          refine g_iadd X dX2_isRefutedNow_98 ?_
          refine g_iast X ho (400) (j := 9 + (v % n)) dX2_isRefutedNow_99 rfl (rfl) (by show nI 9 + nI _ = _; rw [nI_add]) (by omega) (by decide) ?_
          refine g_eq (S2 := gk_si (gk_si S 408 (upd (S.1 408) i (nI (v % n)))) 400 (if S.1 400 (9 + v % n) = 0 then upd (upd (S.1 400) 6 (nI (dwN v))) (9 + v % n) (S.1 400 5 + 3) else upd (S.1 400) 6 (nI (dwN v)))) (by rw [if_pos c80, si_si]; rfl) ?_
          refine g_aload_n X dX2_isRefutedNow_100 rfl ?_
          refine g_get (C := RX2) (T := TX2) (N := 35) X 0 in_X2 dX2_isRefutedNow_101 q1405 (rd3 ho) rfl (Nat.le_of_ble_eq_true rfl) (fun _ h9 => h9) rfl ?_
          refine g_bipush (v := 17) X dX2_isRefutedNow_104 rfl ?_
          refine g_iconst (v := 2) X dX2_isRefutedNow_106 rfl ?_
          refine g_iload_n X dX2_isRefutedNow_107 rfl ?_
          refine g_imul X dX2_isRefutedNow_108 ?_
          refine g_iadd X dX2_isRefutedNow_109 ?_
          refine g_iconst (v := 1) X dX2_isRefutedNow_110 rfl ?_
          refine g_iadd X dX2_isRefutedNow_111 ?_
          refine g_aload_n X dX2_isRefutedNow_112 rfl ?_
          refine g_get (C := RX2) (T := TX2) (N := 35) X 0 in_X2 dX2_isRefutedNow_113 q1405 (rd3 ho) rfl (Nat.le_of_ble_eq_true rfl) (fun _ h9 => h9) rfl ?_
          refine g_bipush (v := 17) X dX2_isRefutedNow_116 rfl ?_
          refine g_iconst (v := 2) X dX2_isRefutedNow_118 rfl ?_
          refine g_iload_n X dX2_isRefutedNow_119 rfl ?_
          refine g_imul X dX2_isRefutedNow_120 ?_
          refine g_iadd X dX2_isRefutedNow_121 ?_
          refine g_iconst (v := 1) X dX2_isRefutedNow_122 rfl ?_
          refine g_iadd X dX2_isRefutedNow_123 ?_
          refine g_iald (j := 18 + 2 * i) X dX2_isRefutedNow_124 (rdi ho (400) (rfl)) (by rw [hx]; show nI 17 + nI 2 * nI i + 1 = _; rw [pk_mul, nI_add, nI_1]; congr 1; omega) (by omega) (by decide) ?_
          refine g_top (y := S.1 400 (18 + 2 * i)) (by rw [si_s]; exact rf_rd hc8) ?_
          refine g_iconst (v := 1) X dX2_isRefutedNow_125 rfl ?_
          refine g_iadd X dX2_isRefutedNow_126 ?_
          refine g_i2l X dX2_isRefutedNow_127 rfl ?_
          refine g_iconst (v := 0) X dX2_isRefutedNow_128 rfl ?_
          refine g_sipush (v := 9999) X dX2_isRefutedNow_129 rfl ?_
          refine g_callS X (k_X2_cut ho) (lw_S q1819 q1820 q139 q1821) hd_X2_cut dX2_isRefutedNow_132 rfl ⟨Nat.le_of_ble_eq_true rfl, Nat.le_of_ble_eq_true rfl⟩ ⟨Nat.le_of_ble_eq_true rfl, Nat.le_of_ble_eq_true rfl⟩ (Nat.le_of_ble_eq_true rfl) ?_
          rintro _ S1 ⟨rfl, hS1⟩
          obtain rfl := hS1.symm
          refine g_iast X ho (400) (j := 18 + 2 * i) dX2_isRefutedNow_135 rfl (rfl) (by rw [hx]; show nI 17 + nI 2 * nI i + 1 = _; rw [pk_mul, nI_add, nI_1]; congr 1; omega) (by omega) (by decide) ?_
          refine g_eq (S2 := gk_si (gk_si S 408 (upd (S.1 408) i (rfL n v))) 400 (rfM n f v i (S.1 400)).1) (by unfold rfL; rw [rfM_3 (f := f) (i := i) (a := S.1 400) hn c43 c53, if_neg hn, si_si, si_s]) ?_
          refine g_iconst (v := 1) X dX2_isRefutedNow_136 rfl ?_
          refine g_zret X hr dX2_isRefutedNow_137 ?_ (Nat.le_of_ble_eq_true rfl) (Nat.le_of_ble_eq_true rfl) ?_
          · first | rfl | exact nb_bP
          · exact ⟨by rw [rfM_3 (f := f) (i := i) (a := S.1 400) hn c43 c53]; rfl, rfl⟩
      · refine g_aload_n X dX2_isRefutedNow_56 rfl ?_
        refine g_get (C := RX2) (T := TX2) (N := 35) X 0 in_X2 dX2_isRefutedNow_57 q1405 (rd3 ho) rfl (Nat.le_of_ble_eq_true rfl) (fun _ h9 => h9) rfl ?_
        refine g_bipush (v := 7) X dX2_isRefutedNow_60 rfl ?_
        refine g_dup2_11 X dX2_isRefutedNow_62 rfl rfl ?_
        refine g_iald (j := 7) X dX2_isRefutedNow_63 (rdi ho (400) (rfl)) rfl (by decide) (by decide) ?_
        refine g_iconst (v := 1) X dX2_isRefutedNow_64 rfl ?_
        refine g_iload_n X dX2_isRefutedNow_65 rfl ?_
        refine g_ishl X dX2_isRefutedNow_66 ?_
        refine g_ior X dX2_isRefutedNow_67 ?_
        refine g_iast X ho (400) (j := 7) dX2_isRefutedNow_68 rfl (rfl) rfl (by decide) (by decide) ?_
        refine g_eq (S2 := gk_si (gk_si S 408 (upd (S.1 408) i (rfL n v))) 400 (rfM n f v i (S.1 400)).1) (by unfold rfL; rw [rfM_2 (f := f) (i := i) (a := S.1 400) hn c43 c53, if_neg hn, si_si, si_s]; rfl) ?_
        refine g_iconst (v := 0) X dX2_isRefutedNow_69 rfl ?_
        refine g_zret X hr dX2_isRefutedNow_70 ?_ (Nat.le_of_ble_eq_true rfl) (Nat.le_of_ble_eq_true rfl) ?_
        · first | rfl | exact nb_bP
        · exact ⟨by rw [rfM_2 (f := f) (i := i) (a := S.1 400) hn c43 c53]; rfl, rfl⟩
    · refine g_eq (S2 := gk_si (gk_si S 408 (upd (S.1 408) i (rfL n v))) 400 (rfM n f v i (S.1 400)).1) (by unfold rfL; rw [rfM_1 (f := f) (i := i) (a := S.1 400) hn c43, if_neg hn]) ?_
      refine g_iconst (v := 0) X dX2_isRefutedNow_46 rfl ?_
      refine g_zret X hr dX2_isRefutedNow_47 ?_ (Nat.le_of_ble_eq_true rfl) (Nat.le_of_ble_eq_true rfl) ?_
      · first | rfl | exact nb_bP
      · exact ⟨by rw [rfM_1 (f := f) (i := i) (a := S.1 400) hn c43]; rfl, rfl⟩
  · have hn : n = 0 := (nI_eq (b := 0) (by omega) (by decide)).mp c11
    refine g_eq (S2 := gk_si (gk_si S 408 (upd (S.1 408) i (rfL n v))) 400 (rfM n f v i (S.1 400)).1) (by unfold rfL; rw [rfM_0 hn, if_pos hn]; exact si_id.symm) ?_
    refine g_iconst (v := 0) X dX2_isRefutedNow_14 rfl ?_
    refine g_zret X hr dX2_isRefutedNow_15 ?_ (Nat.le_of_ble_eq_true rfl) (Nat.le_of_ble_eq_true rfl) ?_
    · first | rfl | exact nb_bP
    · exact ⟨by rw [rfM_0 hn]; rfl, rfl⟩
