theorem lc_lt {x y : Int64} (h : lg_cmp x y < 0) : x < y := (lg_cmp_lt _ _).mp h
theorem lc_ge {x y : Int64} (h : ¬ lg_cmp x y < 0) : y ≤ x := Int64.not_lt.mp (fun z => h ((lg_cmp_lt _ _).mpr z))
theorem hd_ng {N : Int64} (h1 : ¬ lg_cmp N 0 < 0) (h2 : lg_cmp N 8 < 0) : ¬ (N < 0 ∨ 8 ≤ N) := by
  have a := lc_ge h1
  have b := lc_lt h2
  rintro (z | z)
  · exact Int64.lt_irrefl (Int64.lt_of_lt_of_le z a)
  · exact Int64.lt_irrefl (Int64.lt_of_lt_of_le b z)
theorem hd_ps1 {N : Int64} (h1 : ¬ lg_cmp N 0 < 0) (h2 : ¬ lg_cmp N 8 < 0) : N < 0 ∨ 8 ≤ N := Or.inr (lc_ge h2)
theorem hd_ps2 {N : Int64} (h1 : lg_cmp N 0 < 0) : N < 0 ∨ 8 ≤ N := Or.inl (lc_lt h1)
theorem hd_in {N : Int64} (h1 : ¬ lg_cmp N 0 < 0) (h2 : lg_cmp N 8 < 0) : 0 ≤ N.toInt ∧ N.toInt < 8 := by
  have a := Int64.le_iff_toInt_le.mp (lc_ge h1)
  have b := Int64.lt_iff_toInt_lt.mp (lc_lt h2)
  exact ⟨a, b⟩
theorem hd_lt {N : Int64} (h1 : ¬ lg_cmp N 0 < 0) (h2 : lg_cmp N 8 < 0) : 10 + N.toInt.toNat < 18 := by
  have := hd_in h1 h2
  omega
theorem hd_ix {N : Int64} (h1 : ¬ lg_cmp N 0 < 0) (h2 : lg_cmp N 8 < 0) : (10 : Int32) + N.toInt32 = nI (10 + N.toInt.toNat) := by
  obtain ⟨a, b⟩ := hd_in h1 h2
  have e : N.toInt32 = nI N.toInt.toNat := by
    apply Int32.toInt_inj.mp
    rw [nI_toInt (by omega), Int64.toInt_toInt32, Int.toNat_of_nonneg a]
    exact Int.bmod_eq_of_le (by omega) (by omega)
  rw [e, show (10 : Int32) = nI 10 from rfl, nI_add]
theorem cm60 {d : Int64} : cmB 60 d = true ↔ lg_cmp d 0 < 0 := by rw [lg_cmp_lt]; unfold cmB; simp
theorem cm62 {d : Int64} : cmB 62 d = true ↔ 0 < lg_cmp d 0 := by rw [lg_cmp_gt]; unfold cmB; simp
theorem cm61 {d : Int64} : cmB 61 d = true ↔ lg_cmp d 0 = 0 := by rw [lg_cmp_eq]; unfold cmB; simp
theorem cm35 {d : Int64} : cmB 35 d = true ↔ ¬ lg_cmp d 0 = 0 := by rw [lg_cmp_eq]; unfold cmB; simp
theorem cm303 {d : Int64} : cmB 303 d = true ↔ lg_cmp d 0 ≤ 0 := by rw [lg_cmp_le]; unfold cmB; simp
theorem cm304 {d : Int64} : cmB 304 d = true ↔ 0 ≤ lg_cmp d 0 := by rw [lg_cmp_ge]; unfold cmB; simp
theorem i1_1 {P : Prop} [Decidable P] : i1 P = 1 ↔ P := by unfold i1; split <;> simp_all
set_option maxHeartbeats 600000 in
theorem k_X8_of {l : Launch} {E : gk_E} (ho : E.2.2.2.2 = true) {S : gk_S}  {fr lo o1 a1 : Nat} {x : Int32} (h : gk_Rd E S o1 (.inr (8, [.int x]))) : gk_T l E yX8_of cX8_of 2 ((some .long)) (fr + 4) (lo + 120) 0 0 [.ref o1, .ref a1] S (fun r S' => r = some (.long x.toInt64) ∧ S' = S) := by
  refine gk_T.of [some (.ref o1), some (.ref a1)] (by decide) (Nat.le_of_ble_eq_true rfl) (fun _ _ h => h) ?_
  intro p_ e_ R_ s_ m_ args_ below_ meth_ c_ hR X hr hin
  subst hR
  refine g_aload_n X dX8_of_0 rfl ?_
  refine g_get (C := RX8) (T := TX8) (N := 1) X 0 in_X8 dX8_of_1 q603 h rfl (Nat.le_of_ble_eq_true rfl) (fun _ h9 => h9) rfl ?_
  refine g_i2l X dX8_of_4 rfl ?_
  exact g_lret X hr dX8_of_5 (Nat.le_of_ble_eq_true rfl) (Nat.le_of_ble_eq_true rfl) (⟨rfl, rfl⟩)
set_option maxHeartbeats 600000 in
theorem k_X11_of {l : Launch} {E : gk_E} (ho : E.2.2.2.2 = true) {S : gk_S}  {fr lo o1 a1 k : Nat} {v : Nat → Int32} (h : gk_Rd E S o1 (.inr (11, [.int (nI k)]))) (hk : k < 10) (hv : gk_Rd E S a1 (.inl (E.2.1 0, 18, .inl v))) : gk_T l E yX11_of cX11_of 2 ((some .long)) (fr + 4) (lo + 120) 0 0 [.ref o1, .ref a1] S (fun r S' => r = some (.long (v k).toInt64) ∧ S' = S) := by
  refine gk_T.of [some (.ref o1), some (.ref a1)] (by decide) (Nat.le_of_ble_eq_true rfl) (fun _ _ h => h) ?_
  intro p_ e_ R_ s_ m_ args_ below_ meth_ c_ hR X hr hin
  subst hR
  refine g_aload_n X dX11_of_0 rfl ?_
  refine g_aload_n X dX11_of_1 rfl ?_
  refine g_get (C := RX11) (T := TX11) (N := 1) X 0 in_X11 dX11_of_2 q664 h rfl (Nat.le_of_ble_eq_true rfl) (fun _ h9 => h9) rfl ?_
  refine g_iald (j := k) X dX11_of_5 hv rfl (by omega) (by decide) ?_
  refine g_i2l X dX11_of_6 rfl ?_
  exact g_lret X hr dX11_of_7 (Nat.le_of_ble_eq_true rfl) (Nat.le_of_ble_eq_true rfl) (⟨rfl, rfl⟩)
set_option maxHeartbeats 600000 in
theorem k_X13_of {l : Launch} {E : gk_E} (ho : E.2.2.2.2 = true) {S : gk_S}  {fr lo o1 a1 : Nat} {b : Nat} {N : Int64} (h : gk_Rd E S o1 (.inr (13, [.ref b]))) (h1 : (gk_Im l E gk_ofT fr lo b [.ref a1] S (fun r S' => r = some (.long (N)) ∧ S' = S))) : gk_T l E yX13_of cX13_of 2 ((some .long)) (fr + 4) (lo + 120) 0 0 [.ref o1, .ref a1] S (fun r S' => r = some (.long (-N)) ∧ S' = S) := by
  refine gk_T.of [some (.ref o1), some (.ref a1)] (by decide) (Nat.le_of_ble_eq_true rfl) (fun _ _ h => h) ?_
  intro p_ e_ R_ s_ m_ args_ below_ meth_ c_ hR X hr hin
  subst hR
  refine g_aload_n X dX13_of_0 rfl ?_
  refine g_get (C := RX13) (T := TX13) (N := 1) X 0 in_X13 dX13_of_1 q684 h rfl (Nat.le_of_ble_eq_true rfl) (fun _ h9 => h9) rfl ?_
  refine g_aload_n X dX13_of_4 rfl ?_
  refine g_callF X h1 q923 hd_ofT dX13_of_5 rfl ⟨(by dsimp only; omega), (by dsimp only; omega)⟩ ⟨Nat.le_of_ble_eq_true rfl, Nat.le_of_ble_eq_true rfl⟩ (Nat.le_of_ble_eq_true rfl) ?_
  rintro _ S1 ⟨rfl, hS1⟩
  obtain rfl := hS1.symm
  refine g_lneg X dX13_of_10 ?_
  exact g_lret X hr dX13_of_11 (Nat.le_of_ble_eq_true rfl) (Nat.le_of_ble_eq_true rfl) (⟨rfl, rfl⟩)
set_option maxHeartbeats 600000 in
theorem k_X12_of {l : Launch} {E : gk_E} (ho : E.2.2.2.2 = true) {S : gk_S}  {fr lo o1 a1 : Nat} {b : Nat} {N : Int64} {v : Nat → Int32} (h : gk_Rd E S o1 (.inr (12, [.ref b]))) (h1 : (gk_Im l E gk_ofT fr lo b [.ref a1] S (fun r S' => r = some (.long (N)) ∧ S' = S))) (hv : gk_Rd E S a1 (.inl (E.2.1 0, 18, .inl v))) : gk_T l E yX12_of cX12_of 4 ((some .long)) (fr + 4) (lo + 120) 0 0 [.ref o1, .ref a1] S (fun r S' => r = some (.long (hdB v N)) ∧ S' = S) := by
  refine gk_T.of [some (.ref o1), some (.ref a1), none, none] (by decide) (Nat.le_of_ble_eq_true rfl) (le_1 rfl (le_1 rfl (le_p (le_p le_n)))) ?_
  intro p_ e_ R_ s_ m_ args_ below_ meth_ c_ hR X hr hin
  subst hR
  refine g_aload_n X dX12_of_0 rfl ?_
  refine g_get (C := RX12) (T := TX12) (N := 1) X 0 in_X12 dX12_of_1 q674 h rfl (Nat.le_of_ble_eq_true rfl) (fun _ h9 => h9) rfl ?_
  refine g_aload_n X dX12_of_4 rfl ?_
  refine g_callF X h1 q897 hd_ofT dX12_of_5 rfl ⟨(by dsimp only; omega), (by dsimp only; omega)⟩ ⟨Nat.le_of_ble_eq_true rfl, Nat.le_of_ble_eq_true rfl⟩ (Nat.le_of_ble_eq_true rfl) ?_
  rintro _ S1 ⟨rfl, hS1⟩
  obtain rfl := hS1.symm
  refine g_lstore_n X dX12_of_10 (Nat.le_of_ble_eq_true rfl) ?_
  refine g_lload_n X dX12_of_11 rfl ?_
  refine g_lconst (v := 0) X dX12_of_12 rfl ?_
  refine g_lcmp X dX12_of_13 ?_
  refine g_if_lt (tgt := 25) X dX12_of_14 rfl (fun c14 => ?_) (fun c14 => ?_)
  · refine g_lconst (v := 0) X dX12_of_25 rfl ?_
    refine g_goto (tgt := 37) X dX12_of_26 rfl ?_
    exact g_lret X hr dX12_of_37 (Nat.le_of_ble_eq_true rfl) (Nat.le_of_ble_eq_true rfl) (⟨by unfold hdB; rw [if_pos (hd_ps2 c14)], rfl⟩)
  · refine g_lload_n X dX12_of_17 rfl ?_
    refine g_ldc2 X dX12_of_18 q936 ?_
    refine g_lcmp X dX12_of_21 ?_
    refine g_if_lt (tgt := 29) X dX12_of_22 rfl (fun c22 => ?_) (fun c22 => ?_)
    · refine g_aload_n X dX12_of_29 rfl ?_
      refine g_bipush (v := 10) X dX12_of_30 rfl ?_
      refine g_lload_n X dX12_of_32 rfl ?_
      refine g_l2i X dX12_of_33 rfl ?_
      refine g_iadd X dX12_of_34 ?_
      refine g_iald (j := 10 + N.toInt.toNat) X dX12_of_35 hv (hd_ix c14 c22) (hd_lt c14 c22) (by decide) ?_
      refine g_i2l X dX12_of_36 rfl ?_
      exact g_lret X hr dX12_of_37 (Nat.le_of_ble_eq_true rfl) (Nat.le_of_ble_eq_true rfl) (⟨by unfold hdB; rw [if_neg (hd_ng c14 c22)], rfl⟩)
    · refine g_lconst (v := 0) X dX12_of_25 rfl ?_
      refine g_goto (tgt := 37) X dX12_of_26 rfl ?_
      exact g_lret X hr dX12_of_37 (Nat.le_of_ble_eq_true rfl) (Nat.le_of_ble_eq_true rfl) (⟨by unfold hdB; rw [if_pos (hd_ps1 c14 c22)], rfl⟩)
set_option maxHeartbeats 600000 in
theorem k_X10_of {l : Launch} {E : gk_E} (ho : E.2.2.2.2 = true) {S : gk_S}  {fr lo o1 a1 : Nat} {b c : Nat} {N P : Int64} (h : gk_Rd E S o1 (.inr (10, [.ref b, .ref c]))) (h1 : (gk_Im l E gk_ofT fr lo b [.ref a1] S (fun r S' => r = some (.long (N)) ∧ S' = S))) (h2 : (gk_Im l E gk_ofT fr lo c [.ref a1] S (fun r S' => r = some (.long (P)) ∧ S' = S))) : gk_T l E yX10_of cX10_of 2 ((some .long)) (fr + 4) (lo + 120) 0 0 [.ref o1, .ref a1] S (fun r S' => r = some (.long (gpB N P)) ∧ S' = S) := by
  refine gk_T.of [some (.ref o1), some (.ref a1)] (by decide) (Nat.le_of_ble_eq_true rfl) (fun _ _ h => h) ?_
  intro p_ e_ R_ s_ m_ args_ below_ meth_ c_ hR X hr hin
  subst hR
  refine g_ldc2 X dX10_of_0 q887 ?_
  refine g_aload_n X dX10_of_3 rfl ?_
  refine g_get (C := RX10) (T := TX10) (N := 2) X 0 in_X10 dX10_of_4 q641 h rfl (Nat.le_of_ble_eq_true rfl) (fun _ h9 => h9) rfl ?_
  refine g_aload_n X dX10_of_7 rfl ?_
  refine g_callF X h1 q889 hd_ofT dX10_of_8 rfl ⟨(by dsimp only; omega), (by dsimp only; omega)⟩ ⟨Nat.le_of_ble_eq_true rfl, Nat.le_of_ble_eq_true rfl⟩ (Nat.le_of_ble_eq_true rfl) ?_
  rintro _ S1 ⟨rfl, hS1⟩
  obtain rfl := hS1.symm
  refine g_aload_n X dX10_of_13 rfl ?_
  refine g_get (C := RX10) (T := TX10) (N := 2) X 1 in_X10 dX10_of_14 q642 h rfl (Nat.le_of_ble_eq_true rfl) (fun _ h9 => h9) rfl ?_
  refine g_aload_n X dX10_of_17 rfl ?_
  refine g_callF X h2 q889 hd_ofT dX10_of_18 rfl ⟨(by dsimp only; omega), (by dsimp only; omega)⟩ ⟨Nat.le_of_ble_eq_true rfl, Nat.le_of_ble_eq_true rfl⟩ (Nat.le_of_ble_eq_true rfl) ?_
  rintro _ S1 ⟨rfl, hS1⟩
  obtain rfl := hS1.symm
  refine g_lsub X dX10_of_23 ?_
  refine g_mabsl X dX10_of_24 q937 q938 q149 q939 ((by dsimp only; omega)) ((Nat.le_trans (m := 100) (Nat.le_of_ble_eq_true rfl) (by dsimp only; omega))) ⟨Nat.le_of_ble_eq_true rfl, Nat.le_of_ble_eq_true rfl⟩ ?_
  refine g_mminl X dX10_of_27 q940 q941 q149 q942 ((by dsimp only; omega)) ((Nat.le_trans (m := 100) (Nat.le_of_ble_eq_true rfl) (by dsimp only; omega))) ⟨Nat.le_of_ble_eq_true rfl, Nat.le_of_ble_eq_true rfl⟩ ?_
  exact g_lret X hr dX10_of_30 (Nat.le_of_ble_eq_true rfl) (Nat.le_of_ble_eq_true rfl) (⟨rfl, rfl⟩)
set_option maxHeartbeats 600000 in
theorem k_X9_of {l : Launch} {E : gk_E} (ho : E.2.2.2.2 = true) {S : gk_S}  {fr lo o1 a1 : Nat} {q1 b c : Nat} {K N P : Int64} (h : gk_Rd E S o1 (.inr (9, [.ref q1, .ref b, .ref c]))) (h0 : (gk_Im l E gk_isT fr lo q1 [.ref a1] S (fun r S' => r = some (.int (bP (K = 1))) ∧ S' = S))) (h1 : (gk_Im l E gk_ofT fr lo b [.ref a1] S (fun r S' => r = some (.long (N)) ∧ S' = S))) (h2 : (gk_Im l E gk_ofT fr lo c [.ref a1] S (fun r S' => r = some (.long (P)) ∧ S' = S))) : gk_T l E yX9_of cX9_of 2 ((some .long)) (fr + 4) (lo + 120) 0 0 [.ref o1, .ref a1] S (fun r S' => r = some (.long (if K = 1 then N else P)) ∧ S' = S) := by
  refine gk_T.of [some (.ref o1), some (.ref a1)] (by decide) (Nat.le_of_ble_eq_true rfl) (fun _ _ h => h) ?_
  intro p_ e_ R_ s_ m_ args_ below_ meth_ c_ hR X hr hin
  subst hR
  refine g_aload_n X dX9_of_0 rfl ?_
  refine g_get (C := RX9) (T := TX9) (N := 3) X 0 in_X9 dX9_of_1 q621 h rfl (Nat.le_of_ble_eq_true rfl) (fun _ h9 => h9) rfl ?_
  refine g_aload_n X dX9_of_4 rfl ?_
  refine g_callF X h0 q905 hd_isT dX9_of_5 rfl ⟨(by dsimp only; omega), (by dsimp only; omega)⟩ ⟨Nat.le_of_ble_eq_true rfl, Nat.le_of_ble_eq_true rfl⟩ (Nat.le_of_ble_eq_true rfl) ?_
  rintro _ S1 ⟨rfl, hS1⟩
  obtain rfl := hS1.symm
  refine g_ifp_eq (tgt := 26) X dX9_of_10 rfl (fun c10 => ?_) (fun c10 => ?_)
  · refine g_aload_n X dX9_of_26 rfl ?_
    refine g_get (C := RX9) (T := TX9) (N := 3) X 2 in_X9 dX9_of_27 q623 h rfl (Nat.le_of_ble_eq_true rfl) (fun _ h9 => h9) rfl ?_
    refine g_aload_n X dX9_of_30 rfl ?_
    refine g_callF X h2 q915 hd_ofT dX9_of_31 rfl ⟨(by dsimp only; omega), (by dsimp only; omega)⟩ ⟨Nat.le_of_ble_eq_true rfl, Nat.le_of_ble_eq_true rfl⟩ (Nat.le_of_ble_eq_true rfl) ?_
    rintro _ S1 ⟨rfl, hS1⟩
    obtain rfl := hS1.symm
    exact g_lret X hr dX9_of_36 (Nat.le_of_ble_eq_true rfl) (Nat.le_of_ble_eq_true rfl) (⟨by rw [if_neg c10], rfl⟩)
  · refine g_aload_n X dX9_of_13 rfl ?_
    refine g_get (C := RX9) (T := TX9) (N := 3) X 1 in_X9 dX9_of_14 q622 h rfl (Nat.le_of_ble_eq_true rfl) (fun _ h9 => h9) rfl ?_
    refine g_aload_n X dX9_of_17 rfl ?_
    refine g_callF X h1 q915 hd_ofT dX9_of_18 rfl ⟨(by dsimp only; omega), (by dsimp only; omega)⟩ ⟨Nat.le_of_ble_eq_true rfl, Nat.le_of_ble_eq_true rfl⟩ (Nat.le_of_ble_eq_true rfl) ?_
    rintro _ S1 ⟨rfl, hS1⟩
    obtain rfl := hS1.symm
    refine g_goto (tgt := 36) X dX9_of_23 rfl ?_
    exact g_lret X hr dX9_of_36 (Nat.le_of_ble_eq_true rfl) (Nat.le_of_ble_eq_true rfl) (⟨by rw [if_pos c10], rfl⟩)
set_option maxHeartbeats 600000 in
theorem k_X6_is {l : Launch} {E : gk_E} (ho : E.2.2.2.2 = true) {S : gk_S}  {fr lo o1 a1 : Nat} {b : Nat} {N : Int64} (h : gk_Rd E S o1 (.inr (6, [.ref b]))) (h1 : (gk_Im l E gk_isT fr lo b [.ref a1] S (fun r S' => r = some (.int (bP (N = 1))) ∧ S' = S))) : gk_T l E yX6_is cX6_is 2 ((some .boolean)) (fr + 4) (lo + 120) 0 0 [.ref o1, .ref a1] S (fun r S' => r = some (.int (bP (i1 (N ≠ 1) = 1))) ∧ S' = S) := by
  refine gk_T.of [some (.ref o1), some (.ref a1)] (by decide) (Nat.le_of_ble_eq_true rfl) (fun _ _ h => h) ?_
  intro p_ e_ R_ s_ m_ args_ below_ meth_ c_ hR X hr hin
  subst hR
  refine g_aload_n X dX6_is_0 rfl ?_
  refine g_get (C := RX6) (T := TX6) (N := 1) X 0 in_X6 dX6_is_1 q575 h rfl (Nat.le_of_ble_eq_true rfl) (fun _ h9 => h9) rfl ?_
  refine g_aload_n X dX6_is_4 rfl ?_
  refine g_callF X h1 q913 hd_isT dX6_is_5 rfl ⟨(by dsimp only; omega), (by dsimp only; omega)⟩ ⟨Nat.le_of_ble_eq_true rfl, Nat.le_of_ble_eq_true rfl⟩ (Nat.le_of_ble_eq_true rfl) ?_
  rintro _ S1 ⟨rfl, hS1⟩
  obtain rfl := hS1.symm
  refine g_ifp_ne (tgt := 17) X dX6_is_10 rfl (fun c10 => ?_) (fun c10 => ?_)
  · refine g_iconst (v := 0) X dX6_is_17 rfl ?_
    refine g_zret X hr dX6_is_18 ?_ (Nat.le_of_ble_eq_true rfl) (Nat.le_of_ble_eq_true rfl) ?_
    · first | rfl | exact nb_bP
    · exact ⟨lb_0 (fun z => i1_1.mp z c10), rfl⟩
  · refine g_iconst (v := 1) X dX6_is_13 rfl ?_
    refine g_goto (tgt := 18) X dX6_is_14 rfl ?_
    refine g_zret X hr dX6_is_18 ?_ (Nat.le_of_ble_eq_true rfl) (Nat.le_of_ble_eq_true rfl) ?_
    · first | rfl | exact nb_bP
    · exact ⟨lb_1 (i1_1.mpr c10), rfl⟩
set_option maxHeartbeats 600000 in
theorem k_X14_is {l : Launch} {E : gk_E} (ho : E.2.2.2.2 = true) {S : gk_S}  {fr lo o1 a1 : Nat} {b c : Nat} {o : Int32} {N P : Int64} (h : gk_Rd E S o1 (.inr (14, [.int o, .ref b, .ref c]))) (hcm : isCm o) (h1 : (gk_Im l E gk_ofT fr lo b [.ref a1] S (fun r S' => r = some (.long (N)) ∧ S' = S))) (h2 : (gk_Im l E gk_ofT fr lo c [.ref a1] S (fun r S' => r = some (.long (P)) ∧ S' = S))) : gk_T l E yX14_is cX14_is 4 ((some .boolean)) (fr + 4) (lo + 120) 0 0 [.ref o1, .ref a1] S (fun r S' => r = some (.int (bP (i1 (cmB o (N - P) = true) = 1))) ∧ S' = S) := by
  refine gk_T.of [some (.ref o1), some (.ref a1), none, none] (by decide) (Nat.le_of_ble_eq_true rfl) (le_1 rfl (le_1 rfl (le_p (le_p le_n)))) ?_
  intro p_ e_ R_ s_ m_ args_ below_ meth_ c_ hR X hr hin
  subst hR
  refine g_aload_n X dX14_is_0 rfl ?_
  refine g_get (C := RX14) (T := TX14) (N := 3) X 1 in_X14 dX14_is_1 q805 h rfl (Nat.le_of_ble_eq_true rfl) (fun _ h9 => h9) rfl ?_
  refine g_aload_n X dX14_is_4 rfl ?_
  refine g_callF X h1 q870 hd_ofT dX14_is_5 rfl ⟨(by dsimp only; omega), (by dsimp only; omega)⟩ ⟨Nat.le_of_ble_eq_true rfl, Nat.le_of_ble_eq_true rfl⟩ (Nat.le_of_ble_eq_true rfl) ?_
  rintro _ S1 ⟨rfl, hS1⟩
  obtain rfl := hS1.symm
  refine g_aload_n X dX14_is_10 rfl ?_
  refine g_get (C := RX14) (T := TX14) (N := 3) X 2 in_X14 dX14_is_11 q806 h rfl (Nat.le_of_ble_eq_true rfl) (fun _ h9 => h9) rfl ?_
  refine g_aload_n X dX14_is_14 rfl ?_
  refine g_callF X h2 q870 hd_ofT dX14_is_15 rfl ⟨(by dsimp only; omega), (by dsimp only; omega)⟩ ⟨Nat.le_of_ble_eq_true rfl, Nat.le_of_ble_eq_true rfl⟩ (Nat.le_of_ble_eq_true rfl) ?_
  rintro _ S1 ⟨rfl, hS1⟩
  obtain rfl := hS1.symm
  refine g_lsub X dX14_is_20 ?_
  refine g_lstore_n X dX14_is_21 (Nat.le_of_ble_eq_true rfl) ?_
  refine g_aload_n X dX14_is_22 rfl ?_
  refine g_get (C := RX14) (T := TX14) (N := 3) X 0 in_X14 dX14_is_23 q804 h rfl (Nat.le_of_ble_eq_true rfl) (fun _ h9 => h9) rfl ?_
  rcases hcm with rfl | rfl | rfl | rfl | rfl | rfl
  · refine g_lookup (off := 50) (tgt := 76) X dX14_is_26 (by decide) (by decide) rfl ?_
    refine g_lload_n X dX14_is_76 rfl ?_
    refine g_lconst (v := 0) X dX14_is_77 rfl ?_
    refine g_lcmp X dX14_is_78 ?_
    refine g_if_ge (tgt := 86) X dX14_is_79 rfl (fun c79 => ?_) (fun c79 => ?_)
    · refine g_iconst (v := 0) X dX14_is_86 rfl ?_
      refine g_zret X hr dX14_is_87 ?_ (Nat.le_of_ble_eq_true rfl) (Nat.le_of_ble_eq_true rfl) ?_
      · first | rfl | exact nb_bP
      · exact ⟨lb_0 (fun z => (Int32.not_lt.mpr c79) (cm60.mp (i1_1.mp z))), rfl⟩
    · refine g_iconst (v := 1) X dX14_is_82 rfl ?_
      refine g_goto (tgt := 87) X dX14_is_83 rfl ?_
      refine g_zret X hr dX14_is_87 ?_ (Nat.le_of_ble_eq_true rfl) (Nat.le_of_ble_eq_true rfl) ?_
      · first | rfl | exact nb_bP
      · exact ⟨lb_1 (i1_1.mpr (cm60.mpr (Int32.not_le.mp c79))), rfl⟩
  · refine g_lookup (off := 62) (tgt := 88) X dX14_is_26 (by decide) (by decide) rfl ?_
    refine g_lload_n X dX14_is_88 rfl ?_
    refine g_lconst (v := 0) X dX14_is_89 rfl ?_
    refine g_lcmp X dX14_is_90 ?_
    refine g_if_le (tgt := 98) X dX14_is_91 rfl (fun c91 => ?_) (fun c91 => ?_)
    · refine g_iconst (v := 0) X dX14_is_98 rfl ?_
      refine g_zret X hr dX14_is_99 ?_ (Nat.le_of_ble_eq_true rfl) (Nat.le_of_ble_eq_true rfl) ?_
      · first | rfl | exact nb_bP
      · exact ⟨lb_0 (fun z => (Int32.not_lt.mpr c91) (cm62.mp (i1_1.mp z))), rfl⟩
    · refine g_iconst (v := 1) X dX14_is_94 rfl ?_
      refine g_goto (tgt := 99) X dX14_is_95 rfl ?_
      refine g_zret X hr dX14_is_99 ?_ (Nat.le_of_ble_eq_true rfl) (Nat.le_of_ble_eq_true rfl) ?_
      · first | rfl | exact nb_bP
      · exact ⟨lb_1 (i1_1.mpr (cm62.mpr (Int32.not_le.mp c91))), rfl⟩
  · refine g_lookup (off := 74) (tgt := 100) X dX14_is_26 (by decide) (by decide) rfl ?_
    refine g_lload_n X dX14_is_100 rfl ?_
    refine g_lconst (v := 0) X dX14_is_101 rfl ?_
    refine g_lcmp X dX14_is_102 ?_
    refine g_if_ne (tgt := 110) X dX14_is_103 rfl (fun c103 => ?_) (fun c103 => ?_)
    · refine g_iconst (v := 0) X dX14_is_110 rfl ?_
      refine g_zret X hr dX14_is_111 ?_ (Nat.le_of_ble_eq_true rfl) (Nat.le_of_ble_eq_true rfl) ?_
      · first | rfl | exact nb_bP
      · exact ⟨lb_0 (fun z => c103 (cm61.mp (i1_1.mp z))), rfl⟩
    · refine g_iconst (v := 1) X dX14_is_106 rfl ?_
      refine g_goto (tgt := 111) X dX14_is_107 rfl ?_
      refine g_zret X hr dX14_is_111 ?_ (Nat.le_of_ble_eq_true rfl) (Nat.le_of_ble_eq_true rfl) ?_
      · first | rfl | exact nb_bP
      · exact ⟨lb_1 (i1_1.mpr (cm61.mpr c103)), rfl⟩
  · refine g_lookup (off := 86) (tgt := 112) X dX14_is_26 (by decide) (by decide) rfl ?_
    refine g_lload_n X dX14_is_112 rfl ?_
    refine g_lconst (v := 0) X dX14_is_113 rfl ?_
    refine g_lcmp X dX14_is_114 ?_
    refine g_if_eq (tgt := 122) X dX14_is_115 rfl (fun c115 => ?_) (fun c115 => ?_)
    · refine g_iconst (v := 0) X dX14_is_122 rfl ?_
      refine g_zret X hr dX14_is_123 ?_ (Nat.le_of_ble_eq_true rfl) (Nat.le_of_ble_eq_true rfl) ?_
      · first | rfl | exact nb_bP
      · exact ⟨lb_0 (fun z => (fun w => w c115) (cm35.mp (i1_1.mp z))), rfl⟩
    · refine g_iconst (v := 1) X dX14_is_118 rfl ?_
      refine g_goto (tgt := 123) X dX14_is_119 rfl ?_
      refine g_zret X hr dX14_is_123 ?_ (Nat.le_of_ble_eq_true rfl) (Nat.le_of_ble_eq_true rfl) ?_
      · first | rfl | exact nb_bP
      · exact ⟨lb_1 (i1_1.mpr (cm35.mpr c115)), rfl⟩
  · refine g_lookup (off := 98) (tgt := 124) X dX14_is_26 (by decide) (by decide) rfl ?_
    refine g_lload_n X dX14_is_124 rfl ?_
    refine g_lconst (v := 0) X dX14_is_125 rfl ?_
    refine g_lcmp X dX14_is_126 ?_
    refine g_if_gt (tgt := 134) X dX14_is_127 rfl (fun c127 => ?_) (fun c127 => ?_)
    · refine g_iconst (v := 0) X dX14_is_134 rfl ?_
      refine g_zret X hr dX14_is_135 ?_ (Nat.le_of_ble_eq_true rfl) (Nat.le_of_ble_eq_true rfl) ?_
      · first | rfl | exact nb_bP
      · exact ⟨lb_0 (fun z => (Int32.not_le.mpr c127) (cm303.mp (i1_1.mp z))), rfl⟩
    · refine g_iconst (v := 1) X dX14_is_130 rfl ?_
      refine g_goto (tgt := 135) X dX14_is_131 rfl ?_
      refine g_zret X hr dX14_is_135 ?_ (Nat.le_of_ble_eq_true rfl) (Nat.le_of_ble_eq_true rfl) ?_
      · first | rfl | exact nb_bP
      · exact ⟨lb_1 (i1_1.mpr (cm303.mpr (Int32.not_lt.mp c127))), rfl⟩
  · refine g_lookup (off := 110) (tgt := 136) X dX14_is_26 (by decide) (by decide) rfl ?_
    refine g_lload_n X dX14_is_136 rfl ?_
    refine g_lconst (v := 0) X dX14_is_137 rfl ?_
    refine g_lcmp X dX14_is_138 ?_
    refine g_if_lt (tgt := 146) X dX14_is_139 rfl (fun c139 => ?_) (fun c139 => ?_)
    · refine g_iconst (v := 0) X dX14_is_146 rfl ?_
      refine g_zret X hr dX14_is_147 ?_ (Nat.le_of_ble_eq_true rfl) (Nat.le_of_ble_eq_true rfl) ?_
      · first | rfl | exact nb_bP
      · exact ⟨lb_0 (fun z => (Int32.not_le.mpr c139) (cm304.mp (i1_1.mp z))), rfl⟩
    · refine g_iconst (v := 1) X dX14_is_142 rfl ?_
      refine g_goto (tgt := 147) X dX14_is_143 rfl ?_
      refine g_zret X hr dX14_is_147 ?_ (Nat.le_of_ble_eq_true rfl) (Nat.le_of_ble_eq_true rfl) ?_
      · first | rfl | exact nb_bP
      · exact ⟨lb_1 (i1_1.mpr (cm304.mpr (Int32.not_lt.mp c139))), rfl⟩
