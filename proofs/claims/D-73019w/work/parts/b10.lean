theorem arA_tl {o : Nat → Int32} {n nf : Nat} {g : Nat → Int32} {W : Option mnB} (hn : n ≤ 8) (hf : nf ≤ 5) : ∀ {m ns : Nat} {q : (Nat → Int32) × Int32}, rwM q.1 → tlA q.1 → ns ≤ 30 → q.1 3 = nI ns → tlA (arA o n nf g W m q).2.1 ∧ ∀ k, (k < 3 ∨ (27 ≤ k ∧ k < 62)) → (arA o n nf g W m q).2.1 k = q.1 k
  | 0, _, _, _, h2, _, _ => ⟨h2, fun _ _ => rfl⟩
  | m + 1, ns, q, h1, h2, h3, h4 => by
    by_cases h : q.1 5 = 9999
    · rw [arA_t (m := m + 1) (by omega) h]
      exact ⟨h2, fun _ _ => rfl⟩
    · rw [arA_f (m := m + 1) (by omega) h]
      have hk := kpM_rw h3 h1
      have hk5 : ¬ kpM q.1 ns 5 = 9999 := by rw [kpM_n h3 (by omega)]; exact h
      obtain ⟨p1, -, -, -⟩ := pmA_ok (wr := true) (o := o) (g := g) (W := W) hn hf hk
      have e1 : (stA o n nf g W q).1 = (pmA true o n nf g W (kpM q.1 ns)).1 := by unfold stA; dsimp only; rw [h4, ix_n (by omega)]
      obtain ⟨z1, z2⟩ := arA_tl hn hf (m := m) (ns := kpN ns) (q := stA o n nf g W q) (by rw [e1]; exact pmA_rw hn hf hk hk5) (by rw [e1]; exact pmA_tl hn hf hk (tl_kp h3 h2)) (kpN_le h3) (by rw [e1, p1 3 (by omega)]; exact kpM_3)
      refine ⟨z1, fun k hk2 => ?_⟩
      rw [show m + 1 - 1 = m from rfl, z2 k hk2, e1, p1 k (by omega)]
      exact kpM_n h3 (by omega)
theorem pl_hand {E : gk_E} {ic : Nat → Nat} {S S' : gk_S} {a n nf ns' : Nat} {g A A' : Nat → Int32} {W : Option mnB} (he : EnC E ic S a n nf g W) (hl : ldR S A) (h0 : A 0 = nI nf) (hK : CoK S' A' ns') (hF : FrC spX S S') (hN : ∀ j, j ≠ 3 → S'.1 10 j = S.1 10 j) (hA : ∀ k, (k < 3 ∨ (27 ≤ k ∧ k < 62)) → A' k = A k) (hz : tlA A') : PlC E ic S' a n g W A' ∧ FrC plX S S' ∧ ∀ j, j ≠ 0 → j ≠ 3 → S'.1 10 j = S.1 10 j :=
  ⟨⟨nf, ns', he.c (hN 0 (by decide)) (hN 2 (by decide)) hF.1, hK, ldR_f hl hF (fun i hi => by omega) (fun k hk => hA k (by omega)), (hA 0 (by omega)).trans h0, hz⟩, hF.mono (fun i hi => by omega), fun j _ hj => hN j hj⟩
theorem pl_id {E : gk_E} {ic : Nat → Nat} {S : gk_S} {a n nf ns : Nat} {g A : Nat → Int32} {W : Option mnB} (he : EnC E ic S a n nf g W) (hk : CoK S A ns) (hl : ldR S A) (h0 : A 0 = nI nf) (hz : tlA A) : PlC E ic S a n g W A ∧ FrC plX S S ∧ ∀ j, j ≠ 0 → j ≠ 3 → S.1 10 j = S.1 10 j := ⟨⟨nf, ns, he, hk, hl, h0, hz⟩, FrC.rf, fun _ _ _ => rfl⟩
theorem pl_if {E : gk_E} {ic : Nat → Nat} {S X : gk_S} {a n : Nat} {g A A1 : Nat → Int32} {W : Option mnB} {P : Prop} [Decidable P] {q : Bool × (Nat → Int32)} (hq : q = if P then (true, A1) else (false, A)) (h1 : P → PlC E ic X a n g W A1 ∧ FrC plX S X ∧ ∀ j, j ≠ 0 → j ≠ 3 → X.1 10 j = S.1 10 j) (h2 : PlC E ic S a n g W A ∧ FrC plX S S ∧ ∀ j, j ≠ 0 → j ≠ 3 → S.1 10 j = S.1 10 j) : bP P = bP (q.1 = true) ∧ PlC E ic (if P then X else S) a n g W q.2 ∧ FrC plX S (if P then X else S) ∧ ∀ j, j ≠ 0 → j ≠ 3 → (if P then X else S).1 10 j = S.1 10 j := by
  rw [hq]
  by_cases c : P
  · rw [if_pos c, if_pos c]
    exact ⟨bP_iff (by simp [c]), h1 c⟩
  · rw [if_neg c, if_neg c]
    exact ⟨bP_iff (by simp [c]), h2⟩
theorem pl_q {E : gk_E} {ic : Nat → Nat} {S X : gk_S} {a n : Nat} {g A A1 : Nat → Int32} {W : Option mnB} {P : Prop} [Decidable P] {q : Bool × (Nat → Int32)} (hq : q = if P then (true, A1) else (false, A)) (h1 : PlC E ic X a n g W (if P then A1 else A) ∧ FrC plX S X ∧ ∀ j, j ≠ 0 → j ≠ 3 → X.1 10 j = S.1 10 j) : bP P = bP (q.1 = true) ∧ PlC E ic X a n g W q.2 ∧ FrC plX S X ∧ ∀ j, j ≠ 0 → j ≠ 3 → X.1 10 j = S.1 10 j := by
  rw [hq]
  by_cases c : P
  · rw [if_pos c] at h1 ⊢
    exact ⟨bP_iff (by simp [c]), h1⟩
  · rw [if_neg c] at h1 ⊢
    exact ⟨bP_iff (by simp [c]), h1⟩
theorem hand_A {P : Prop} [Decidable P] {A A1 : Nat → Int32} (h : ∀ k, (k < 3 ∨ (27 ≤ k ∧ k < 62)) → A1 k = A k) : ∀ k, (k < 3 ∨ (27 ≤ k ∧ k < 62)) → (if P then A1 else A) k = A k := by
  intro k hk
  by_cases c : P
  · rw [if_pos c]; exact h k hk
  · rw [if_neg c]
theorem hand_z {P : Prop} [Decidable P] {A A1 : Nat → Int32} (h : tlA A1) (h0 : tlA A) : tlA (if P then A1 else A) := by
  by_cases c : P
  · rw [if_pos c]; exact h
  · rw [if_neg c]; exact h0
theorem kpu_A {A : Nat → Int32} {ns j : Nat} {v : Int32} (hns : ns ≤ 30) (hj : 3 ≤ j ∧ j < 27) : ∀ k, (k < 3 ∨ (27 ≤ k ∧ k < 62)) → upd (kpM A ns) j v k = A k := fun k hk => by
  rw [upd_n (by omega)]
  exact kpM_n hns (by omega)
theorem pd_A {n ns : Nat} {A : Nat → Int32} {x : Int32} (hn : n ≤ 8) (hns : ns ≤ 30) : ∀ k, (k < 3 ∨ (27 ≤ k ∧ k < 62)) → (if paP n A x then pdA2 A ns x else A) k = A k := by
  intro k hk
  by_cases c : paP n A x
  · rw [if_pos c]
    obtain ⟨cc, hcc, e⟩ := cl_ix hn c.1
    have hi : ix x < 8 := by rw [e, ix_n (by omega)]; omega
    exact kpu_A hns (by omega) k hk
  · rw [if_neg c]
theorem pd_z {n ns : Nat} {A : Nat → Int32} {x : Int32} (hn : n ≤ 8) (hns : ns ≤ 30) (h : tlA A) : tlA (if paP n A x then pdA2 A ns x else A) := hand_z (tla_u (tl_kp hns h) (Or.inr (Or.inr (by decide)))) h
set_option maxHeartbeats 1000000 in
theorem k_X0_does {l : Launch} {E : gk_E} (ho : E.2.2.2.2 = true) {S : gk_S}  {ic : Nat → Nat} {r0 n nf ns s o1 : Nat} {g o A : Nat → Int32} {W : Option mnB} {a b c num : Int32} (hd : S.2.2.2 o1 = some (.inr (16, [.int (nI (200 + s)), .int a, .int b, .int c, .int num]))) (hs : 2 ≤ s ∧ s ≤ 8) (h8 : s = 8 → ∃ m, m ≤ 100 ∧ a = nI m) (he : EnC E ic S r0 n nf g W) (hk : CoK S A ns) (hl : ldR S A) (h0 : A 0 = nI nf) (hz : tlA A) : gk_T l E yX0_does cX0_does 2 ((some .boolean)) 255 8123 0 0 [.ref (E.2.2.1 0), .ref o1] S (fun r S' => r = some (.int (bP ((dgA o n g W s a b c A).1 = true))) ∧ PlC E ic S' r0 n g W (dgA o n g W s a b c A).2 ∧ FrC plX S S' ∧ ∀ j, j ≠ 0 → j ≠ 3 → S'.1 10 j = S.1 10 j) := by
  have i0 : ix (A 0) = nf := by rw [h0, ix_n (by have := he.2.2.1; omega)]
  have i3 : ix (A 3) = ns := by rw [hk.2.2.2.2.1, ix_n (by have := hk.2.2.1; omega)]
  refine gk_T.of [some (.ref (E.2.2.1 0)), some (.ref o1)] (by decide) (Nat.le_of_ble_eq_true rfl) (fun _ _ h => h) ?_
  intro p_ e_ R_ s_ m_ args_ below_ meth_ c_ hR X hr hin
  subst hR
  refine g_aload_n X dX0_does_0 rfl ?_
  refine g_callV (C := RX16) (T := TX16) (N := 5) X (k_X16_sort ho hd) (lw_V q1113 q1114 q1115 q169 q1116) hd_X16_sort dX0_does_1 (rd_dy hd) rfl rfl ⟨Nat.le_of_ble_eq_true rfl, Nat.le_of_ble_eq_true rfl⟩ ⟨Nat.le_of_ble_eq_true rfl, Nat.le_of_ble_eq_true rfl⟩ (Nat.le_of_ble_eq_true rfl) ?_
  rintro _ S1 ⟨rfl, hS1⟩
  obtain rfl := hS1.symm
  rcases Decidable.em ((nI (200 + s)).toInt < 202 ∨ 207 < (nI (200 + s)).toInt) with h4 | h4
  · refine g_tableOut (tgt := 119) X dX0_does_4 h4 rfl ?_
    have hs8 : s = 8 := by
      rw [nI_toInt (by omega)] at h4
      omega
    subst hs8
    obtain ⟨m, hm, ham⟩ := h8 rfl
    have him : ix a = m := by rw [ham, ix_n (by omega)]
    have hd8 := dg_8 (o := o) (n := n) (g := g) (W := W) (a := a) (b := b) (c := c) i0 him
    obtain ⟨zt, zk⟩ := arA_tl (o := o) (W := W) (g := g) he.1.1 he.2.2.1 (m := m) (q := (A, 0)) hk.2.1 hz hk.2.2.1 hk.2.2.2.2.1
    refine g_aload_n X dX0_does_119 rfl ?_
    refine g_aload_n X dX0_does_120 rfl ?_
    refine g_callV (C := RX16) (T := TX16) (N := 5) X (k_X16_a ho hd) (lw_V q1117 q1118 q1119 q169 q1120) hd_X16_a dX0_does_121 (rd_dy hd) rfl rfl ⟨Nat.le_of_ble_eq_true rfl, Nat.le_of_ble_eq_true rfl⟩ ⟨Nat.le_of_ble_eq_true rfl, Nat.le_of_ble_eq_true rfl⟩ (Nat.le_of_ble_eq_true rfl) ?_
    rintro _ S1 ⟨rfl, hS1⟩
    obtain rfl := hS1.symm
    refine g_callV (C := RX0) (T := TX0) (N := 13) X (k_X0_passesAll ho (o := o) ham hm he hk hl) (lw_V q1135 q1137 qs40 q135 q1138) hd_X0_passesAll dX0_does_124 (rd0 ho) rfl rfl ⟨Nat.le_of_ble_eq_true rfl, Nat.le_of_ble_eq_true rfl⟩ ⟨Nat.le_of_ble_eq_true rfl, Nat.le_of_ble_eq_true rfl⟩ (Nat.le_of_ble_eq_true rfl) ?_
    rintro _ S1 ⟨rfl, ⟨ns2, hK2⟩, hF2, hN2, hL2⟩
    obtain ⟨hq2, hq3, hq4⟩ := pl_hand he hl h0 hK2 hF2 hN2 zk zt
    refine g_zret X hr dX0_does_127 ?_ (Nat.le_of_ble_eq_true rfl) (Nat.le_of_ble_eq_true rfl) ?_
    · first | rfl | exact nb_bP
    · exact ⟨by rw [hd8], by rw [hd8]; exact hq2, hq3, hq4⟩
  · rcases (show (nI (200 + s)).toInt = 202 ∨ (nI (200 + s)).toInt = 203 ∨ (nI (200 + s)).toInt = 204 ∨ (nI (200 + s)).toInt = 205 ∨ (nI (200 + s)).toInt = 206 ∨ (nI (200 + s)).toInt = 207 from by omega) with s4 | s4 | s4 | s4 | s4 | s4
    · have s4 : nI (200 + s) = 202 := Int32.toInt_inj.mp (s4.trans (by decide))
      refine g_tableIn (off := 40) (tgt := 44) X dX0_does_4 (by rw [s4]; decide) (by rw [s4]; decide) (by rw [s4]; rfl) rfl ?_
      have hs2 : s = 2 := by
        have := (nI_eq (a := 200 + s) (b := 202) (by omega) (by decide)).mp s4
        omega
      subst hs2
      refine g_aload_n X dX0_does_44 rfl ?_
      refine g_aload_n X dX0_does_45 rfl ?_
      refine g_callV (C := RX16) (T := TX16) (N := 5) X (k_X16_a ho hd) (lw_V q1117 q1118 q1119 q169 q1120) hd_X16_a dX0_does_46 (rd_dy hd) rfl rfl ⟨Nat.le_of_ble_eq_true rfl, Nat.le_of_ble_eq_true rfl⟩ ⟨Nat.le_of_ble_eq_true rfl, Nat.le_of_ble_eq_true rfl⟩ (Nat.le_of_ble_eq_true rfl) ?_
      rintro _ S1 ⟨rfl, hS1⟩
      obtain rfl := hS1.symm
      refine g_callV (C := RX0) (T := TX0) (N := 13) X (k_X0_farmer ho he.2.1 he.2.2.1) (lw_V q1121 q284 q285 q135 q286) hd_X0_farmer dX0_does_49 (rd0 ho) rfl rfl ⟨Nat.le_of_ble_eq_true rfl, Nat.le_of_ble_eq_true rfl⟩ ⟨Nat.le_of_ble_eq_true rfl, Nat.le_of_ble_eq_true rfl⟩ (Nat.le_of_ble_eq_true rfl) ?_
      rintro _ S1 ⟨rfl, hS1⟩
      obtain rfl := hS1.symm
      obtain ⟨hq1, hq2, hq3, hq4⟩ := pl_if (E := E) (ic := ic) (q := (dgA o n g W 2 a b c A)) (dg_2 i0) (fun hP => pl_farmer he hk hl h0 hz hP) (pl_id he hk hl h0 hz)
      refine g_iconst (v := (-1)) X dX0_does_52 rfl ?_
      refine g_icmp_eq (tgt := 60) X dX0_does_53 rfl (fun c53 => ?_) (fun c53 => ?_)
      · refine g_iconst (v := 0) X dX0_does_60 rfl ?_
        refine g_zret X hr dX0_does_61 ?_ (Nat.le_of_ble_eq_true rfl) (Nat.le_of_ble_eq_true rfl) ?_
        · first | rfl | exact nb_bP
        · exact ⟨by rw [← hq1]; exact lb_0 (fun z => by rw [if_pos z] at c53; exact nI_ne_m1 (by have := he.2.2.1; omega) c53), hq2, hq3, hq4⟩
      · refine g_iconst (v := 1) X dX0_does_56 rfl ?_
        refine g_goto (tgt := 61) X dX0_does_57 rfl ?_
        refine g_zret X hr dX0_does_61 ?_ (Nat.le_of_ble_eq_true rfl) (Nat.le_of_ble_eq_true rfl) ?_
        · first | rfl | exact nb_bP
        · exact ⟨by rw [← hq1]; exact lb_1 (Decidable.byContradiction (fun z => c53 (by rw [if_neg z]))), hq2, hq3, hq4⟩
    · have s4 : nI (200 + s) = 203 := Int32.toInt_inj.mp (s4.trans (by decide))
      refine g_tableIn (off := 58) (tgt := 62) X dX0_does_4 (by rw [s4]; decide) (by rw [s4]; decide) (by rw [s4]; rfl) rfl ?_
      have hs3 : s = 3 := by
        have := (nI_eq (a := 200 + s) (b := 203) (by omega) (by decide)).mp s4
        omega
      subst hs3
      refine g_aload_n X dX0_does_62 rfl ?_
      refine g_aload_n X dX0_does_63 rfl ?_
      refine g_callV (C := RX16) (T := TX16) (N := 5) X (k_X16_b ho hd) (lw_V q1122 q1123 q1124 q169 q1125) hd_X16_b dX0_does_64 (rd_dy hd) rfl rfl ⟨Nat.le_of_ble_eq_true rfl, Nat.le_of_ble_eq_true rfl⟩ ⟨Nat.le_of_ble_eq_true rfl, Nat.le_of_ble_eq_true rfl⟩ (Nat.le_of_ble_eq_true rfl) ?_
      rintro _ S1 ⟨rfl, hS1⟩
      obtain rfl := hS1.symm
      refine g_aload_n X dX0_does_67 rfl ?_
      refine g_callV (C := RX16) (T := TX16) (N := 5) X (k_X16_a ho hd) (lw_V q1117 q1118 q1119 q169 q1120) hd_X16_a dX0_does_68 (rd_dy hd) rfl rfl ⟨Nat.le_of_ble_eq_true rfl, Nat.le_of_ble_eq_true rfl⟩ ⟨Nat.le_of_ble_eq_true rfl, Nat.le_of_ble_eq_true rfl⟩ (Nat.le_of_ble_eq_true rfl) ?_
      rintro _ S1 ⟨rfl, hS1⟩
      obtain rfl := hS1.symm
      refine g_callV (C := RX0) (T := TX0) (N := 13) X (k_X0_soil ho) (lw_V q1126 q295 q296 q135 q297) hd_X0_soil dX0_does_71 (rd0 ho) rfl rfl ⟨Nat.le_of_ble_eq_true rfl, Nat.le_of_ble_eq_true rfl⟩ ⟨Nat.le_of_ble_eq_true rfl, Nat.le_of_ble_eq_true rfl⟩ (Nat.le_of_ble_eq_true rfl) ?_
      rintro _ S1 ⟨rfl, hS1⟩
      obtain rfl := hS1.symm
      obtain ⟨hq1, hq2, hq3, hq4⟩ := pl_if (E := E) (ic := ic) (q := (dgA o n g W 3 a b c A)) (dg_3) (fun hP => pl_soil he hk hl h0 hz hP) (pl_id he hk hl h0 hz)
      refine g_top (y := bP ((dgA o n g W 3 a b c A).1 = true)) hq1 ?_
      refine g_zret X hr dX0_does_74 ?_ (Nat.le_of_ble_eq_true rfl) (Nat.le_of_ble_eq_true rfl) ?_
      · exact nb_bP
      · exact ⟨rfl, hq2, hq3, hq4⟩
    · have s4 : nI (200 + s) = 204 := Int32.toInt_inj.mp (s4.trans (by decide))
      refine g_tableIn (off := 71) (tgt := 75) X dX0_does_4 (by rw [s4]; decide) (by rw [s4]; decide) (by rw [s4]; rfl) rfl ?_
      have hs4 : s = 4 := by
        have := (nI_eq (a := 200 + s) (b := 204) (by omega) (by decide)).mp s4
        omega
      subst hs4
      refine g_aload_n X dX0_does_75 rfl ?_
      refine g_aload_n X dX0_does_76 rfl ?_
      refine g_callV (C := RX16) (T := TX16) (N := 5) X (k_X16_c ho hd) (lw_V q1127 q1128 q1129 q169 q1130) hd_X16_c dX0_does_77 (rd_dy hd) rfl rfl ⟨Nat.le_of_ble_eq_true rfl, Nat.le_of_ble_eq_true rfl⟩ ⟨Nat.le_of_ble_eq_true rfl, Nat.le_of_ble_eq_true rfl⟩ (Nat.le_of_ble_eq_true rfl) ?_
      rintro _ S1 ⟨rfl, hS1⟩
      obtain rfl := hS1.symm
      refine g_aload_n X dX0_does_80 rfl ?_
      refine g_callV (C := RX16) (T := TX16) (N := 5) X (k_X16_b ho hd) (lw_V q1122 q1123 q1124 q169 q1125) hd_X16_b dX0_does_81 (rd_dy hd) rfl rfl ⟨Nat.le_of_ble_eq_true rfl, Nat.le_of_ble_eq_true rfl⟩ ⟨Nat.le_of_ble_eq_true rfl, Nat.le_of_ble_eq_true rfl⟩ (Nat.le_of_ble_eq_true rfl) ?_
      rintro _ S1 ⟨rfl, hS1⟩
      obtain rfl := hS1.symm
      refine g_aload_n X dX0_does_84 rfl ?_
      refine g_callV (C := RX16) (T := TX16) (N := 5) X (k_X16_a ho hd) (lw_V q1117 q1118 q1119 q169 q1120) hd_X16_a dX0_does_85 (rd_dy hd) rfl rfl ⟨Nat.le_of_ble_eq_true rfl, Nat.le_of_ble_eq_true rfl⟩ ⟨Nat.le_of_ble_eq_true rfl, Nat.le_of_ble_eq_true rfl⟩ (Nat.le_of_ble_eq_true rfl) ?_
      rintro _ S1 ⟨rfl, hS1⟩
      obtain rfl := hS1.symm
      refine g_callV (C := RX0) (T := TX0) (N := 13) X (k_X0_wants ho) (lw_V q1131 q302 q303 q135 q304) hd_X0_wants dX0_does_88 (rd0 ho) rfl rfl ⟨Nat.le_of_ble_eq_true rfl, Nat.le_of_ble_eq_true rfl⟩ ⟨Nat.le_of_ble_eq_true rfl, Nat.le_of_ble_eq_true rfl⟩ (Nat.le_of_ble_eq_true rfl) ?_
      rintro _ S1 ⟨rfl, hS1⟩
      obtain rfl := hS1.symm
      obtain ⟨hq1, hq2, hq3, hq4⟩ := pl_if (E := E) (ic := ic) (q := (dgA o n g W 4 a b c A)) (dg_4) (fun hP => pl_want he hk hl h0 hz hP) (pl_id he hk hl h0 hz)
      refine g_top (y := bP ((dgA o n g W 4 a b c A).1 = true)) hq1 ?_
      refine g_zret X hr dX0_does_91 ?_ (Nat.le_of_ble_eq_true rfl) (Nat.le_of_ble_eq_true rfl) ?_
      · exact nb_bP
      · exact ⟨rfl, hq2, hq3, hq4⟩
    · have s4 : nI (200 + s) = 205 := Int32.toInt_inj.mp (s4.trans (by decide))
      refine g_tableIn (off := 88) (tgt := 92) X dX0_does_4 (by rw [s4]; decide) (by rw [s4]; decide) (by rw [s4]; rfl) rfl ?_
      have hs5 : s = 5 := by
        have := (nI_eq (a := 200 + s) (b := 205) (by omega) (by decide)).mp s4
        omega
      subst hs5
      refine g_aload_n X dX0_does_92 rfl ?_
      refine g_aload_n X dX0_does_93 rfl ?_
      refine g_callV (C := RX16) (T := TX16) (N := 5) X (k_X16_a ho hd) (lw_V q1117 q1118 q1119 q169 q1120) hd_X16_a dX0_does_94 (rd_dy hd) rfl rfl ⟨Nat.le_of_ble_eq_true rfl, Nat.le_of_ble_eq_true rfl⟩ ⟨Nat.le_of_ble_eq_true rfl, Nat.le_of_ble_eq_true rfl⟩ (Nat.le_of_ble_eq_true rfl) ?_
      rintro _ S1 ⟨rfl, hS1⟩
      obtain rfl := hS1.symm
      refine g_callV (C := RX0) (T := TX0) (N := 13) X (k_X0_say ho he.1 hk) (lw_V q1132 q1075 q1076 q135 q1077) hd_X0_say dX0_does_97 (rd0 ho) rfl rfl ⟨Nat.le_of_ble_eq_true rfl, Nat.le_of_ble_eq_true rfl⟩ ⟨Nat.le_of_ble_eq_true rfl, Nat.le_of_ble_eq_true rfl⟩ (Nat.le_of_ble_eq_true rfl) ?_
      rintro _ S1 ⟨rfl, ⟨ns2, hK2⟩, hF2, hN2⟩
      obtain ⟨hq1, hq2, hq3, hq4⟩ := pl_q (E := E) (ic := ic) (q := (dgA o n g W 5 a b c A)) (dg_5 i3) (pl_hand he hl h0 hK2 (hF2.mono (fun i hi => by omega)) hN2 (hand_A (kpu_A hk.2.2.1 (by omega))) (hand_z (tla_u (tl_kp hk.2.2.1 hz) (by omega)) hz))
      refine g_top (y := bP ((dgA o n g W 5 a b c A).1 = true)) hq1 ?_
      refine g_zret X hr dX0_does_100 ?_ (Nat.le_of_ble_eq_true rfl) (Nat.le_of_ble_eq_true rfl) ?_
      · first | rfl | exact nb_bP
      · exact ⟨rfl, hq2, hq3, hq4⟩
    · have s4 : nI (200 + s) = 206 := Int32.toInt_inj.mp (s4.trans (by decide))
      refine g_tableIn (off := 97) (tgt := 101) X dX0_does_4 (by rw [s4]; decide) (by rw [s4]; decide) (by rw [s4]; rfl) rfl ?_
      have hs6 : s = 6 := by
        have := (nI_eq (a := 200 + s) (b := 206) (by omega) (by decide)).mp s4
        omega
      subst hs6
      refine g_aload_n X dX0_does_101 rfl ?_
      refine g_aload_n X dX0_does_102 rfl ?_
      refine g_callV (C := RX16) (T := TX16) (N := 5) X (k_X16_a ho hd) (lw_V q1117 q1118 q1119 q169 q1120) hd_X16_a dX0_does_103 (rd_dy hd) rfl rfl ⟨Nat.le_of_ble_eq_true rfl, Nat.le_of_ble_eq_true rfl⟩ ⟨Nat.le_of_ble_eq_true rfl, Nat.le_of_ble_eq_true rfl⟩ (Nat.le_of_ble_eq_true rfl) ?_
      rintro _ S1 ⟨rfl, hS1⟩
      obtain rfl := hS1.symm
      refine g_callV (C := RX0) (T := TX0) (N := 13) X (k_X0_retract ho he.1 hk) (lw_V q1133 q1087 q1088 q135 q1089) hd_X0_retract dX0_does_106 (rd0 ho) rfl rfl ⟨Nat.le_of_ble_eq_true rfl, Nat.le_of_ble_eq_true rfl⟩ ⟨Nat.le_of_ble_eq_true rfl, Nat.le_of_ble_eq_true rfl⟩ (Nat.le_of_ble_eq_true rfl) ?_
      rintro _ S1 ⟨rfl, ⟨ns2, hK2⟩, hF2, hN2⟩
      obtain ⟨hq1, hq2, hq3, hq4⟩ := pl_q (E := E) (ic := ic) (q := (dgA o n g W 6 a b c A)) (dg_6 i3) (pl_hand he hl h0 hK2 (hF2.mono (fun i hi => by omega)) hN2 (hand_A (kpu_A hk.2.2.1 (by omega))) (hand_z (tla_u (tl_kp hk.2.2.1 hz) (by omega)) hz))
      refine g_top (y := bP ((dgA o n g W 6 a b c A).1 = true)) hq1 ?_
      refine g_zret X hr dX0_does_109 ?_ (Nat.le_of_ble_eq_true rfl) (Nat.le_of_ble_eq_true rfl) ?_
      · first | rfl | exact nb_bP
      · exact ⟨rfl, hq2, hq3, hq4⟩
    · have s4 : nI (200 + s) = 207 := Int32.toInt_inj.mp (s4.trans (by decide))
      refine g_tableIn (off := 106) (tgt := 110) X dX0_does_4 (by rw [s4]; decide) (by rw [s4]; decide) (by rw [s4]; rfl) rfl ?_
      have hs7 : s = 7 := by
        have := (nI_eq (a := 200 + s) (b := 207) (by omega) (by decide)).mp s4
        omega
      subst hs7
      refine g_aload_n X dX0_does_110 rfl ?_
      refine g_aload_n X dX0_does_111 rfl ?_
      refine g_callV (C := RX16) (T := TX16) (N := 5) X (k_X16_a ho hd) (lw_V q1117 q1118 q1119 q169 q1120) hd_X16_a dX0_does_112 (rd_dy hd) rfl rfl ⟨Nat.le_of_ble_eq_true rfl, Nat.le_of_ble_eq_true rfl⟩ ⟨Nat.le_of_ble_eq_true rfl, Nat.le_of_ble_eq_true rfl⟩ (Nat.le_of_ble_eq_true rfl) ?_
      rintro _ S1 ⟨rfl, hS1⟩
      obtain rfl := hS1.symm
      refine g_callV (C := RX0) (T := TX0) (N := 13) X (k_X0_pardon ho he.1 hk hz) (lw_V q1134 q1095 q1096 q135 q1097) hd_X0_pardon dX0_does_115 (rd0 ho) rfl rfl ⟨Nat.le_of_ble_eq_true rfl, Nat.le_of_ble_eq_true rfl⟩ ⟨Nat.le_of_ble_eq_true rfl, Nat.le_of_ble_eq_true rfl⟩ (Nat.le_of_ble_eq_true rfl) ?_
      rintro _ S1 ⟨rfl, ⟨ns2, hK2⟩, hF2, hN2⟩
      obtain ⟨hq1, hq2, hq3, hq4⟩ := pl_q (E := E) (ic := ic) (q := (dgA o n g W 7 a b c A)) (dg_7 i3) (pl_hand he hl h0 hK2 (hF2.mono (fun i hi => by omega)) hN2 (pd_A he.1.1 hk.2.2.1) (pd_z he.1.1 hk.2.2.1 hz))
      refine g_top (y := bP ((dgA o n g W 7 a b c A).1 = true)) hq1 ?_
      refine g_zret X hr dX0_does_118 ?_ (Nat.le_of_ble_eq_true rfl) (Nat.le_of_ble_eq_true rfl) ?_
      · first | rfl | exact nb_bP
      · exact ⟨rfl, hq2, hq3, hq4⟩
