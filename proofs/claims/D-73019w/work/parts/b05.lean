set_option maxHeartbeats 600000 in
theorem k_X0_say_0 {l : Launch} {E : gk_E} (ho : E.2.2.2.2 = true) {S : gk_S} {x : Int32} {a n ns : Nat} {g : Nat → Int32} (hu : RU E S a n g) (h0 : S.1 10 3 = nI ns) (h1 : ns ≤ 30) : gk_T l E yX0_say cX0_say 2 ((some .boolean)) 6 124 0 0 [.ref (E.2.2.1 0), .int x] S (fun r S' => r = some (.int (bP (csP n g (S.1 11 2) (fun k => S.1 11 (3 + k)) x))) ∧ S' = if csP n g (S.1 11 2) (fun k => S.1 11 (3 + k)) x then gk_si (kpS S ns) 11 (upd ((kpS S ns).1 11) 2 ((kpS S ns).1 11 2 ||| one x)) else S) := by
  refine gk_T.of [some (.ref (E.2.2.1 0)), some (.int x)] (by decide) (Nat.le_of_ble_eq_true rfl) (fun _ _ h => h) ?_
  intro p_ e_ R_ s_ m_ args_ below_ meth_ c_ hR X hr hin
  subst hR
  refine g_aload_n X dX0_say_0 rfl ?_
  refine g_iload_n X dX0_say_1 rfl ?_
  refine g_callV (C := RX0) (T := TX0) (N := 13) X (k_X0_canSay ho hu) (lw_V q1078 q1080 qs35 q135 q1081) hd_X0_canSay dX0_say_2 (rd0 ho) rfl rfl ⟨Nat.le_of_ble_eq_true rfl, Nat.le_of_ble_eq_true rfl⟩ ⟨Nat.le_of_ble_eq_true rfl, Nat.le_of_ble_eq_true rfl⟩ (Nat.le_of_ble_eq_true rfl) ?_
  rintro _ S1 ⟨rfl, hS1⟩
  obtain rfl := hS1.symm
  refine g_ifp_ne (tgt := 10) X dX0_say_5 rfl (fun c5 => ?_) (fun c5 => ?_)
  · refine g_aload_n X dX0_say_10 rfl ?_
    refine g_get (C := RX0) (T := TX0) (N := 13) X 0 in_X0 dX0_say_11 q241 (rd0 ho) rfl (Nat.le_of_ble_eq_true rfl) (fun _ h9 => h9) rfl ?_
    refine g_callV (C := RX1) (T := TX1) (N := 8) X (k_X1_keeps ho h0 h1) (lw_V q1003 q1004 q1005 q136 q1006) hd_X1_keeps dX0_say_14 (rd1 ho) rfl rfl ⟨Nat.le_of_ble_eq_true rfl, Nat.le_of_ble_eq_true rfl⟩ ⟨Nat.le_of_ble_eq_true rfl, Nat.le_of_ble_eq_true rfl⟩ (Nat.le_of_ble_eq_true rfl) ?_
    rintro _ S1 ⟨rfl, hS1⟩
    obtain rfl := hS1.symm
    refine g_aload_n X dX0_say_17 rfl ?_
    refine g_get (C := RX0) (T := TX0) (N := 13) X 0 in_X0 dX0_say_18 q241 (rd0 ho) rfl (Nat.le_of_ble_eq_true rfl) (fun _ h9 => h9) rfl ?_
    refine g_getN (C := RX1) (T := TX1) (N := 8) X 1 in_X1 dX0_say_21 q197 (rd1 ho) rfl (Nat.le_of_ble_eq_true rfl) (fun _ h9 => h9) rfl ?_
    refine g_iconst (v := 2) X dX0_say_24 rfl ?_
    refine g_dup2_11 X dX0_say_25 rfl rfl ?_
    refine g_iald (j := 2) X dX0_say_26 (rdi ho (11) (rfl)) rfl (by decide) (by decide) ?_
    refine g_iconst (v := 1) X dX0_say_27 rfl ?_
    refine g_iload_n X dX0_say_28 rfl ?_
    refine g_ishl X dX0_say_29 ?_
    refine g_ior X dX0_say_30 ?_
    refine g_iast X ho (11) (j := 2) dX0_say_31 rfl (rfl) rfl (by decide) (by decide) ?_
    refine g_iconst (v := 1) X dX0_say_32 rfl ?_
    refine g_zret X hr dX0_say_33 ?_ (Nat.le_of_ble_eq_true rfl) (Nat.le_of_ble_eq_true rfl) ?_
    · first | rfl | exact nb_bP
    · exact ⟨lb_1 c5, by rw [if_pos c5]⟩
  · refine g_iconst (v := 0) X dX0_say_8 rfl ?_
    refine g_zret X hr dX0_say_9 ?_ (Nat.le_of_ble_eq_true rfl) (Nat.le_of_ble_eq_true rfl) ?_
    · first | rfl | exact nb_bP
    · exact ⟨lb_0 c5, by rw [if_neg c5]⟩
set_option maxHeartbeats 600000 in
theorem k_X0_retract_0 {l : Launch} {E : gk_E} (ho : E.2.2.2.2 = true) {S : gk_S} {x : Int32} {a n ns : Nat} {g : Nat → Int32} (hu : RU E S a n g) (h0 : S.1 10 3 = nI ns) (h1 : ns ≤ 30) : gk_T l E yX0_retract cX0_retract 2 ((some .boolean)) 4 102 0 0 [.ref (E.2.2.1 0), .int x] S (fun r S' => r = some (.int (bP ((0 ≤ x ∧ x ≤ nI n - 1) ∧ hs (S.1 11 2) x))) ∧ S' = if (0 ≤ x ∧ x ≤ nI n - 1) ∧ hs (S.1 11 2) x then gk_si (kpS S ns) 11 (upd ((kpS S ns).1 11) 2 ((kpS S ns).1 11 2 &&& (one x ^^^ -1))) else S) := by
  refine gk_T.of [some (.ref (E.2.2.1 0)), some (.int x)] (by decide) (Nat.le_of_ble_eq_true rfl) (fun _ _ h => h) ?_
  intro p_ e_ R_ s_ m_ args_ below_ meth_ c_ hR X hr hin
  subst hR
  refine g_aload_n X dX0_retract_0 rfl ?_
  refine g_iload_n X dX0_retract_1 rfl ?_
  refine g_callV (C := RX0) (T := TX0) (N := 13) X (k_X0_canRetract ho hu) (lw_V q1090 q1092 qs37 q135 q1093) hd_X0_canRetract dX0_retract_2 (rd0 ho) rfl rfl ⟨Nat.le_of_ble_eq_true rfl, Nat.le_of_ble_eq_true rfl⟩ ⟨Nat.le_of_ble_eq_true rfl, Nat.le_of_ble_eq_true rfl⟩ (Nat.le_of_ble_eq_true rfl) ?_
  rintro _ S1 ⟨rfl, hS1⟩
  obtain rfl := hS1.symm
  refine g_ifp_ne (tgt := 10) X dX0_retract_5 rfl (fun c5 => ?_) (fun c5 => ?_)
  · refine g_aload_n X dX0_retract_10 rfl ?_
    refine g_get (C := RX0) (T := TX0) (N := 13) X 0 in_X0 dX0_retract_11 q241 (rd0 ho) rfl (Nat.le_of_ble_eq_true rfl) (fun _ h9 => h9) rfl ?_
    refine g_callV (C := RX1) (T := TX1) (N := 8) X (k_X1_keeps ho h0 h1) (lw_V q1003 q1004 q1005 q136 q1006) hd_X1_keeps dX0_retract_14 (rd1 ho) rfl rfl ⟨Nat.le_of_ble_eq_true rfl, Nat.le_of_ble_eq_true rfl⟩ ⟨Nat.le_of_ble_eq_true rfl, Nat.le_of_ble_eq_true rfl⟩ (Nat.le_of_ble_eq_true rfl) ?_
    rintro _ S1 ⟨rfl, hS1⟩
    obtain rfl := hS1.symm
    refine g_aload_n X dX0_retract_17 rfl ?_
    refine g_get (C := RX0) (T := TX0) (N := 13) X 0 in_X0 dX0_retract_18 q241 (rd0 ho) rfl (Nat.le_of_ble_eq_true rfl) (fun _ h9 => h9) rfl ?_
    refine g_getN (C := RX1) (T := TX1) (N := 8) X 1 in_X1 dX0_retract_21 q197 (rd1 ho) rfl (Nat.le_of_ble_eq_true rfl) (fun _ h9 => h9) rfl ?_
    refine g_iconst (v := 2) X dX0_retract_24 rfl ?_
    refine g_dup2_11 X dX0_retract_25 rfl rfl ?_
    refine g_iald (j := 2) X dX0_retract_26 (rdi ho (11) (rfl)) rfl (by decide) (by decide) ?_
    refine g_iconst (v := 1) X dX0_retract_27 rfl ?_
    refine g_iload_n X dX0_retract_28 rfl ?_
    refine g_ishl X dX0_retract_29 ?_
    refine g_iconst (v := (-1)) X dX0_retract_30 rfl ?_
    refine g_ixor X dX0_retract_31 ?_
    refine g_iand X dX0_retract_32 ?_
    refine g_iast X ho (11) (j := 2) dX0_retract_33 rfl (rfl) rfl (by decide) (by decide) ?_
    refine g_iconst (v := 1) X dX0_retract_34 rfl ?_
    refine g_zret X hr dX0_retract_35 ?_ (Nat.le_of_ble_eq_true rfl) (Nat.le_of_ble_eq_true rfl) ?_
    · first | rfl | exact nb_bP
    · exact ⟨lb_1 c5, by rw [if_pos c5]⟩
  · refine g_iconst (v := 0) X dX0_retract_8 rfl ?_
    refine g_zret X hr dX0_retract_9 ?_ (Nat.le_of_ble_eq_true rfl) (Nat.le_of_ble_eq_true rfl) ?_
    · first | rfl | exact nb_bP
    · exact ⟨lb_0 c5, by rw [if_neg c5]⟩
set_option maxHeartbeats 600000 in
theorem k_X0_pardon_0 {l : Launch} {E : gk_E} (ho : E.2.2.2.2 = true) {S : gk_S} {x : Int32} {a n ns : Nat} {g : Nat → Int32} (hu : RU E S a n g) (h0 : S.1 10 3 = nI ns) (h1 : ns ≤ 30) : gk_T l E yX0_pardon cX0_pardon 2 ((some .boolean)) 4 102 0 0 [.ref (E.2.2.1 0), .int x] S (fun r S' => r = some (.int (bP ((0 ≤ x ∧ x ≤ nI n - 1) ∧ ¬ S.1 11 (3 + ix x) ≤ 0))) ∧ S' = if (0 ≤ x ∧ x ≤ nI n - 1) ∧ ¬ S.1 11 (3 + ix x) ≤ 0 then gk_si (kpS S ns) 11 (upd ((kpS S ns).1 11) (3 + ix x) 0) else S) := by
  refine gk_T.of [some (.ref (E.2.2.1 0)), some (.int x)] (by decide) (Nat.le_of_ble_eq_true rfl) (fun _ _ h => h) ?_
  intro p_ e_ R_ s_ m_ args_ below_ meth_ c_ hR X hr hin
  subst hR
  refine g_aload_n X dX0_pardon_0 rfl ?_
  refine g_iload_n X dX0_pardon_1 rfl ?_
  refine g_callV (C := RX0) (T := TX0) (N := 13) X (k_X0_canPardon ho hu) (lw_V q1098 q1100 qs38 q135 q1101) hd_X0_canPardon dX0_pardon_2 (rd0 ho) rfl rfl ⟨Nat.le_of_ble_eq_true rfl, Nat.le_of_ble_eq_true rfl⟩ ⟨Nat.le_of_ble_eq_true rfl, Nat.le_of_ble_eq_true rfl⟩ (Nat.le_of_ble_eq_true rfl) ?_
  rintro _ S1 ⟨rfl, hS1⟩
  obtain rfl := hS1.symm
  refine g_ifp_ne (tgt := 10) X dX0_pardon_5 rfl (fun c5 => ?_) (fun c5 => ?_)
  · obtain ⟨cc, hcc, hxc⟩ := cl_ix hu.1 c5.1
    have hn8 := hu.1
    refine g_aload_n X dX0_pardon_10 rfl ?_
    refine g_get (C := RX0) (T := TX0) (N := 13) X 0 in_X0 dX0_pardon_11 q241 (rd0 ho) rfl (Nat.le_of_ble_eq_true rfl) (fun _ h9 => h9) rfl ?_
    refine g_callV (C := RX1) (T := TX1) (N := 8) X (k_X1_keeps ho h0 h1) (lw_V q1003 q1004 q1005 q136 q1006) hd_X1_keeps dX0_pardon_14 (rd1 ho) rfl rfl ⟨Nat.le_of_ble_eq_true rfl, Nat.le_of_ble_eq_true rfl⟩ ⟨Nat.le_of_ble_eq_true rfl, Nat.le_of_ble_eq_true rfl⟩ (Nat.le_of_ble_eq_true rfl) ?_
    rintro _ S1 ⟨rfl, hS1⟩
    obtain rfl := hS1.symm
    refine g_aload_n X dX0_pardon_17 rfl ?_
    refine g_get (C := RX0) (T := TX0) (N := 13) X 0 in_X0 dX0_pardon_18 q241 (rd0 ho) rfl (Nat.le_of_ble_eq_true rfl) (fun _ h9 => h9) rfl ?_
    refine g_getN (C := RX1) (T := TX1) (N := 8) X 1 in_X1 dX0_pardon_21 q197 (rd1 ho) rfl (Nat.le_of_ble_eq_true rfl) (fun _ h9 => h9) rfl ?_
    refine g_iconst (v := 3) X dX0_pardon_24 rfl ?_
    refine g_iload_n X dX0_pardon_25 rfl ?_
    refine g_iadd X dX0_pardon_26 ?_
    refine g_iconst (v := 0) X dX0_pardon_27 rfl ?_
    refine g_iast X ho (11) (j := 3 + ix x) dX0_pardon_28 rfl (rfl) (by rw [hxc, ix_n (by omega)]; show nI 3 + nI cc = _; rw [nI_add]) (by rw [hxc, ix_n (by omega)]; omega) (by decide) ?_
    refine g_iconst (v := 1) X dX0_pardon_29 rfl ?_
    refine g_zret X hr dX0_pardon_30 ?_ (Nat.le_of_ble_eq_true rfl) (Nat.le_of_ble_eq_true rfl) ?_
    · first | rfl | exact nb_bP
    · exact ⟨lb_1 c5, by rw [if_pos c5]⟩
  · refine g_iconst (v := 0) X dX0_pardon_8 rfl ?_
    refine g_zret X hr dX0_pardon_9 ?_ (Nat.le_of_ble_eq_true rfl) (Nat.le_of_ble_eq_true rfl) ?_
    · first | rfl | exact nb_bP
    · exact ⟨lb_0 c5, by rw [if_neg c5]⟩
abbrev hdX (i : Nat) : Prop := i = 10 ∨ i = 11 ∨ (40 ≤ i ∧ i < 70)
theorem kp_row {S : gk_S} {A : Nat → Int32} {ns : Nat} {R' A' : Nat → Int32} (hk : CoK S A ns) (h : CoK (gk_si (kpS S ns) 11 R') A' (kpN ns)) : (∃ ns', CoK (gk_si (kpS S ns) 11 R') A' ns') ∧ FrC hdX S (gk_si (kpS S ns) 11 R') ∧ ∀ j, j ≠ 3 → (gk_si (kpS S ns) 11 R').1 10 j = S.1 10 j := by
  obtain ⟨k1, k2, k3, k4⟩ := kp_st hk
  exact ⟨⟨_, h⟩, (k2.mono (fun i hi => by omega)).tr (FrC.si (Or.inr (Or.inl rfl)) (by decide)), fun j hj => by rw [si_n (by decide)]; exact k3 j hj⟩
theorem pd_iff {R A : Nat → Int32} {n : Nat} {x : Int32} (hn : n ≤ 8) (h : coR R A) (hz : ∀ c, c < 8 → 0 ≤ A (9 + c)) : ((0 ≤ x ∧ x ≤ nI n - 1) ∧ ¬ R (3 + ix x) ≤ 0) ↔ paP n A x := by
  have key : ∀ c, c < 8 → (¬ R (3 + c) ≤ 0 ↔ ¬ A (9 + c) = 0) := fun c hc => by
    rw [h.2.2.2.1 c hc]
    have z0 := hz c hc
    constructor
    · intro z w
      exact z (by rw [w]; decide)
    · intro z w
      exact z (Int32.le_antisymm w z0)
  constructor
  · rintro ⟨z1, z2⟩
    obtain ⟨c, hc, e⟩ := cl_ix hn z1
    refine ⟨z1, ?_⟩
    rw [e, ix_n (by omega)] at z2 ⊢
    exact (key c (by omega)).mp z2
  · rintro ⟨z1, z2⟩
    obtain ⟨c, hc, e⟩ := cl_ix hn z1
    refine ⟨z1, ?_⟩
    rw [e, ix_n (by omega)] at z2 ⊢
    exact (key c (by omega)).mpr z2
theorem k_X0_say {l : Launch} {E : gk_E} (ho : E.2.2.2.2 = true) {S : gk_S} {x : Int32} {a n ns : Nat} {g A : Nat → Int32} (he : RU E S a n g) (hk : CoK S A ns) : gk_T l E yX0_say cX0_say 2 (some .boolean) 6 124 0 0 [.ref (E.2.2.1 0), .int x] S (fun r S' => r = some (.int (bP (saP n g A x))) ∧ (∃ ns', CoK S' (if saP n g A x then syA A ns x else A) ns') ∧ FrC hdX S S' ∧ ∀ j, j ≠ 3 → S'.1 10 j = S.1 10 j) := by
  obtain ⟨k1, k2, k3, k4⟩ := kp_st hk
  have hP0 := cs_iff (g := g) he.1 hk.1.1 (x := x)
  refine gk_T.imp (k_X0_say_0 ho he hk.2.2.2.1 hk.2.2.1) ?_
  rintro r S' ⟨h1, h2⟩
  refine ⟨by rw [h1]; exact lb_v hP0, ?_⟩
  by_cases hP : saP n g A x
  · rw [if_pos (hP0.mpr hP)] at h2
    subst h2
    rw [if_pos hP]
    have e7 : (kpS S ns).1 11 2 = kpM A ns 7 := k1.1.1.2.2.1
    rw [e7]
    exact kp_row hk (co_u2 k1)
  · rw [if_neg (fun z => hP (hP0.mp z))] at h2
    subst h2
    rw [if_neg hP]
    exact ⟨⟨ns, hk⟩, FrC.rf, fun _ _ => rfl⟩
theorem k_X0_retract {l : Launch} {E : gk_E} (ho : E.2.2.2.2 = true) {S : gk_S} {x : Int32} {a n ns : Nat} {g A : Nat → Int32} (he : RU E S a n g) (hk : CoK S A ns) : gk_T l E yX0_retract cX0_retract 2 (some .boolean) 4 102 0 0 [.ref (E.2.2.1 0), .int x] S (fun r S' => r = some (.int (bP (reP n A x))) ∧ (∃ ns', CoK S' (if reP n A x then rtA A ns x else A) ns') ∧ FrC hdX S S' ∧ ∀ j, j ≠ 3 → S'.1 10 j = S.1 10 j) := by
  obtain ⟨k1, k2, k3, k4⟩ := kp_st hk
  have hP0 := re_iff (n := n) hk.1.1 (x := x)
  refine gk_T.imp (k_X0_retract_0 ho he hk.2.2.2.1 hk.2.2.1) ?_
  rintro r S' ⟨h1, h2⟩
  refine ⟨by rw [h1]; exact lb_v hP0, ?_⟩
  by_cases hP : reP n A x
  · rw [if_pos (hP0.mpr hP)] at h2
    subst h2
    rw [if_pos hP]
    have e7 : (kpS S ns).1 11 2 = kpM A ns 7 := k1.1.1.2.2.1
    rw [e7]
    exact kp_row hk (co_u2 k1)
  · rw [if_neg (fun z => hP (hP0.mp z))] at h2
    subst h2
    rw [if_neg hP]
    exact ⟨⟨ns, hk⟩, FrC.rf, fun _ _ => rfl⟩
theorem k_X0_pardon {l : Launch} {E : gk_E} (ho : E.2.2.2.2 = true) {S : gk_S} {x : Int32} {a n ns : Nat} {g A : Nat → Int32} (he : RU E S a n g) (hk : CoK S A ns) (hz : ∀ c, c < 8 → 0 ≤ A (9 + c)) : gk_T l E yX0_pardon cX0_pardon 2 (some .boolean) 4 102 0 0 [.ref (E.2.2.1 0), .int x] S (fun r S' => r = some (.int (bP (paP n A x))) ∧ (∃ ns', CoK S' (if paP n A x then pdA2 A ns x else A) ns') ∧ FrC hdX S S' ∧ ∀ j, j ≠ 3 → S'.1 10 j = S.1 10 j) := by
  obtain ⟨k1, k2, k3, k4⟩ := kp_st hk
  have hP0 := pd_iff he.1 hk.1.1 hz (x := x)
  refine gk_T.imp (k_X0_pardon_0 ho he hk.2.2.2.1 hk.2.2.1) ?_
  rintro r S' ⟨h1, h2⟩
  refine ⟨by rw [h1]; exact lb_v hP0, ?_⟩
  by_cases hP : paP n A x
  · rw [if_pos (hP0.mpr hP)] at h2
    subst h2
    rw [if_pos hP]
    obtain ⟨cc, hcc, hxc⟩ := cl_ix he.1 hP.1
    have hcl : ix x < 8 := by rw [hxc, ix_n (by have := he.1; omega)]; have := he.1; omega
    exact kp_row hk (co_u3 hcl k1)
  · rw [if_neg (fun z => hP (hP0.mp z))] at h2
    subst h2
    rw [if_neg hP]
    exact ⟨⟨ns, hk⟩, FrC.rf, fun _ _ => rfl⟩
