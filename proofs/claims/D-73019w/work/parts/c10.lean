set_option maxHeartbeats 600000 in
theorem k_X7_init {l : Launch} {E : gk_E} {S : gk_S}  {q1 a1 : Nat} (hq : S.2.2.2 q1 = some (.inr (7, [.null, .null, .null]))) (hb : E.2.2.2.1 ≤ q1) : gk_T l E yX7_init cX7_init 2 (none) 4 180 2 6 [.ref q1, .ref a1] S (fun r S' => r = none ∧ ∃ qa qb : Nat, S.2.2.2 qa = none ∧ S.2.2.2 qb = none ∧ E.2.2.2.1 ≤ qa ∧ E.2.2.2.1 ≤ qb ∧ qa ≠ qb ∧ S' = gk_sd (gk_sd (gk_sd S qa (.inr (17, [.int 0, .ref (E.2.2.1 903), .int 0]))) qb (.inr (17, [.int 0, .ref (E.2.2.1 903), .int 0]))) q1 (.inr (7, [.ref a1, .ref qa, .ref qb]))) := by
  refine gk_T.of [some (.ref q1), some (.ref a1)] (by decide) (Nat.le_of_ble_eq_true rfl) (fun _ _ h => h) ?_
  intro p_ e_ R_ s_ m_ args_ below_ meth_ c_ hR X hr hin
  subst hR
  refine g_aload_n X dX7_init_0 rfl ?_
  refine g_objInit X dX7_init_1 q691 q176 q177 (Nat.le_of_ble_eq_true rfl) (Nat.le_of_ble_eq_true rfl) ?_
  refine g_aload_n X dX7_init_4 rfl ?_
  refine g_new (C := RJ3) (T := TJ3) (N := 3) (ci := 17) (fs := [.int 0, .null, .int 0]) X in_J3 tyJ3 tyJ3_ok dX7_init_5 q692 q364 q144 rfl (by decide) (by decide) (by decide) (fun qa hqa hba => ?_)
  refine g_dup X dX7_init_8 rfl ?_
  refine g_callI X (k_J3_init gk_sda hba) q367 q144 q693 q366 rfl hd_J3_init dX7_init_9 rfl ⟨Nat.le_of_ble_eq_true rfl, Nat.le_of_ble_eq_true rfl⟩ ⟨Nat.le_of_ble_eq_true rfl, Nat.le_of_ble_eq_true rfl⟩ (Nat.le_of_ble_eq_true rfl) ?_
  rintro _ S1 ⟨rfl, rfl⟩
  rw [vz_sdsd]
  refine g_putFd (C := RX7) (T := TX7) (N := 3) X 1 in_X7 tyX7 tyX7_ok nmX7 dX7_init_12 q695 (sd_ne hqa hq) hb rfl (Nat.le_of_ble_eq_true rfl) (fun _ h9 => h9) rfl hin rfl rfl rfl (Nat.le_of_ble_eq_true rfl) ?_
  refine g_aload_n X dX7_init_15 rfl ?_
  refine g_new (C := RJ3) (T := TJ3) (N := 3) (ci := 17) (fs := [.int 0, .null, .int 0]) X in_J3 tyJ3 tyJ3_ok dX7_init_16 q692 q364 q144 rfl (by decide) (by decide) (by decide) (fun qb hqb hbb => ?_)
  refine g_dup X dX7_init_19 rfl ?_
  refine g_callI X (k_J3_init gk_sda hbb) q367 q144 q693 q366 rfl hd_J3_init dX7_init_20 rfl ⟨Nat.le_of_ble_eq_true rfl, Nat.le_of_ble_eq_true rfl⟩ ⟨Nat.le_of_ble_eq_true rfl, Nat.le_of_ble_eq_true rfl⟩ (Nat.le_of_ble_eq_true rfl) ?_
  rintro _ S1 ⟨rfl, rfl⟩
  rw [vz_sdsd]
  refine g_putFd (C := RX7) (T := TX7) (N := 3) X 2 in_X7 tyX7 tyX7_ok nmX7 dX7_init_23 q696 (sd_ne hqb gk_sda) hb rfl (Nat.le_of_ble_eq_true rfl) (fun _ h9 => h9) rfl hin rfl rfl rfl (Nat.le_of_ble_eq_true rfl) ?_
  refine g_aload_n X dX7_init_26 rfl ?_
  refine g_aload_n X dX7_init_27 rfl ?_
  refine g_putFd (C := RX7) (T := TX7) (N := 3) X 0 in_X7 tyX7 tyX7_ok nmX7 dX7_init_28 q694 gk_sda hb rfl (Nat.le_of_ble_eq_true rfl) (fun _ h9 => h9) rfl hin rfl rfl rfl (Nat.le_of_ble_eq_true rfl) ?_
  exact g_vret X hr dX7_init_31 (Nat.le_of_ble_eq_true rfl) (Nat.le_of_ble_eq_true rfl) (⟨rfl, qa, qb, hqa, al_nq (al_nq hqb), hba, hbb, al_oq ((sd_n2 (al_oq hq hqa).symm).trans gk_sda) hqb, by rw [vz_sdsd]; exact sd_3⟩)
