set_option maxHeartbeats 600000 in
theorem k_X4_init {l : Launch} {E : gk_E} {S : gk_S}  {q1 : Nat} (hq : S.2.2.2 q1 = some (.inr (4, [.null, .null, .int 0, .int 0, .null]))) (hb : E.2.2.2.1 ≤ q1) : gk_T l E yX4_init cX4_init 1 (none) 4 180 2 11 [.ref q1] S (fun r S' => r = none ∧ ∃ qa qb : Nat, S.2.2.2 qa = none ∧ S.2.2.2 qb = none ∧ E.2.2.2.1 ≤ qa ∧ E.2.2.2.1 ≤ qb ∧ qa ≠ qb ∧ S' = gk_sd (gk_sd (gk_sd S qa (.inl (E.2.1 0, 8, .inl (fun _ => 0)))) qb (.inr (17, [.int 0, .ref (E.2.2.1 903), .int 0]))) q1 (.inr (4, [.null, .ref qa, .int 0, .int 0, .ref qb]))) := by
  refine gk_T.of [some (.ref q1)] (by decide) (Nat.le_of_ble_eq_true rfl) (fun _ _ h => h) ?_
  intro p_ e_ R_ s_ m_ args_ below_ meth_ c_ hR X hr hin
  subst hR
  refine g_aload_n X dX4_init_0 rfl ?_
  refine g_objInit X dX4_init_1 q362 q176 q177 (Nat.le_of_ble_eq_true rfl) (Nat.le_of_ble_eq_true rfl) ?_
  refine g_aload_n X dX4_init_4 rfl ?_
  refine g_bipush (v := 8) X dX4_init_5 rfl ?_
  refine g_newi (N := 8) X dX4_init_7 rfl (by decide) (by decide) (by decide) (fun qa hqa hba => ?_)
  refine g_putFd (C := RX4) (T := TX4) (N := 5) X 1 in_X4 tyX4 tyX4_ok nmX4 dX4_init_9 q391 (sd_ne hqa hq) hb rfl (Nat.le_of_ble_eq_true rfl) (fun _ h9 => h9) rfl hin rfl rfl rfl (Nat.le_of_ble_eq_true rfl) ?_
  refine g_aload_n X dX4_init_12 rfl ?_
  refine g_new (C := RJ3) (T := TJ3) (N := 3) (ci := 17) (fs := [.int 0, .null, .int 0]) X in_J3 tyJ3 tyJ3_ok dX4_init_13 q363 q364 q144 rfl (by decide) (by decide) (by decide) (fun qb hqb hbb => ?_)
  refine g_dup X dX4_init_16 rfl ?_
  refine g_callI X (k_J3_init gk_sda hbb) q367 q144 q365 q366 rfl hd_J3_init dX4_init_17 rfl ⟨Nat.le_of_ble_eq_true rfl, Nat.le_of_ble_eq_true rfl⟩ ⟨Nat.le_of_ble_eq_true rfl, Nat.le_of_ble_eq_true rfl⟩ (Nat.le_of_ble_eq_true rfl) ?_
  rintro _ S1 ⟨rfl, rfl⟩
  rw [vz_sdsd]
  refine g_putFd (C := RX4) (T := TX4) (N := 5) X 4 in_X4 tyX4 tyX4_ok nmX4 dX4_init_20 q397 (sd_ne hqb gk_sda) hb rfl (Nat.le_of_ble_eq_true rfl) (fun _ h9 => h9) rfl hin rfl rfl rfl (Nat.le_of_ble_eq_true rfl) ?_
  exact g_vret X hr dX4_init_23 (Nat.le_of_ble_eq_true rfl) (Nat.le_of_ble_eq_true rfl) (⟨rfl, qa, qb, hqa, al_nq (al_nq hqb), hba, hbb, al_oq ((sd_n2 (al_oq hq hqa).symm).trans gk_sda) hqb, sd_3⟩)
set_option maxHeartbeats 600000 in
theorem k_X7_itself {l : Launch} {E : gk_E} (ho : E.2.2.2.2 = true) {S : gk_S}  {o1 b o2 o3 b2 n2 k : Nat} {mo2 : Int32} {x : Nat → Option Nat} (h : S.2.2.2 o1 = some (.inr (7, [.ref b, .ref o2, .ref o3]))) (h2 : LsA E S o2 mo2 b2 n2 k x) : gk_T l E yX7_itself cX7_itself 1 ((some (.object "SownByArgument$Sum"))) 3 100 0 0 [.ref o1] S (fun r S' => r = some (.ref (if k = 0 then b else o1)) ∧ S' = S) := by
  refine gk_T.of [some (.ref o1)] (by decide) (Nat.le_of_ble_eq_true rfl) (fun _ _ h => h) ?_
  intro p_ e_ R_ s_ m_ args_ below_ meth_ c_ hR X hr hin
  subst hR
  refine g_aload_n X dX7_itself_0 rfl ?_
  refine g_get (C := RX7) (T := TX7) (N := 3) X 1 in_X7 dX7_itself_1 q695 (rd_dy h) rfl (Nat.le_of_ble_eq_true rfl) (fun _ h9 => h9) rfl ?_
  refine g_callV (C := RJ3) (T := TJ3) (N := 3) X (k_J3_isEmpty ho h2) (lw_V q794 q795 q796 q144 q797) hd_J3_isEmpty dX7_itself_4 (rd_dy h2.1) rfl rfl ⟨Nat.le_of_ble_eq_true rfl, Nat.le_of_ble_eq_true rfl⟩ ⟨Nat.le_of_ble_eq_true rfl, Nat.le_of_ble_eq_true rfl⟩ (Nat.le_of_ble_eq_true rfl) ?_
  rintro _ S1 ⟨rfl, hS1⟩
  obtain rfl := hS1.symm
  refine g_ifp_eq (tgt := 17) X dX7_itself_7 rfl (fun c7 => ?_) (fun c7 => ?_)
  · refine g_aload_n X dX7_itself_17 rfl ?_
    exact g_aret X hr (Or.inl ⟨_, rfl⟩) dX7_itself_18 (Nat.le_of_ble_eq_true rfl) (Nat.le_of_ble_eq_true rfl) ⟨by first | rw [if_pos (by first | assumption | omega)] | rw [if_neg (by first | assumption | omega)], rfl⟩
  · refine g_aload_n X dX7_itself_10 rfl ?_
    refine g_get (C := RX7) (T := TX7) (N := 3) X 0 in_X7 dX7_itself_11 q694 (rd_dy h) rfl (Nat.le_of_ble_eq_true rfl) (fun _ h9 => h9) rfl ?_
    refine g_goto (tgt := 18) X dX7_itself_14 rfl ?_
    exact g_aret X hr (Or.inl ⟨_, rfl⟩) dX7_itself_18 (Nat.le_of_ble_eq_true rfl) (Nat.le_of_ble_eq_true rfl) ⟨by first | rw [if_pos (by first | assumption | omega)] | rw [if_neg (by first | assumption | omega)], rfl⟩
