/-- the first k places of g are f's -/
def cuU (f g : Nat → Int32) (k : Nat) : Nat → Int32 := fun x => if x < k then f x else g x
theorem cuU_s {f g : Nat → Int32} {k : Nat} : upd (cuU f g k) k (f k) = cuU f g (k + 1) := by
  funext x
  by_cases h : x = k
  · subst h; simp [upd, cuU]
  · simp only [upd, cuU, h, if_false]
    by_cases h2 : x < k
    · rw [if_pos h2, if_pos (by omega)]
    · rw [if_neg h2, if_neg (by omega)]
theorem cuU_0 {f g : Nat → Int32} : cuU f g 0 = g := by funext x; simp [cuU]
/-- a block of k places moved within a: to d from s -/
def bcU (a : Nat → Int32) (d s k : Nat) : Nat → Int32 := fun x => if d ≤ x ∧ x < d + k then a (x - d + s) else a x
theorem bcU_0 {a : Nat → Int32} {d s : Nat} : bcU a d s 0 = a := by
  funext x
  unfold bcU
  rw [if_neg (by omega)]
theorem bcU_s {a : Nat → Int32} {d s k : Nat} : upd (bcU a d s k) (d + k) (a (s + k)) = bcU a d s (k + 1) := by
  funext x
  by_cases h : x = d + k
  · subst h
    simp only [upd, if_true, bcU]
    rw [if_pos (by omega), show d + k - d + s = s + k by omega]
  · simp only [upd, h, if_false, bcU]
    by_cases h2 : d ≤ x ∧ x < d + k
    · rw [if_pos h2, if_pos (by omega)]
    · rw [if_neg h2, if_neg (by omega)]
theorem abU_0 {f g : Nat → Int32} : (fun x => if 5 ≤ x ∧ x < 5 + 0 then f x else g x) = g := by
  funext x
  rw [if_neg (by omega)]
theorem abU_s {f g : Nat → Int32} {k : Nat} : upd (fun x => if 5 ≤ x ∧ x < 5 + k then f x else g x) (5 + k) (f (5 + k)) = fun x => if 5 ≤ x ∧ x < 5 + (k + 1) then f x else g x := by
  funext x
  by_cases h : x = 5 + k
  · subst h
    simp only [upd, if_true]
    rw [if_pos (by omega)]
  · simp only [upd, h, if_false]
    by_cases h2 : 5 ≤ x ∧ x < 5 + k
    · rw [if_pos h2, if_pos (by omega)]
    · rw [if_neg h2, if_neg (by omega)]
theorem bcU_o {a : Nat → Int32} {d s k x : Nat} (h : ¬ (d ≤ x ∧ x < d + k)) : bcU a d s k x = a x := if_neg h
set_option maxHeartbeats 600000 in
theorem k_X2_copy {l : Launch} {E : gk_E} (ho : E.2.2.2.2 = true) {S : gk_S}  {i j : Nat} (hi : gk_kd i = some (0, 1366)) (hj : gk_kd j = some (0, 1366)) (hij : i ≠ j) : gk_T l E yX2_copy cX2_copy 3 (none) 0 0 0 0 [.ref (E.2.2.1 i), .ref (E.2.2.1 j)] S (fun r S' => r = none ∧ S' = gk_si S j (cuU (S.1 i) (S.1 j) 1366)) := by
  refine gk_T.of [some (.ref (E.2.2.1 i)), some (.ref (E.2.2.1 j)), none] (by decide) (Nat.le_of_ble_eq_true rfl) (le_1 rfl (le_1 rfl (le_p le_n))) ?_
  intro p_ e_ R_ s_ m_ args_ below_ meth_ c_ hR X hr hin
  subst hR
  refine g_iconst (v := 0) X dX2_copy_0 rfl ?_
  refine g_istore_n X dX2_copy_1 (Nat.le_of_ble_eq_true rfl) ?_
  refine g_loop (σ := Nat) (fun (k : Nat) => gk_si S j (cuU (S.1 i) (S.1 j) k)) (fun (k : Nat) => ([some (.ref (E.2.2.1 i)), some (.ref (E.2.2.1 j)), some (.int (nI k))] : List (Option Value))) (fun (k : Nat) => k ≤ 1366) (fun (k : Nat) => 1366 - k) (0) ?_ (by rw [cuU_0, si_id]) (le_1 rfl (le_1 rfl (le_1 rfl le_n))) ?_
  · omega
  intro k hI ih
  try dsimp only at hI ih ⊢
  refine g_iload_n X dX2_copy_2 rfl ?_
  refine g_sipush (v := 1366) X dX2_copy_3 rfl ?_
  refine g_icmp_ge (tgt := 21) X dX2_copy_6 rfl (fun c6 => ?_) (fun c6 => ?_)
  · exact g_vret X hr dX2_copy_21 (Nat.le_of_ble_eq_true rfl) (Nat.le_of_ble_eq_true rfl) (⟨rfl, by rw [out_of (by omega) hI c6]⟩)
  · have hk : k < 1366 := in_of (by omega) hI c6
    refine g_aload_n X dX2_copy_9 rfl ?_
    refine g_iload_n X dX2_copy_10 rfl ?_
    refine g_aload_n X dX2_copy_11 rfl ?_
    refine g_iload_n X dX2_copy_12 rfl ?_
    refine g_iald (j := k) X dX2_copy_13 (rdi ho (i) (hi)) rfl hk (by decide) ?_
    refine g_iast X ho (j) (j := k) dX2_copy_14 rfl (hj) rfl hk (by decide) ?_
    refine g_eq (S2 := gk_si S j (cuU (S.1 i) (S.1 j) (k + 1))) (by rw [si_si, si_s, si_n hij, cuU_s]) ?_
    refine g_iinc (v := 1) X dX2_copy_15 rfl rfl (Nat.le_of_ble_eq_true rfl) ?_
    refine g_goto (tgt := 2) X dX2_copy_18 rfl ?_
    refine g_sub (le_1 rfl (le_1 rfl (le_1 e_1 le_n))) (ih (k + 1) ?_ ?_)
    · try dsimp only
      omega
    · try dsimp only
      omega
set_option maxHeartbeats 600000 in
theorem k_X2_image {l : Launch} {E : gk_E} (ho : E.2.2.2.2 = true) {S : gk_S}    : gk_T l E yX2_image cX2_image 1 ((some .int)) 1 22 0 0 [.ref (E.2.2.1 3)] S (fun r S' => r = some (.int ((gk_si S 401 (cuU (S.1 400) (S.1 401) 1366)).1 400 5)) ∧ S' = gk_si S 401 (cuU (S.1 400) (S.1 401) 1366)) := by
  refine gk_T.of [some (.ref (E.2.2.1 3))] (by decide) (Nat.le_of_ble_eq_true rfl) (fun _ _ h => h) ?_
  intro p_ e_ R_ s_ m_ args_ below_ meth_ c_ hR X hr hin
  subst hR
  refine g_aload_n X dX2_image_0 rfl ?_
  refine g_get (C := RX2) (T := TX2) (N := 35) X 0 in_X2 dX2_image_1 q1405 (rd3 ho) rfl (Nat.le_of_ble_eq_true rfl) (fun _ h9 => h9) rfl ?_
  refine g_aload_n X dX2_image_4 rfl ?_
  refine g_get (C := RX2) (T := TX2) (N := 35) X 1 in_X2 dX2_image_5 q1406 (rd3 ho) rfl (Nat.le_of_ble_eq_true rfl) (fun _ h9 => h9) rfl ?_
  refine g_callS X (k_X2_copy ho (i := 400) (j := 401) rfl rfl (by decide)) (lw_S q1402 q1403 q139 q1404) hd_X2_copy dX2_image_8 rfl ⟨Nat.le_of_ble_eq_true rfl, Nat.le_of_ble_eq_true rfl⟩ ⟨Nat.le_of_ble_eq_true rfl, Nat.le_of_ble_eq_true rfl⟩ (Nat.le_of_ble_eq_true rfl) ?_
  rintro _ S1 ⟨rfl, hS1⟩
  obtain rfl := hS1.symm
  refine g_aload_n X dX2_image_11 rfl ?_
  refine g_get (C := RX2) (T := TX2) (N := 35) X 0 in_X2 dX2_image_12 q1405 (rd3 ho) rfl (Nat.le_of_ble_eq_true rfl) (fun _ h9 => h9) rfl ?_
  refine g_iconst (v := 5) X dX2_image_15 rfl ?_
  refine g_iald (j := 5) X dX2_image_16 (rdi ho (400) (rfl)) rfl (by decide) (by decide) ?_
  exact g_iret X hr dX2_image_17 (Nat.le_of_ble_eq_true rfl) (Nat.le_of_ble_eq_true rfl) (⟨rfl, rfl⟩)
set_option maxHeartbeats 600000 in
theorem k_X2_back {l : Launch} {E : gk_E} (ho : E.2.2.2.2 = true) {S : gk_S}    : gk_T l E yX2_back cX2_back 1 ((some .int)) 1 22 0 0 [.ref (E.2.2.1 3)] S (fun r S' => r = some (.int ((gk_si S 400 (cuU (S.1 401) (S.1 400) 1366)).1 400 5)) ∧ S' = gk_si S 400 (cuU (S.1 401) (S.1 400) 1366)) := by
  refine gk_T.of [some (.ref (E.2.2.1 3))] (by decide) (Nat.le_of_ble_eq_true rfl) (fun _ _ h => h) ?_
  intro p_ e_ R_ s_ m_ args_ below_ meth_ c_ hR X hr hin
  subst hR
  refine g_aload_n X dX2_back_0 rfl ?_
  refine g_get (C := RX2) (T := TX2) (N := 35) X 1 in_X2 dX2_back_1 q1406 (rd3 ho) rfl (Nat.le_of_ble_eq_true rfl) (fun _ h9 => h9) rfl ?_
  refine g_aload_n X dX2_back_4 rfl ?_
  refine g_get (C := RX2) (T := TX2) (N := 35) X 0 in_X2 dX2_back_5 q1405 (rd3 ho) rfl (Nat.le_of_ble_eq_true rfl) (fun _ h9 => h9) rfl ?_
  refine g_callS X (k_X2_copy ho (i := 401) (j := 400) rfl rfl (by decide)) (lw_S q1402 q1403 q139 q1404) hd_X2_copy dX2_back_8 rfl ⟨Nat.le_of_ble_eq_true rfl, Nat.le_of_ble_eq_true rfl⟩ ⟨Nat.le_of_ble_eq_true rfl, Nat.le_of_ble_eq_true rfl⟩ (Nat.le_of_ble_eq_true rfl) ?_
  rintro _ S1 ⟨rfl, hS1⟩
  obtain rfl := hS1.symm
  refine g_aload_n X dX2_back_11 rfl ?_
  refine g_get (C := RX2) (T := TX2) (N := 35) X 0 in_X2 dX2_back_12 q1405 (rd3 ho) rfl (Nat.le_of_ble_eq_true rfl) (fun _ h9 => h9) rfl ?_
  refine g_iconst (v := 5) X dX2_back_15 rfl ?_
  refine g_iald (j := 5) X dX2_back_16 (rdi ho (400) (rfl)) rfl (by decide) (by decide) ?_
  exact g_iret X hr dX2_back_17 (Nat.le_of_ble_eq_true rfl) (Nat.le_of_ble_eq_true rfl) (⟨rfl, rfl⟩)
/-- the model's steps with one more, of ns steps -/
def kpM (a : Nat → Int32) (ns : Nat) : Nat → Int32 :=
  let b := if ns = 30 then upd (bcU a 86 128 1218) 3 (nI 29) else a
  let m := if ns = 30 then 29 else ns
  upd (bcU (bcU b (86 + 42 * m) 5 22) (86 + 42 * m + 22) 1346 20) 3 (nI (m + 1))
theorem kpM_lt {a : Nat → Int32} {ns : Nat} (h : ns ≠ 30) : kpM a ns = upd (bcU (bcU a (86 + 42 * ns) 5 22) (86 + 42 * ns + 22) 1346 20) 3 (nI (ns + 1)) := by
  unfold kpM
  rw [if_neg h, if_neg h]
theorem kpM_30 {a : Nat → Int32} : kpM a 30 = upd (bcU (bcU (upd (bcU a 86 128 1218) 3 (nI 29)) (86 + 42 * 29) 5 22) (86 + 42 * 29 + 22) 1346 20) 3 (nI (29 + 1)) := rfl
set_option maxHeartbeats 600000 in
theorem k_X2_keep {l : Launch} {E : gk_E} (ho : E.2.2.2.2 = true) {S : gk_S}  {ns : Nat} (h0 : S.1 400 3 = nI ns) (h1 : ns ≤ 30) : gk_T l E yX2_keep cX2_keep 3 (none) 0 0 0 0 [.ref (E.2.2.1 3)] S (fun r S' => r = none ∧ S' = gk_si S 400 (kpM (S.1 400) ns)) := by
  refine gk_T.of [some (.ref (E.2.2.1 3)), none, none] (by decide) (Nat.le_of_ble_eq_true rfl) (le_1 rfl (le_p (le_p le_n))) ?_
  intro p_ e_ R_ s_ m_ args_ below_ meth_ c_ hR X hr hin
  subst hR
  refine g_aload_n X dX2_keep_0 rfl ?_
  refine g_get (C := RX2) (T := TX2) (N := 35) X 0 in_X2 dX2_keep_1 q1405 (rd3 ho) rfl (Nat.le_of_ble_eq_true rfl) (fun _ h9 => h9) rfl ?_
  refine g_iconst (v := 3) X dX2_keep_4 rfl ?_
  refine g_iald (j := 3) X dX2_keep_5 (rdi ho (400) (rfl)) rfl (by decide) (by decide) ?_
  refine g_bipush (v := 30) X dX2_keep_6 rfl ?_
  refine g_icmp_ne (tgt := 55) X dX2_keep_8 rfl (fun c8 => ?_) (fun c8 => ?_)
  · have hns : ns ≠ 30 := fun z => c8 (by rw [h0, z]; rfl)
    obtain ⟨M, hM⟩ : ∃ M, M = ns := ⟨_, rfl⟩
    obtain ⟨B, hB⟩ : ∃ B : Nat → Int32, B = S.1 400 := ⟨_, rfl⟩
    refine g_eq (S2 := gk_si S 400 B) (by rw [hB, si_id]) ?_
    have hM29 : M ≤ 29 := by omega
    have hB3 : B 3 = nI M := by rw [hB, hM, h0]
    refine g_bipush (v := 86) X dX2_keep_55 rfl ?_
    refine g_bipush (v := 42) X dX2_keep_57 rfl ?_
    refine g_aload_n X dX2_keep_59 rfl ?_
    refine g_get (C := RX2) (T := TX2) (N := 35) X 0 in_X2 dX2_keep_60 q1405 (rd3 ho) rfl (Nat.le_of_ble_eq_true rfl) (fun _ h9 => h9) rfl ?_
    refine g_iconst (v := 3) X dX2_keep_63 rfl ?_
    refine g_iald (j := 3) X dX2_keep_64 (rdi ho (400) (rfl)) rfl (by decide) (by decide) ?_
    refine g_imul X dX2_keep_65 ?_
    refine g_iadd X dX2_keep_66 ?_
    refine g_top (y := nI (86 + 42 * M)) (by rw [si_s, hB3]; show nI 86 + nI 42 * nI M = _; rw [pk_mul, nI_add]) ?_
    refine g_istore_n X dX2_keep_67 (Nat.le_of_ble_eq_true rfl) ?_
    refine g_iconst (v := 0) X dX2_keep_68 rfl ?_
    refine g_istore_n X dX2_keep_69 (Nat.le_of_ble_eq_true rfl) ?_
    refine g_loop (σ := Nat) (fun (k : Nat) => gk_si S 400 (bcU B (86 + 42 * M) 5 k)) (fun (k : Nat) => ([some (.ref (E.2.2.1 3)), some (.int (nI (86 + 42 * M))), some (.int (nI k))] : List (Option Value))) (fun (k : Nat) => k ≤ 22) (fun (k : Nat) => 22 - k) (0) ?_ (by rw [bcU_0]) (le_1 rfl (le_1 rfl (le_1 rfl le_n))) ?_
    · omega
    intro k hI ih
    try dsimp only at hI ih ⊢
    refine g_iload_n X dX2_keep_70 rfl ?_
    refine g_bipush (v := 22) X dX2_keep_71 rfl ?_
    refine g_icmp_ge (tgt := 98) X dX2_keep_73 rfl (fun c73 => ?_) (fun c73 => ?_)
    · have hk := out_of (by omega) hI c73
      subst hk
      refine g_iconst (v := 0) X dX2_keep_98 rfl ?_
      refine g_istore_n X dX2_keep_99 (Nat.le_of_ble_eq_true rfl) ?_
      refine g_loop (σ := Nat) (fun (k : Nat) => gk_si S 400 (bcU (bcU B (86 + 42 * M) 5 22) (86 + 42 * M + 22) 1346 k)) (fun (k : Nat) => ([some (.ref (E.2.2.1 3)), some (.int (nI (86 + 42 * M))), some (.int (nI k))] : List (Option Value))) (fun (k : Nat) => k ≤ 20) (fun (k : Nat) => 20 - k) (0) ?_ (by rw [bcU_0]) (le_1 rfl (le_1 rfl (le_1 rfl le_n))) ?_
      · omega
      intro k hI ih
      try dsimp only at hI ih ⊢
      refine g_iload_n X dX2_keep_100 rfl ?_
      refine g_bipush (v := 20) X dX2_keep_101 rfl ?_
      refine g_icmp_ge (tgt := 133) X dX2_keep_103 rfl (fun c103 => ?_) (fun c103 => ?_)
      · have hk := out_of (by omega) hI c103
        subst hk
        refine g_aload_n X dX2_keep_133 rfl ?_
        refine g_get (C := RX2) (T := TX2) (N := 35) X 0 in_X2 dX2_keep_134 q1405 (rd3 ho) rfl (Nat.le_of_ble_eq_true rfl) (fun _ h9 => h9) rfl ?_
        refine g_iconst (v := 3) X dX2_keep_137 rfl ?_
        refine g_dup2_11 X dX2_keep_138 rfl rfl ?_
        refine g_iald (j := 3) X dX2_keep_139 (rdi ho (400) (rfl)) rfl (by decide) (by decide) ?_
        refine g_iconst (v := 1) X dX2_keep_140 rfl ?_
        refine g_iadd X dX2_keep_141 ?_
        refine g_iast X ho (400) (j := 3) dX2_keep_142 rfl (rfl) rfl (by decide) (by decide) ?_
        exact g_vret X hr dX2_keep_143 (Nat.le_of_ble_eq_true rfl) (Nat.le_of_ble_eq_true rfl) (⟨rfl, by rw [si_si, si_s, kpM_lt hns, bcU_o (by omega), bcU_o (by omega), hB3, nI_1, hB, hM]⟩)
      · have hk : k < 20 := in_of (by omega) hI c103
        refine g_aload_n X dX2_keep_106 rfl ?_
        refine g_get (C := RX2) (T := TX2) (N := 35) X 0 in_X2 dX2_keep_107 q1405 (rd3 ho) rfl (Nat.le_of_ble_eq_true rfl) (fun _ h9 => h9) rfl ?_
        refine g_iload_n X dX2_keep_110 rfl ?_
        refine g_bipush (v := 22) X dX2_keep_111 rfl ?_
        refine g_iadd X dX2_keep_113 ?_
        refine g_iload_n X dX2_keep_114 rfl ?_
        refine g_iadd X dX2_keep_115 ?_
        refine g_aload_n X dX2_keep_116 rfl ?_
        refine g_get (C := RX2) (T := TX2) (N := 35) X 0 in_X2 dX2_keep_117 q1405 (rd3 ho) rfl (Nat.le_of_ble_eq_true rfl) (fun _ h9 => h9) rfl ?_
        refine g_sipush (v := 1346) X dX2_keep_120 rfl ?_
        refine g_iload_n X dX2_keep_123 rfl ?_
        refine g_iadd X dX2_keep_124 ?_
        refine g_iald (j := 1346 + k) X dX2_keep_125 (rdi ho (400) (rfl)) (nI_add 1346 k) (by omega) (by decide) ?_
        refine g_iast X ho (400) (j := 86 + 42 * M + 22 + k) dX2_keep_126 rfl (rfl) (by show nI (86 + 42 * M) + nI 22 + nI k = _; rw [nI_add, nI_add]) (by omega) (by decide) ?_
        refine g_eq (S2 := gk_si S 400 (bcU (bcU B (86 + 42 * M) 5 22) (86 + 42 * M + 22) 1346 (k + 1))) (by rw [si_si, si_s, bcU_o (by omega), bcU_s]) ?_
        refine g_iinc (v := 1) X dX2_keep_127 rfl rfl (Nat.le_of_ble_eq_true rfl) ?_
        refine g_goto (tgt := 100) X dX2_keep_130 rfl ?_
        refine g_sub (le_1 rfl (le_1 rfl (le_1 e_1 le_n))) (ih (k + 1) ?_ ?_)
        · try dsimp only
          omega
        · try dsimp only
          omega
    · have hk : k < 22 := in_of (by omega) hI c73
      refine g_aload_n X dX2_keep_76 rfl ?_
      refine g_get (C := RX2) (T := TX2) (N := 35) X 0 in_X2 dX2_keep_77 q1405 (rd3 ho) rfl (Nat.le_of_ble_eq_true rfl) (fun _ h9 => h9) rfl ?_
      refine g_iload_n X dX2_keep_80 rfl ?_
      refine g_iload_n X dX2_keep_81 rfl ?_
      refine g_iadd X dX2_keep_82 ?_
      refine g_aload_n X dX2_keep_83 rfl ?_
      refine g_get (C := RX2) (T := TX2) (N := 35) X 0 in_X2 dX2_keep_84 q1405 (rd3 ho) rfl (Nat.le_of_ble_eq_true rfl) (fun _ h9 => h9) rfl ?_
      refine g_iconst (v := 5) X dX2_keep_87 rfl ?_
      refine g_iload_n X dX2_keep_88 rfl ?_
      refine g_iadd X dX2_keep_89 ?_
      refine g_iald (j := 5 + k) X dX2_keep_90 (rdi ho (400) (rfl)) (nI_add 5 k) (by omega) (by decide) ?_
      refine g_iast X ho (400) (j := 86 + 42 * M + k) dX2_keep_91 rfl (rfl) (nI_add _ _) (by omega) (by decide) ?_
      refine g_eq (S2 := gk_si S 400 (bcU B (86 + 42 * M) 5 (k + 1))) (by rw [si_si, si_s, bcU_o (by omega), bcU_s]) ?_
      refine g_iinc (v := 1) X dX2_keep_92 rfl rfl (Nat.le_of_ble_eq_true rfl) ?_
      refine g_goto (tgt := 70) X dX2_keep_95 rfl ?_
      refine g_sub (le_1 rfl (le_1 rfl (le_1 e_1 le_n))) (ih (k + 1) ?_ ?_)
      · try dsimp only
        omega
      · try dsimp only
        omega
  · have h30 : ns = 30 := (nI_eq (by omega) (by decide)).mp (h0.symm.trans c8)
    subst h30
    refine g_iconst (v := 0) X dX2_keep_11 rfl ?_
    refine g_istore_n X dX2_keep_12 (Nat.le_of_ble_eq_true rfl) ?_
    refine g_loop (σ := Nat) (fun (k : Nat) => gk_si S 400 (bcU (S.1 400) 86 128 k)) (fun (k : Nat) => ([some (.ref (E.2.2.1 3)), some (.int (nI k)), none] : List (Option Value))) (fun (k : Nat) => k ≤ 1218) (fun (k : Nat) => 1218 - k) (0) ?_ (by rw [bcU_0, si_id]) (le_1 rfl (le_1 rfl (le_0 le_n))) ?_
    · omega
    intro k hI ih
    try dsimp only at hI ih ⊢
    refine g_iload_n X dX2_keep_13 rfl ?_
    refine g_sipush (v := 1218) X dX2_keep_14 rfl ?_
    refine g_icmp_ge (tgt := 45) X dX2_keep_17 rfl (fun c17 => ?_) (fun c17 => ?_)
    · have hk := out_of (by omega) hI c17
      subst hk
      refine g_aload_n X dX2_keep_45 rfl ?_
      refine g_get (C := RX2) (T := TX2) (N := 35) X 0 in_X2 dX2_keep_46 q1405 (rd3 ho) rfl (Nat.le_of_ble_eq_true rfl) (fun _ h9 => h9) rfl ?_
      refine g_iconst (v := 3) X dX2_keep_49 rfl ?_
      refine g_dup2_11 X dX2_keep_50 rfl rfl ?_
      refine g_iald (j := 3) X dX2_keep_51 (rdi ho (400) (rfl)) rfl (by decide) (by decide) ?_
      refine g_iconst (v := 1) X dX2_keep_52 rfl ?_
      refine g_isub X dX2_keep_53 ?_
      refine g_iast X ho (400) (j := 3) dX2_keep_54 rfl (rfl) rfl (by decide) (by decide) ?_
      obtain ⟨M, hM⟩ : ∃ M, M = 29 := ⟨_, rfl⟩
      obtain ⟨B, hB⟩ : ∃ B : Nat → Int32, B = upd (bcU (S.1 400) 86 128 1218) 3 (nI 29) := ⟨_, rfl⟩
      refine g_eq (S2 := gk_si S 400 B) (by rw [hB, si_si, si_s, bcU_o (by omega), h0]; rfl) ?_
      have hM29 : M ≤ 29 := by omega
      have hB3 : B 3 = nI M := by rw [hB, upd_s, hM]
      refine g_bipush (v := 86) X dX2_keep_55 rfl ?_
      refine g_bipush (v := 42) X dX2_keep_57 rfl ?_
      refine g_aload_n X dX2_keep_59 rfl ?_
      refine g_get (C := RX2) (T := TX2) (N := 35) X 0 in_X2 dX2_keep_60 q1405 (rd3 ho) rfl (Nat.le_of_ble_eq_true rfl) (fun _ h9 => h9) rfl ?_
      refine g_iconst (v := 3) X dX2_keep_63 rfl ?_
      refine g_iald (j := 3) X dX2_keep_64 (rdi ho (400) (rfl)) rfl (by decide) (by decide) ?_
      refine g_imul X dX2_keep_65 ?_
      refine g_iadd X dX2_keep_66 ?_
      refine g_top (y := nI (86 + 42 * M)) (by rw [si_s, hB3]; show nI 86 + nI 42 * nI M = _; rw [pk_mul, nI_add]) ?_
      refine g_istore_n X dX2_keep_67 (Nat.le_of_ble_eq_true rfl) ?_
      refine g_iconst (v := 0) X dX2_keep_68 rfl ?_
      refine g_istore_n X dX2_keep_69 (Nat.le_of_ble_eq_true rfl) ?_
      refine g_loop (σ := Nat) (fun (k : Nat) => gk_si S 400 (bcU B (86 + 42 * M) 5 k)) (fun (k : Nat) => ([some (.ref (E.2.2.1 3)), some (.int (nI (86 + 42 * M))), some (.int (nI k))] : List (Option Value))) (fun (k : Nat) => k ≤ 22) (fun (k : Nat) => 22 - k) (0) ?_ (by rw [bcU_0]) (le_1 rfl (le_1 rfl (le_1 rfl le_n))) ?_
      · omega
      intro k hI ih
      try dsimp only at hI ih ⊢
      refine g_iload_n X dX2_keep_70 rfl ?_
      refine g_bipush (v := 22) X dX2_keep_71 rfl ?_
      refine g_icmp_ge (tgt := 98) X dX2_keep_73 rfl (fun c73 => ?_) (fun c73 => ?_)
      · have hk := out_of (by omega) hI c73
        subst hk
        refine g_iconst (v := 0) X dX2_keep_98 rfl ?_
        refine g_istore_n X dX2_keep_99 (Nat.le_of_ble_eq_true rfl) ?_
        refine g_loop (σ := Nat) (fun (k : Nat) => gk_si S 400 (bcU (bcU B (86 + 42 * M) 5 22) (86 + 42 * M + 22) 1346 k)) (fun (k : Nat) => ([some (.ref (E.2.2.1 3)), some (.int (nI (86 + 42 * M))), some (.int (nI k))] : List (Option Value))) (fun (k : Nat) => k ≤ 20) (fun (k : Nat) => 20 - k) (0) ?_ (by rw [bcU_0]) (le_1 rfl (le_1 rfl (le_1 rfl le_n))) ?_
        · omega
        intro k hI ih
        try dsimp only at hI ih ⊢
        refine g_iload_n X dX2_keep_100 rfl ?_
        refine g_bipush (v := 20) X dX2_keep_101 rfl ?_
        refine g_icmp_ge (tgt := 133) X dX2_keep_103 rfl (fun c103 => ?_) (fun c103 => ?_)
        · have hk := out_of (by omega) hI c103
          subst hk
          refine g_aload_n X dX2_keep_133 rfl ?_
          refine g_get (C := RX2) (T := TX2) (N := 35) X 0 in_X2 dX2_keep_134 q1405 (rd3 ho) rfl (Nat.le_of_ble_eq_true rfl) (fun _ h9 => h9) rfl ?_
          refine g_iconst (v := 3) X dX2_keep_137 rfl ?_
          refine g_dup2_11 X dX2_keep_138 rfl rfl ?_
          refine g_iald (j := 3) X dX2_keep_139 (rdi ho (400) (rfl)) rfl (by decide) (by decide) ?_
          refine g_iconst (v := 1) X dX2_keep_140 rfl ?_
          refine g_iadd X dX2_keep_141 ?_
          refine g_iast X ho (400) (j := 3) dX2_keep_142 rfl (rfl) rfl (by decide) (by decide) ?_
          exact g_vret X hr dX2_keep_143 (Nat.le_of_ble_eq_true rfl) (Nat.le_of_ble_eq_true rfl) (⟨rfl, by rw [si_si, si_s, kpM_30, bcU_o (by omega), bcU_o (by omega), hB3, nI_1, hB, hM]⟩)
        · have hk : k < 20 := in_of (by omega) hI c103
          refine g_aload_n X dX2_keep_106 rfl ?_
          refine g_get (C := RX2) (T := TX2) (N := 35) X 0 in_X2 dX2_keep_107 q1405 (rd3 ho) rfl (Nat.le_of_ble_eq_true rfl) (fun _ h9 => h9) rfl ?_
          refine g_iload_n X dX2_keep_110 rfl ?_
          refine g_bipush (v := 22) X dX2_keep_111 rfl ?_
          refine g_iadd X dX2_keep_113 ?_
          refine g_iload_n X dX2_keep_114 rfl ?_
          refine g_iadd X dX2_keep_115 ?_
          refine g_aload_n X dX2_keep_116 rfl ?_
          refine g_get (C := RX2) (T := TX2) (N := 35) X 0 in_X2 dX2_keep_117 q1405 (rd3 ho) rfl (Nat.le_of_ble_eq_true rfl) (fun _ h9 => h9) rfl ?_
          refine g_sipush (v := 1346) X dX2_keep_120 rfl ?_
          refine g_iload_n X dX2_keep_123 rfl ?_
          refine g_iadd X dX2_keep_124 ?_
          refine g_iald (j := 1346 + k) X dX2_keep_125 (rdi ho (400) (rfl)) (nI_add 1346 k) (by omega) (by decide) ?_
          refine g_iast X ho (400) (j := 86 + 42 * M + 22 + k) dX2_keep_126 rfl (rfl) (by show nI (86 + 42 * M) + nI 22 + nI k = _; rw [nI_add, nI_add]) (by omega) (by decide) ?_
          refine g_eq (S2 := gk_si S 400 (bcU (bcU B (86 + 42 * M) 5 22) (86 + 42 * M + 22) 1346 (k + 1))) (by rw [si_si, si_s, bcU_o (by omega), bcU_s]) ?_
          refine g_iinc (v := 1) X dX2_keep_127 rfl rfl (Nat.le_of_ble_eq_true rfl) ?_
          refine g_goto (tgt := 100) X dX2_keep_130 rfl ?_
          refine g_sub (le_1 rfl (le_1 rfl (le_1 e_1 le_n))) (ih (k + 1) ?_ ?_)
          · try dsimp only
            omega
          · try dsimp only
            omega
      · have hk : k < 22 := in_of (by omega) hI c73
        refine g_aload_n X dX2_keep_76 rfl ?_
        refine g_get (C := RX2) (T := TX2) (N := 35) X 0 in_X2 dX2_keep_77 q1405 (rd3 ho) rfl (Nat.le_of_ble_eq_true rfl) (fun _ h9 => h9) rfl ?_
        refine g_iload_n X dX2_keep_80 rfl ?_
        refine g_iload_n X dX2_keep_81 rfl ?_
        refine g_iadd X dX2_keep_82 ?_
        refine g_aload_n X dX2_keep_83 rfl ?_
        refine g_get (C := RX2) (T := TX2) (N := 35) X 0 in_X2 dX2_keep_84 q1405 (rd3 ho) rfl (Nat.le_of_ble_eq_true rfl) (fun _ h9 => h9) rfl ?_
        refine g_iconst (v := 5) X dX2_keep_87 rfl ?_
        refine g_iload_n X dX2_keep_88 rfl ?_
        refine g_iadd X dX2_keep_89 ?_
        refine g_iald (j := 5 + k) X dX2_keep_90 (rdi ho (400) (rfl)) (nI_add 5 k) (by omega) (by decide) ?_
        refine g_iast X ho (400) (j := 86 + 42 * M + k) dX2_keep_91 rfl (rfl) (nI_add _ _) (by omega) (by decide) ?_
        refine g_eq (S2 := gk_si S 400 (bcU B (86 + 42 * M) 5 (k + 1))) (by rw [si_si, si_s, bcU_o (by omega), bcU_s]) ?_
        refine g_iinc (v := 1) X dX2_keep_92 rfl rfl (Nat.le_of_ble_eq_true rfl) ?_
        refine g_goto (tgt := 70) X dX2_keep_95 rfl ?_
        refine g_sub (le_1 rfl (le_1 rfl (le_1 e_1 le_n))) (ih (k + 1) ?_ ?_)
        · try dsimp only
          omega
        · try dsimp only
          omega
    · have hk : k < 1218 := in_of (by omega) hI c17
      refine g_aload_n X dX2_keep_20 rfl ?_
      refine g_get (C := RX2) (T := TX2) (N := 35) X 0 in_X2 dX2_keep_21 q1405 (rd3 ho) rfl (Nat.le_of_ble_eq_true rfl) (fun _ h9 => h9) rfl ?_
      refine g_bipush (v := 86) X dX2_keep_24 rfl ?_
      refine g_iload_n X dX2_keep_26 rfl ?_
      refine g_iadd X dX2_keep_27 ?_
      refine g_aload_n X dX2_keep_28 rfl ?_
      refine g_get (C := RX2) (T := TX2) (N := 35) X 0 in_X2 dX2_keep_29 q1405 (rd3 ho) rfl (Nat.le_of_ble_eq_true rfl) (fun _ h9 => h9) rfl ?_
      refine g_sipush (v := 128) X dX2_keep_32 rfl ?_
      refine g_iload_n X dX2_keep_35 rfl ?_
      refine g_iadd X dX2_keep_36 ?_
      refine g_iald (j := 128 + k) X dX2_keep_37 (rdi ho (400) (rfl)) (nI_add 128 k) (by omega) (by decide) ?_
      refine g_iast X ho (400) (j := 86 + k) dX2_keep_38 rfl (rfl) (nI_add 86 k) (by omega) (by decide) ?_
      refine g_eq (S2 := gk_si S 400 (bcU (S.1 400) 86 128 (k + 1))) (by rw [si_si, si_s, bcU_o (by omega), bcU_s]) ?_
      refine g_iinc (v := 1) X dX2_keep_39 rfl rfl (Nat.le_of_ble_eq_true rfl) ?_
      refine g_goto (tgt := 13) X dX2_keep_42 rfl ?_
      refine g_sub (le_1 rfl (le_1 e_1 (le_0 le_n))) (ih (k + 1) ?_ ?_)
      · try dsimp only
        omega
      · try dsimp only
        omega
/-- a step back, the model's: there are ns + 1 -/
def unM (a : Nat → Int32) (ns : Nat) : Nat → Int32 := bcU (bcU (upd a 3 (nI ns)) 5 (86 + 42 * ns) 22) 1346 (86 + 42 * ns + 22) 20
set_option maxHeartbeats 600000 in
theorem k_X2_undo {l : Launch} {E : gk_E} (ho : E.2.2.2.2 = true) {S : gk_S}  {ns : Nat} (h0 : S.1 400 3 = nI ns) (h1 : ns ≤ 30) : gk_T l E yX2_undo cX2_undo 3 ((some .int)) 0 0 0 0 [.ref (E.2.2.1 3)] S (fun r S' => r = some (.int (if ns = 0 then -1 else nI (ns - 1))) ∧ S' = if ns = 0 then S else gk_si S 400 (unM (S.1 400) (ns - 1))) := by
  refine gk_T.of [some (.ref (E.2.2.1 3)), none, none] (by decide) (Nat.le_of_ble_eq_true rfl) (le_1 rfl (le_p (le_p le_n))) ?_
  intro p_ e_ R_ s_ m_ args_ below_ meth_ c_ hR X hr hin
  subst hR
  refine g_aload_n X dX2_undo_0 rfl ?_
  refine g_get (C := RX2) (T := TX2) (N := 35) X 0 in_X2 dX2_undo_1 q1405 (rd3 ho) rfl (Nat.le_of_ble_eq_true rfl) (fun _ h9 => h9) rfl ?_
  refine g_iconst (v := 3) X dX2_undo_4 rfl ?_
  refine g_iald (j := 3) X dX2_undo_5 (rdi ho (400) (rfl)) rfl (by decide) (by decide) ?_
  refine g_if_ne (tgt := 11) X dX2_undo_6 rfl (fun c6 => ?_) (fun c6 => ?_)
  · have hns : ns ≠ 0 := fun z => c6 (by rw [h0, z]; rfl)
    obtain ⟨m, rfl⟩ : ∃ m, ns = m + 1 := ⟨ns - 1, by omega⟩
    refine g_aload_n X dX2_undo_11 rfl ?_
    refine g_get (C := RX2) (T := TX2) (N := 35) X 0 in_X2 dX2_undo_12 q1405 (rd3 ho) rfl (Nat.le_of_ble_eq_true rfl) (fun _ h9 => h9) rfl ?_
    refine g_iconst (v := 3) X dX2_undo_15 rfl ?_
    refine g_dup2_11 X dX2_undo_16 rfl rfl ?_
    refine g_iald (j := 3) X dX2_undo_17 (rdi ho (400) (rfl)) rfl (by decide) (by decide) ?_
    refine g_iconst (v := 1) X dX2_undo_18 rfl ?_
    refine g_isub X dX2_undo_19 ?_
    refine g_iast X ho (400) (j := 3) dX2_undo_20 rfl (rfl) rfl (by decide) (by decide) ?_
    obtain ⟨B, hB⟩ : ∃ B : Nat → Int32, B = upd (S.1 400) 3 (nI m) := ⟨_, rfl⟩
    refine g_eq (S2 := gk_si S 400 B) (by rw [hB, h0]; congr 2; exact nI_pred m) ?_
    have hB3 : B 3 = nI m := by rw [hB, upd_s]
    refine g_bipush (v := 86) X dX2_undo_21 rfl ?_
    refine g_bipush (v := 42) X dX2_undo_23 rfl ?_
    refine g_aload_n X dX2_undo_25 rfl ?_
    refine g_get (C := RX2) (T := TX2) (N := 35) X 0 in_X2 dX2_undo_26 q1405 (rd3 ho) rfl (Nat.le_of_ble_eq_true rfl) (fun _ h9 => h9) rfl ?_
    refine g_iconst (v := 3) X dX2_undo_29 rfl ?_
    refine g_iald (j := 3) X dX2_undo_30 (rdi ho (400) (rfl)) rfl (by decide) (by decide) ?_
    refine g_imul X dX2_undo_31 ?_
    refine g_iadd X dX2_undo_32 ?_
    refine g_top (y := nI (86 + 42 * m)) (by rw [si_s, hB3]; show nI 86 + nI 42 * nI m = _; rw [pk_mul, nI_add]) ?_
    refine g_istore_n X dX2_undo_33 (Nat.le_of_ble_eq_true rfl) ?_
    refine g_iconst (v := 0) X dX2_undo_34 rfl ?_
    refine g_istore_n X dX2_undo_35 (Nat.le_of_ble_eq_true rfl) ?_
    refine g_loop (σ := Nat) (fun (k : Nat) => gk_si S 400 (bcU B 5 (86 + 42 * m) k)) (fun (k : Nat) => ([some (.ref (E.2.2.1 3)), some (.int (nI (86 + 42 * m))), some (.int (nI k))] : List (Option Value))) (fun (k : Nat) => k ≤ 22) (fun (k : Nat) => 22 - k) (0) ?_ (by rw [bcU_0]) (le_1 rfl (le_1 rfl (le_1 rfl le_n))) ?_
    · omega
    intro k hI ih
    try dsimp only at hI ih ⊢
    refine g_iload_n X dX2_undo_36 rfl ?_
    refine g_bipush (v := 22) X dX2_undo_37 rfl ?_
    refine g_icmp_ge (tgt := 64) X dX2_undo_39 rfl (fun c39 => ?_) (fun c39 => ?_)
    · have hk := out_of (by omega) hI c39
      subst hk
      refine g_iconst (v := 0) X dX2_undo_64 rfl ?_
      refine g_istore_n X dX2_undo_65 (Nat.le_of_ble_eq_true rfl) ?_
      refine g_loop (σ := Nat) (fun (k : Nat) => gk_si S 400 (bcU (bcU B 5 (86 + 42 * m) 22) 1346 (86 + 42 * m + 22) k)) (fun (k : Nat) => ([some (.ref (E.2.2.1 3)), some (.int (nI (86 + 42 * m))), some (.int (nI k))] : List (Option Value))) (fun (k : Nat) => k ≤ 20) (fun (k : Nat) => 20 - k) (0) ?_ (by rw [bcU_0]) (le_1 rfl (le_1 rfl (le_1 rfl le_n))) ?_
      · omega
      intro k hI ih
      try dsimp only at hI ih ⊢
      refine g_iload_n X dX2_undo_66 rfl ?_
      refine g_bipush (v := 20) X dX2_undo_67 rfl ?_
      refine g_icmp_ge (tgt := 99) X dX2_undo_69 rfl (fun c69 => ?_) (fun c69 => ?_)
      · have hk := out_of (by omega) hI c69
        subst hk
        refine g_aload_n X dX2_undo_99 rfl ?_
        refine g_get (C := RX2) (T := TX2) (N := 35) X 0 in_X2 dX2_undo_100 q1405 (rd3 ho) rfl (Nat.le_of_ble_eq_true rfl) (fun _ h9 => h9) rfl ?_
        refine g_iconst (v := 3) X dX2_undo_103 rfl ?_
        refine g_iald (j := 3) X dX2_undo_104 (rdi ho (400) (rfl)) rfl (by decide) (by decide) ?_
        exact g_iret X hr dX2_undo_105 (Nat.le_of_ble_eq_true rfl) (Nat.le_of_ble_eq_true rfl) (lf_f (by omega) (by rw [si_s, bcU_o (by omega), bcU_o (by omega), hB3]; rfl) (by rw [hB]; rfl))
      · have hk : k < 20 := in_of (by omega) hI c69
        refine g_aload_n X dX2_undo_72 rfl ?_
        refine g_get (C := RX2) (T := TX2) (N := 35) X 0 in_X2 dX2_undo_73 q1405 (rd3 ho) rfl (Nat.le_of_ble_eq_true rfl) (fun _ h9 => h9) rfl ?_
        refine g_sipush (v := 1346) X dX2_undo_76 rfl ?_
        refine g_iload_n X dX2_undo_79 rfl ?_
        refine g_iadd X dX2_undo_80 ?_
        refine g_aload_n X dX2_undo_81 rfl ?_
        refine g_get (C := RX2) (T := TX2) (N := 35) X 0 in_X2 dX2_undo_82 q1405 (rd3 ho) rfl (Nat.le_of_ble_eq_true rfl) (fun _ h9 => h9) rfl ?_
        refine g_iload_n X dX2_undo_85 rfl ?_
        refine g_bipush (v := 22) X dX2_undo_86 rfl ?_
        refine g_iadd X dX2_undo_88 ?_
        refine g_iload_n X dX2_undo_89 rfl ?_
        refine g_iadd X dX2_undo_90 ?_
        refine g_iald (j := 86 + 42 * m + 22 + k) X dX2_undo_91 (rdi ho (400) (rfl)) (by show nI (86 + 42 * m) + nI 22 + nI k = _; rw [nI_add, nI_add]) (by omega) (by decide) ?_
        refine g_iast X ho (400) (j := 1346 + k) dX2_undo_92 rfl (rfl) (nI_add 1346 k) (by omega) (by decide) ?_
        refine g_eq (S2 := gk_si S 400 (bcU (bcU B 5 (86 + 42 * m) 22) 1346 (86 + 42 * m + 22) (k + 1))) (by rw [si_si, si_s, bcU_o (by omega), bcU_s]) ?_
        refine g_iinc (v := 1) X dX2_undo_93 rfl rfl (Nat.le_of_ble_eq_true rfl) ?_
        refine g_goto (tgt := 66) X dX2_undo_96 rfl ?_
        refine g_sub (le_1 rfl (le_1 rfl (le_1 e_1 le_n))) (ih (k + 1) ?_ ?_)
        · try dsimp only
          omega
        · try dsimp only
          omega
    · have hk : k < 22 := in_of (by omega) hI c39
      refine g_aload_n X dX2_undo_42 rfl ?_
      refine g_get (C := RX2) (T := TX2) (N := 35) X 0 in_X2 dX2_undo_43 q1405 (rd3 ho) rfl (Nat.le_of_ble_eq_true rfl) (fun _ h9 => h9) rfl ?_
      refine g_iconst (v := 5) X dX2_undo_46 rfl ?_
      refine g_iload_n X dX2_undo_47 rfl ?_
      refine g_iadd X dX2_undo_48 ?_
      refine g_aload_n X dX2_undo_49 rfl ?_
      refine g_get (C := RX2) (T := TX2) (N := 35) X 0 in_X2 dX2_undo_50 q1405 (rd3 ho) rfl (Nat.le_of_ble_eq_true rfl) (fun _ h9 => h9) rfl ?_
      refine g_iload_n X dX2_undo_53 rfl ?_
      refine g_iload_n X dX2_undo_54 rfl ?_
      refine g_iadd X dX2_undo_55 ?_
      refine g_iald (j := 86 + 42 * m + k) X dX2_undo_56 (rdi ho (400) (rfl)) (nI_add _ _) (by omega) (by decide) ?_
      refine g_iast X ho (400) (j := 5 + k) dX2_undo_57 rfl (rfl) (nI_add 5 k) (by omega) (by decide) ?_
      refine g_eq (S2 := gk_si S 400 (bcU B 5 (86 + 42 * m) (k + 1))) (by rw [si_si, si_s, bcU_o (by omega), bcU_s]) ?_
      refine g_iinc (v := 1) X dX2_undo_58 rfl rfl (Nat.le_of_ble_eq_true rfl) ?_
      refine g_goto (tgt := 36) X dX2_undo_61 rfl ?_
      refine g_sub (le_1 rfl (le_1 rfl (le_1 e_1 le_n))) (ih (k + 1) ?_ ?_)
      · try dsimp only
        omega
      · try dsimp only
        omega
  · refine g_iconst (v := (-1)) X dX2_undo_9 rfl ?_
    exact g_iret X hr dX2_undo_10 (Nat.le_of_ble_eq_true rfl) (Nat.le_of_ble_eq_true rfl) (lf_t ((nI_eq (by omega) (by decide)).mp (h0.symm.trans c6)) rfl rfl)
set_option maxHeartbeats 600000 in
theorem k_X2_setAside {l : Launch} {E : gk_E} (ho : E.2.2.2.2 = true) {S : gk_S}    : gk_T l E yX2_setAside cX2_setAside 2 (none) 0 0 0 0 [.ref (E.2.2.1 3)] S (fun r S' => r = none ∧ S' = gk_si (gk_si S 409 (fun x => if 5 ≤ x ∧ x < 27 then S.1 400 x else S.1 409 x)) 201 (upd (S.1 201) 25 0)) := by
  refine gk_T.of [some (.ref (E.2.2.1 3)), none] (by decide) (Nat.le_of_ble_eq_true rfl) (le_1 rfl (le_p le_n)) ?_
  intro p_ e_ R_ s_ m_ args_ below_ meth_ c_ hR X hr hin
  subst hR
  refine g_iconst (v := 5) X dX2_setAside_0 rfl ?_
  refine g_istore_n X dX2_setAside_1 (Nat.le_of_ble_eq_true rfl) ?_
  refine g_loop (σ := Nat) (fun (k : Nat) => gk_si S 409 (fun x => if 5 ≤ x ∧ x < 5 + k then S.1 400 x else S.1 409 x)) (fun (k : Nat) => ([some (.ref (E.2.2.1 3)), some (.int (nI (5 + k)))] : List (Option Value))) (fun (k : Nat) => k ≤ 22) (fun (k : Nat) => 22 - k) (0) ?_ (by rw [abU_0, si_id]) (le_1 rfl (le_1 rfl le_n)) ?_
  · omega
  intro k hI ih
  try dsimp only at hI ih ⊢
  refine g_iload_n X dX2_setAside_2 rfl ?_
  refine g_bipush (v := 27) X dX2_setAside_3 rfl ?_
  refine g_icmp_ge (tgt := 26) X dX2_setAside_5 rfl (fun c5 => ?_) (fun c5 => ?_)
  · have hk : k = 22 := by
      have := (nI_leI (a := 27) (b := 5 + k) (by decide) (by omega)).mp c5
      omega
    subst hk
    refine g_aload_n X dX2_setAside_26 rfl ?_
    refine g_iconst (v := 0) X dX2_setAside_27 rfl ?_
    refine g_put3 X ho 25 dX2_setAside_28 q1430 rfl (Nat.le_of_ble_eq_true rfl) rfl rfl rfl rfl (Nat.le_of_ble_eq_true rfl) rfl ?_
    exact g_vret X hr dX2_setAside_31 (Nat.le_of_ble_eq_true rfl) (Nat.le_of_ble_eq_true rfl) (⟨rfl, rfl⟩)
  · have hk : k < 22 := by
      rcases Nat.lt_or_ge k 22 with q | q
      · exact q
      · exact absurd (nI_le (a := 27) (b := 5 + k) (by omega) (by omega)) c5
    refine g_aload_n X dX2_setAside_8 rfl ?_
    refine g_get (C := RX2) (T := TX2) (N := 35) X 28 in_X2 dX2_setAside_9 q1433 (rd3 ho) rfl (Nat.le_of_ble_eq_true rfl) (fun _ h9 => h9) rfl ?_
    refine g_iload_n X dX2_setAside_12 rfl ?_
    refine g_aload_n X dX2_setAside_13 rfl ?_
    refine g_get (C := RX2) (T := TX2) (N := 35) X 0 in_X2 dX2_setAside_14 q1405 (rd3 ho) rfl (Nat.le_of_ble_eq_true rfl) (fun _ h9 => h9) rfl ?_
    refine g_iload_n X dX2_setAside_17 rfl ?_
    refine g_iald (j := 5 + k) X dX2_setAside_18 (rdi ho (400) (rfl)) rfl (by omega) (by decide) ?_
    refine g_iast X ho (409) (j := 5 + k) dX2_setAside_19 rfl (rfl) rfl (by omega) (by decide) ?_
    refine g_eq (S2 := gk_si S 409 (fun x => if 5 ≤ x ∧ x < 5 + (k + 1) then S.1 400 x else S.1 409 x)) (by rw [si_si, si_s, si_n (by decide), abU_s]) ?_
    refine g_iinc (v := 1) X dX2_setAside_20 rfl rfl (Nat.le_of_ble_eq_true rfl) ?_
    refine g_goto (tgt := 2) X dX2_setAside_23 rfl ?_
    refine g_sub (le_1 rfl (le_1 e_1 le_n)) (ih (k + 1) ?_ ?_)
    · try dsimp only
      omega
    · try dsimp only
      omega
set_option maxHeartbeats 600000 in
theorem k_X2_putBack {l : Launch} {E : gk_E} (ho : E.2.2.2.2 = true) {S : gk_S}    : gk_T l E yX2_putBack cX2_putBack 2 (none) 0 0 0 0 [.ref (E.2.2.1 3)] S (fun r S' => r = none ∧ S' = gk_si (gk_si S 400 (fun x => if 5 ≤ x ∧ x < 27 then S.1 409 x else S.1 400 x)) 201 (upd (S.1 201) 25 1)) := by
  refine gk_T.of [some (.ref (E.2.2.1 3)), none] (by decide) (Nat.le_of_ble_eq_true rfl) (le_1 rfl (le_p le_n)) ?_
  intro p_ e_ R_ s_ m_ args_ below_ meth_ c_ hR X hr hin
  subst hR
  refine g_iconst (v := 5) X dX2_putBack_0 rfl ?_
  refine g_istore_n X dX2_putBack_1 (Nat.le_of_ble_eq_true rfl) ?_
  refine g_loop (σ := Nat) (fun (k : Nat) => gk_si S 400 (fun x => if 5 ≤ x ∧ x < 5 + k then S.1 409 x else S.1 400 x)) (fun (k : Nat) => ([some (.ref (E.2.2.1 3)), some (.int (nI (5 + k)))] : List (Option Value))) (fun (k : Nat) => k ≤ 22) (fun (k : Nat) => 22 - k) (0) ?_ (by rw [abU_0, si_id]) (le_1 rfl (le_1 rfl le_n)) ?_
  · omega
  intro k hI ih
  try dsimp only at hI ih ⊢
  refine g_iload_n X dX2_putBack_2 rfl ?_
  refine g_bipush (v := 27) X dX2_putBack_3 rfl ?_
  refine g_icmp_ge (tgt := 26) X dX2_putBack_5 rfl (fun c5 => ?_) (fun c5 => ?_)
  · have hk : k = 22 := by
      have := (nI_leI (a := 27) (b := 5 + k) (by decide) (by omega)).mp c5
      omega
    subst hk
    refine g_aload_n X dX2_putBack_26 rfl ?_
    refine g_iconst (v := 1) X dX2_putBack_27 rfl ?_
    refine g_put3 X ho 25 dX2_putBack_28 q1430 rfl (Nat.le_of_ble_eq_true rfl) rfl rfl rfl rfl (Nat.le_of_ble_eq_true rfl) rfl ?_
    exact g_vret X hr dX2_putBack_31 (Nat.le_of_ble_eq_true rfl) (Nat.le_of_ble_eq_true rfl) (⟨rfl, rfl⟩)
  · have hk : k < 22 := by
      rcases Nat.lt_or_ge k 22 with q | q
      · exact q
      · exact absurd (nI_le (a := 27) (b := 5 + k) (by omega) (by omega)) c5
    refine g_aload_n X dX2_putBack_8 rfl ?_
    refine g_get (C := RX2) (T := TX2) (N := 35) X 0 in_X2 dX2_putBack_9 q1405 (rd3 ho) rfl (Nat.le_of_ble_eq_true rfl) (fun _ h9 => h9) rfl ?_
    refine g_iload_n X dX2_putBack_12 rfl ?_
    refine g_aload_n X dX2_putBack_13 rfl ?_
    refine g_get (C := RX2) (T := TX2) (N := 35) X 28 in_X2 dX2_putBack_14 q1433 (rd3 ho) rfl (Nat.le_of_ble_eq_true rfl) (fun _ h9 => h9) rfl ?_
    refine g_iload_n X dX2_putBack_17 rfl ?_
    refine g_iald (j := 5 + k) X dX2_putBack_18 (rdi ho (409) (rfl)) rfl (by omega) (by decide) ?_
    refine g_iast X ho (400) (j := 5 + k) dX2_putBack_19 rfl (rfl) rfl (by omega) (by decide) ?_
    refine g_eq (S2 := gk_si S 400 (fun x => if 5 ≤ x ∧ x < 5 + (k + 1) then S.1 409 x else S.1 400 x)) (by rw [si_si, si_s, si_n (by decide), abU_s]) ?_
    refine g_iinc (v := 1) X dX2_putBack_20 rfl rfl (Nat.le_of_ble_eq_true rfl) ?_
    refine g_goto (tgt := 2) X dX2_putBack_23 rfl ?_
    refine g_sub (le_1 rfl (le_1 e_1 le_n)) (ih (k + 1) ?_ ?_)
    · try dsimp only
      omega
    · try dsimp only
      omega
