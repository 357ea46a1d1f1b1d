/-- two lists of names agree on those that a worth (false), a claim (true) may name, and are small there -/
def agK (kd : Bool) (v w : Nat → Int32) : Prop := ∀ k, k < 18 → (if kd = true then k < 4 ∨ 10 ≤ k else 4 ≤ k) → v k = w k ∧ -9999 ≤ (v k).toInt ∧ (v k).toInt ≤ 9999
/-- the code C computes M -/
def mC (kd : Bool) (C : List (Nat × Nat)) (M : mnB) : Prop := ∀ v w : Nat → Int32, agK kd v w → bdd (M v) = true ∧ ∀ vs ts, rn w C (vs, ts) = some (M v :: vs, ts)
/-- the worth of text j in the texts' array -/
def wtT (t : Nat → Int32) (j : Nat) (W : Option mnB) : Prop := ∃ nc, nc ≤ 24 ∧ t (714 * j) = nI nc ∧ ((W = none ∧ ∀ i, i < nc → ¬ t (714 * j + 1 + 4 * i) = 0) ∨ ∃ (i0 : Nat) (M : mnB) (C : List (Nat × Nat)) (t0 t1 : Nat), W = some M ∧ i0 < nc ∧ (∀ i, i < i0 → ¬ t (714 * j + 1 + 4 * i) = 0) ∧ t (714 * j + 1 + 4 * i0) = 0 ∧ t (714 * j + 1 + 4 * i0 + 1) = nI t0 ∧ t (714 * j + 1 + 4 * i0 + 2) = nI t1 ∧ t0 + C.length = t1 ∧ t1 ≤ 304 ∧ cdA t j t0 C ∧ mC false C M)
def wtM (t : Nat → Int32) (x : Int32) (W : Option mnB) : Prop := (x = -1 ∧ W = none) ∨ ∃ j, j < 4 ∧ x = nI j ∧ wtT t j W
def nmd (o : Nat → Int32) (x0 x1 x2 x3 x4 x5 : Int32) : Nat → Int32 := upd (upd (upd (upd (upd (upd o 0 x0) 1 x1) 2 x2) 3 x3) 4 x4) 5 x5
/-- the model's names for a farmer, a field -/
def nmM (S : gk_S) (f k : Nat) : Nat → Int32 := nmd (S.1 405) (S.1 400 5) (nI k) (S.1 400 (32 + k)) (nI f) (S.1 400 (27 + f)) (S.1 400 (37 + 5 * f + k))
def vcM (S : gk_S) (f k n : Nat) : Nat → Int32 := fun i => if i < 4 then S.1 405 (6 + i) else if i < 10 then nmM S f k (i - 4) else bP (i - 10 < n ∧ hs (S.1 400 7) (nI (i - 10)))
def wvM (W : Option mnB) (v : Nat → Int32) : Int32 := match W with
  | none => v 9
  | some M => cuM (M v) (-99) 99
/-- the model with other names, values, truths -/
def gk_dt (S : gk_S) (F : Nat → Int32) (A : Nat → Int64) (B : Nat → Int32) : gk_S := gk_si (gk_sl (gk_si S 405 F) 0 A) 407 B
theorem dt_id {S : gk_S} {F : Nat → Int32} : gk_si S 405 F = gk_dt S F (S.2.1 0) (S.1 407) := by
  unfold gk_dt
  have h : gk_sl (gk_si S 405 F) 0 (S.2.1 0) = gk_si S 405 F := sl_id
  rw [h]
  exact (si_id (S := gk_si S 405 F) (i := 407)).symm
theorem nmM_hi {S : gk_S} {f k w : Nat} (h : 6 ≤ w) : nmM S f k w = S.1 405 w := by
  unfold nmM nmd
  rw [upd_n (by omega), upd_n (by omega), upd_n (by omega), upd_n (by omega), upd_n (by omega), upd_n (by omega)]
theorem vcM_nm {S : gk_S} {f k n w : Nat} (h : w < 10) : nmM S f k w = nvM (vcM S f k n) w := by
  unfold nvM
  split
  · rename_i h6
    show _ = vcM S f k n (4 + w)
    unfold vcM
    rw [if_neg (by omega), if_pos (by omega)]
    exact congrArg (nmM S f k) (by omega)
  · rename_i h6
    show _ = vcM S f k n (w - 6)
    unfold vcM
    rw [if_pos (by omega), nmM_hi (by omega)]
    exact congrArg (S.1 405) (by omega)
theorem vcM_hd {S : gk_S} {f k n : Nat} {g F : Nat → Int32} (hc : S.1 201 24 = 0) (hu : MU S n g) : HdA (gk_si S 405 F) (vcM S f k n) := by
  refine Or.inl ⟨hc, n, g, hu, fun i hi => ?_⟩
  show vcM S f k n (10 + i) = _
  unfold vcM
  rw [if_neg (by omega), if_neg (by omega), show 10 + i - 10 = i by omega]
  rfl
set_option maxHeartbeats 600000 in
theorem k_X2_worthBy_m {l : Launch} {E : gk_E} (ho : E.2.2.2.2 = true) {S : gk_S} {x : Int32} {y : Int32} {z : Int32} {f k : Nat} (hx : x = -1) (hlw : lwB (S.2.1 0)) (hy : y = nI f) (hf : f < 5) (hz : z = nI k) (hk : k < 5)  : gk_T l E yX2_worthBy cX2_worthBy 5 ((some .int)) 3 74 0 0 [.ref (E.2.2.1 3), .int x, .int y, .int z] S (fun r S' => ∃ (A : Nat → Int64) (B : Nat → Int32), r = some (.int (S.1 400 (37 + 5 * f + k))) ∧ S' = gk_dt S (nmM S f k) A B ∧ lwB A) := by
  refine gk_T.of [some (.ref (E.2.2.1 3)), some (.int x), some (.int y), some (.int z), none] (by decide) (Nat.le_of_ble_eq_true rfl) (le_1 rfl (le_1 rfl (le_1 rfl (le_1 rfl (le_p le_n))))) ?_
  intro p_ e_ R_ s_ m_ args_ below_ meth_ c_ hR X hr hin
  subst hR
  refine g_aload_n X dX2_worthBy_0 rfl ?_
  refine g_get (C := RX2) (T := TX2) (N := 35) X 21 in_X2 dX2_worthBy_1 q1426 (rd3 ho) rfl (Nat.le_of_ble_eq_true rfl) (fun _ h9 => h9) rfl ?_
  refine g_iconst (v := 0) X dX2_worthBy_4 rfl ?_
  refine g_aload_n X dX2_worthBy_5 rfl ?_
  refine g_get (C := RX2) (T := TX2) (N := 35) X 0 in_X2 dX2_worthBy_6 q1405 (rd3 ho) rfl (Nat.le_of_ble_eq_true rfl) (fun _ h9 => h9) rfl ?_
  refine g_iconst (v := 5) X dX2_worthBy_9 rfl ?_
  refine g_iald (j := 5) X dX2_worthBy_10 (rdi ho (400) (rfl)) rfl (by decide) (by decide) ?_
  refine g_iast X ho (405) (j := 0) dX2_worthBy_11 rfl (rfl) rfl (by decide) (by decide) ?_
  refine g_aload_n X dX2_worthBy_12 rfl ?_
  refine g_get (C := RX2) (T := TX2) (N := 35) X 21 in_X2 dX2_worthBy_13 q1426 (rd3 ho) rfl (Nat.le_of_ble_eq_true rfl) (fun _ h9 => h9) rfl ?_
  refine g_iconst (v := 1) X dX2_worthBy_16 rfl ?_
  refine g_iload_n X dX2_worthBy_17 rfl ?_
  refine g_top (y := nI k) hz ?_
  refine g_iast X ho (405) (j := 1) dX2_worthBy_18 rfl (rfl) rfl (by decide) (by decide) ?_
  refine g_aload_n X dX2_worthBy_19 rfl ?_
  refine g_get (C := RX2) (T := TX2) (N := 35) X 21 in_X2 dX2_worthBy_20 q1426 (rd3 ho) rfl (Nat.le_of_ble_eq_true rfl) (fun _ h9 => h9) rfl ?_
  refine g_iconst (v := 2) X dX2_worthBy_23 rfl ?_
  refine g_aload_n X dX2_worthBy_24 rfl ?_
  refine g_get (C := RX2) (T := TX2) (N := 35) X 0 in_X2 dX2_worthBy_25 q1405 (rd3 ho) rfl (Nat.le_of_ble_eq_true rfl) (fun _ h9 => h9) rfl ?_
  refine g_bipush (v := 32) X dX2_worthBy_28 rfl ?_
  refine g_iload_n X dX2_worthBy_30 rfl ?_
  refine g_iadd X dX2_worthBy_31 ?_
  refine g_iald (j := 32 + k) X dX2_worthBy_32 (rdi ho (400) (rfl)) (by rw [hz]; show nI 32 + nI k = _; rw [nI_add]) (by omega) (by decide) ?_
  refine g_iast X ho (405) (j := 2) dX2_worthBy_33 rfl (rfl) rfl (by decide) (by decide) ?_
  refine g_aload_n X dX2_worthBy_34 rfl ?_
  refine g_get (C := RX2) (T := TX2) (N := 35) X 21 in_X2 dX2_worthBy_35 q1426 (rd3 ho) rfl (Nat.le_of_ble_eq_true rfl) (fun _ h9 => h9) rfl ?_
  refine g_iconst (v := 3) X dX2_worthBy_38 rfl ?_
  refine g_iload_n X dX2_worthBy_39 rfl ?_
  refine g_top (y := nI f) hy ?_
  refine g_iast X ho (405) (j := 3) dX2_worthBy_40 rfl (rfl) rfl (by decide) (by decide) ?_
  refine g_aload_n X dX2_worthBy_41 rfl ?_
  refine g_get (C := RX2) (T := TX2) (N := 35) X 21 in_X2 dX2_worthBy_42 q1426 (rd3 ho) rfl (Nat.le_of_ble_eq_true rfl) (fun _ h9 => h9) rfl ?_
  refine g_iconst (v := 4) X dX2_worthBy_45 rfl ?_
  refine g_aload_n X dX2_worthBy_46 rfl ?_
  refine g_get (C := RX2) (T := TX2) (N := 35) X 0 in_X2 dX2_worthBy_47 q1405 (rd3 ho) rfl (Nat.le_of_ble_eq_true rfl) (fun _ h9 => h9) rfl ?_
  refine g_bipush (v := 27) X dX2_worthBy_50 rfl ?_
  refine g_iload_n X dX2_worthBy_52 rfl ?_
  refine g_iadd X dX2_worthBy_53 ?_
  refine g_iald (j := 27 + f) X dX2_worthBy_54 (rdi ho (400) (rfl)) (by rw [hy]; show nI 27 + nI f = _; rw [nI_add]) (by omega) (by decide) ?_
  refine g_iast X ho (405) (j := 4) dX2_worthBy_55 rfl (rfl) rfl (by decide) (by decide) ?_
  refine g_aload_n X dX2_worthBy_56 rfl ?_
  refine g_get (C := RX2) (T := TX2) (N := 35) X 21 in_X2 dX2_worthBy_57 q1426 (rd3 ho) rfl (Nat.le_of_ble_eq_true rfl) (fun _ h9 => h9) rfl ?_
  refine g_iconst (v := 5) X dX2_worthBy_60 rfl ?_
  refine g_aload_n X dX2_worthBy_61 rfl ?_
  refine g_iload_n X dX2_worthBy_62 rfl ?_
  refine g_iload_n X dX2_worthBy_63 rfl ?_
  refine g_callV (C := RX2) (T := TX2) (N := 35) X (k_X2_wantOf ho hy hf hz hk) (lw_V q1833 q1835 qs111 q139 q1836) hd_X2_wantOf dX2_worthBy_64 (rd3 ho) rfl rfl ⟨Nat.le_of_ble_eq_true rfl, Nat.le_of_ble_eq_true rfl⟩ ⟨Nat.le_of_ble_eq_true rfl, Nat.le_of_ble_eq_true rfl⟩ (Nat.le_of_ble_eq_true rfl) ?_
  rintro _ S1 ⟨rfl, hS1⟩
  obtain rfl := hS1.symm
  refine g_iast X ho (405) (j := 5) dX2_worthBy_67 rfl (rfl) rfl (by decide) (by decide) ?_
  refine g_eq (S2 := gk_si S 405 (nmM S f k)) (by simp only [si_si, si_s]; rfl) ?_
  refine g_iconst (v := 0) X dX2_worthBy_68 rfl ?_
  refine g_istore X dX2_worthBy_69 (Nat.le_of_ble_eq_true rfl) ?_
  refine g_iload_n X dX2_worthBy_71 rfl ?_
  refine g_if_lt (tgt := 131) X dX2_worthBy_72 rfl (fun c72 => ?_) (fun c72 => ?_)
  · refine g_aload_n X dX2_worthBy_131 rfl ?_
    refine g_get (C := RX2) (T := TX2) (N := 35) X 21 in_X2 dX2_worthBy_132 q1426 (rd3 ho) rfl (Nat.le_of_ble_eq_true rfl) (fun _ h9 => h9) rfl ?_
    refine g_iconst (v := 5) X dX2_worthBy_135 rfl ?_
    refine g_iald (j := 5) X dX2_worthBy_136 (rdi ho (405) (rfl)) rfl (by decide) (by decide) ?_
    refine g_top (y := S.1 400 (37 + 5 * f + k)) (by rw [si_s]; unfold nmM nmd; rw [upd_s]) ?_
    exact g_iret X hr dX2_worthBy_137 (Nat.le_of_ble_eq_true rfl) (Nat.le_of_ble_eq_true rfl) (⟨S.2.1 0, S.1 407, rfl, dt_id, hlw⟩)
  · exact absurd (by rw [hx]; decide) c72
set_option maxHeartbeats 600000 in
theorem k_X2_worthBy_n {l : Launch} {E : gk_E} (ho : E.2.2.2.2 = true) {S : gk_S} {x : Int32} {y : Int32} {z : Int32} {f k j nc : Nat} (hx : x = nI j) (hj : j < 4) (hlw : lwB (S.2.1 0)) (hy : y = nI f) (hf : f < 5) (hz : z = nI k) (hk : k < 5) (hn : nc ≤ 24) (hn2 : S.1 402 (714 * j) = nI nc) (hno : ∀ i, i < nc → ¬ S.1 402 (714 * j + 1 + 4 * i) = 0) : gk_T l E yX2_worthBy cX2_worthBy 5 ((some .int)) 3 74 0 0 [.ref (E.2.2.1 3), .int x, .int y, .int z] S (fun r S' => ∃ (A : Nat → Int64) (B : Nat → Int32), r = some (.int (S.1 400 (37 + 5 * f + k))) ∧ S' = gk_dt S (nmM S f k) A B ∧ lwB A) := by
  refine gk_T.of [some (.ref (E.2.2.1 3)), some (.int x), some (.int y), some (.int z), none] (by decide) (Nat.le_of_ble_eq_true rfl) (le_1 rfl (le_1 rfl (le_1 rfl (le_1 rfl (le_p le_n))))) ?_
  intro p_ e_ R_ s_ m_ args_ below_ meth_ c_ hR X hr hin
  subst hR
  refine g_aload_n X dX2_worthBy_0 rfl ?_
  refine g_get (C := RX2) (T := TX2) (N := 35) X 21 in_X2 dX2_worthBy_1 q1426 (rd3 ho) rfl (Nat.le_of_ble_eq_true rfl) (fun _ h9 => h9) rfl ?_
  refine g_iconst (v := 0) X dX2_worthBy_4 rfl ?_
  refine g_aload_n X dX2_worthBy_5 rfl ?_
  refine g_get (C := RX2) (T := TX2) (N := 35) X 0 in_X2 dX2_worthBy_6 q1405 (rd3 ho) rfl (Nat.le_of_ble_eq_true rfl) (fun _ h9 => h9) rfl ?_
  refine g_iconst (v := 5) X dX2_worthBy_9 rfl ?_
  refine g_iald (j := 5) X dX2_worthBy_10 (rdi ho (400) (rfl)) rfl (by decide) (by decide) ?_
  refine g_iast X ho (405) (j := 0) dX2_worthBy_11 rfl (rfl) rfl (by decide) (by decide) ?_
  refine g_aload_n X dX2_worthBy_12 rfl ?_
  refine g_get (C := RX2) (T := TX2) (N := 35) X 21 in_X2 dX2_worthBy_13 q1426 (rd3 ho) rfl (Nat.le_of_ble_eq_true rfl) (fun _ h9 => h9) rfl ?_
  refine g_iconst (v := 1) X dX2_worthBy_16 rfl ?_
  refine g_iload_n X dX2_worthBy_17 rfl ?_
  refine g_top (y := nI k) hz ?_
  refine g_iast X ho (405) (j := 1) dX2_worthBy_18 rfl (rfl) rfl (by decide) (by decide) ?_
  refine g_aload_n X dX2_worthBy_19 rfl ?_
  refine g_get (C := RX2) (T := TX2) (N := 35) X 21 in_X2 dX2_worthBy_20 q1426 (rd3 ho) rfl (Nat.le_of_ble_eq_true rfl) (fun _ h9 => h9) rfl ?_
  refine g_iconst (v := 2) X dX2_worthBy_23 rfl ?_
  refine g_aload_n X dX2_worthBy_24 rfl ?_
  refine g_get (C := RX2) (T := TX2) (N := 35) X 0 in_X2 dX2_worthBy_25 q1405 (rd3 ho) rfl (Nat.le_of_ble_eq_true rfl) (fun _ h9 => h9) rfl ?_
  refine g_bipush (v := 32) X dX2_worthBy_28 rfl ?_
  refine g_iload_n X dX2_worthBy_30 rfl ?_
  refine g_iadd X dX2_worthBy_31 ?_
  refine g_iald (j := 32 + k) X dX2_worthBy_32 (rdi ho (400) (rfl)) (by rw [hz]; show nI 32 + nI k = _; rw [nI_add]) (by omega) (by decide) ?_
  refine g_iast X ho (405) (j := 2) dX2_worthBy_33 rfl (rfl) rfl (by decide) (by decide) ?_
  refine g_aload_n X dX2_worthBy_34 rfl ?_
  refine g_get (C := RX2) (T := TX2) (N := 35) X 21 in_X2 dX2_worthBy_35 q1426 (rd3 ho) rfl (Nat.le_of_ble_eq_true rfl) (fun _ h9 => h9) rfl ?_
  refine g_iconst (v := 3) X dX2_worthBy_38 rfl ?_
  refine g_iload_n X dX2_worthBy_39 rfl ?_
  refine g_top (y := nI f) hy ?_
  refine g_iast X ho (405) (j := 3) dX2_worthBy_40 rfl (rfl) rfl (by decide) (by decide) ?_
  refine g_aload_n X dX2_worthBy_41 rfl ?_
  refine g_get (C := RX2) (T := TX2) (N := 35) X 21 in_X2 dX2_worthBy_42 q1426 (rd3 ho) rfl (Nat.le_of_ble_eq_true rfl) (fun _ h9 => h9) rfl ?_
  refine g_iconst (v := 4) X dX2_worthBy_45 rfl ?_
  refine g_aload_n X dX2_worthBy_46 rfl ?_
  refine g_get (C := RX2) (T := TX2) (N := 35) X 0 in_X2 dX2_worthBy_47 q1405 (rd3 ho) rfl (Nat.le_of_ble_eq_true rfl) (fun _ h9 => h9) rfl ?_
  refine g_bipush (v := 27) X dX2_worthBy_50 rfl ?_
  refine g_iload_n X dX2_worthBy_52 rfl ?_
  refine g_iadd X dX2_worthBy_53 ?_
  refine g_iald (j := 27 + f) X dX2_worthBy_54 (rdi ho (400) (rfl)) (by rw [hy]; show nI 27 + nI f = _; rw [nI_add]) (by omega) (by decide) ?_
  refine g_iast X ho (405) (j := 4) dX2_worthBy_55 rfl (rfl) rfl (by decide) (by decide) ?_
  refine g_aload_n X dX2_worthBy_56 rfl ?_
  refine g_get (C := RX2) (T := TX2) (N := 35) X 21 in_X2 dX2_worthBy_57 q1426 (rd3 ho) rfl (Nat.le_of_ble_eq_true rfl) (fun _ h9 => h9) rfl ?_
  refine g_iconst (v := 5) X dX2_worthBy_60 rfl ?_
  refine g_aload_n X dX2_worthBy_61 rfl ?_
  refine g_iload_n X dX2_worthBy_62 rfl ?_
  refine g_iload_n X dX2_worthBy_63 rfl ?_
  refine g_callV (C := RX2) (T := TX2) (N := 35) X (k_X2_wantOf ho hy hf hz hk) (lw_V q1833 q1835 qs111 q139 q1836) hd_X2_wantOf dX2_worthBy_64 (rd3 ho) rfl rfl ⟨Nat.le_of_ble_eq_true rfl, Nat.le_of_ble_eq_true rfl⟩ ⟨Nat.le_of_ble_eq_true rfl, Nat.le_of_ble_eq_true rfl⟩ (Nat.le_of_ble_eq_true rfl) ?_
  rintro _ S1 ⟨rfl, hS1⟩
  obtain rfl := hS1.symm
  refine g_iast X ho (405) (j := 5) dX2_worthBy_67 rfl (rfl) rfl (by decide) (by decide) ?_
  refine g_eq (S2 := gk_si S 405 (nmM S f k)) (by simp only [si_si, si_s]; rfl) ?_
  refine g_iconst (v := 0) X dX2_worthBy_68 rfl ?_
  refine g_istore X dX2_worthBy_69 (Nat.le_of_ble_eq_true rfl) ?_
  refine g_loop (σ := Nat) (fun (i : Nat) => gk_si S 405 (nmM S f k)) (fun (i : Nat) => ([some (.ref (E.2.2.1 3)), some (.int x), some (.int y), some (.int z), some (.int (nI i))] : List (Option Value))) (fun (i : Nat) => i ≤ nc) (fun (i : Nat) => nc - i) (0) ?_ (rfl) (le_1 rfl (le_1 rfl (le_1 rfl (le_1 rfl (le_1 rfl le_n))))) ?_
  · exact Nat.zero_le _
  intro i hI ih
  try dsimp only at hI ih ⊢
  refine g_iload_n X dX2_worthBy_71 rfl ?_
  refine g_if_lt (tgt := 131) X dX2_worthBy_72 rfl (fun c72 => ?_) (fun c72 => ?_)
  · exact absurd c72 (by rw [hx]; exact nI_pos (by omega))
  · refine g_iload X dX2_worthBy_75 rfl ?_
    refine g_aload_n X dX2_worthBy_77 rfl ?_
    refine g_get (C := RX2) (T := TX2) (N := 35) X 2 in_X2 dX2_worthBy_78 q1407 (rd3 ho) rfl (Nat.le_of_ble_eq_true rfl) (fun _ h9 => h9) rfl ?_
    refine g_sipush (v := 714) X dX2_worthBy_81 rfl ?_
    refine g_iload_n X dX2_worthBy_84 rfl ?_
    refine g_imul X dX2_worthBy_85 ?_
    refine g_iald (j := 714 * j) X dX2_worthBy_86 (rdi ho (402) (rfl)) (by rw [hx]; show nI 714 * nI j = _; rw [pk_mul]) (by omega) (by decide) ?_
    refine g_top (y := nI nc) hn2 ?_
    refine g_icmp_ge (tgt := 131) X dX2_worthBy_87 rfl (fun c87 => ?_) (fun c87 => ?_)
    · refine g_aload_n X dX2_worthBy_131 rfl ?_
      refine g_get (C := RX2) (T := TX2) (N := 35) X 21 in_X2 dX2_worthBy_132 q1426 (rd3 ho) rfl (Nat.le_of_ble_eq_true rfl) (fun _ h9 => h9) rfl ?_
      refine g_iconst (v := 5) X dX2_worthBy_135 rfl ?_
      refine g_iald (j := 5) X dX2_worthBy_136 (rdi ho (405) (rfl)) rfl (by decide) (by decide) ?_
      refine g_top (y := S.1 400 (37 + 5 * f + k)) (by rw [si_s]; unfold nmM nmd; rw [upd_s]) ?_
      exact g_iret X hr dX2_worthBy_137 (Nat.le_of_ble_eq_true rfl) (Nat.le_of_ble_eq_true rfl) (⟨S.2.1 0, S.1 407, rfl, dt_id, hlw⟩)
    · have hin : i < nc := (nI_ltI (by omega) (by omega)).mp (Int32.not_le.mp c87)
      refine g_aload_n X dX2_worthBy_90 rfl ?_
      refine g_get (C := RX2) (T := TX2) (N := 35) X 2 in_X2 dX2_worthBy_91 q1407 (rd3 ho) rfl (Nat.le_of_ble_eq_true rfl) (fun _ h9 => h9) rfl ?_
      refine g_sipush (v := 714) X dX2_worthBy_94 rfl ?_
      refine g_iload_n X dX2_worthBy_97 rfl ?_
      refine g_imul X dX2_worthBy_98 ?_
      refine g_iconst (v := 1) X dX2_worthBy_99 rfl ?_
      refine g_iadd X dX2_worthBy_100 ?_
      refine g_iconst (v := 4) X dX2_worthBy_101 rfl ?_
      refine g_iload X dX2_worthBy_102 rfl ?_
      refine g_imul X dX2_worthBy_104 ?_
      refine g_iadd X dX2_worthBy_105 ?_
      refine g_iald (j := 714 * j + 1 + 4 * i) X dX2_worthBy_106 (rdi ho (402) (rfl)) (by rw [hx]; show nI 714 * nI j + nI 1 + nI 4 * nI i = _; rw [pk_mul, pk_mul, nI_add, nI_add]) (by omega) (by decide) ?_
      refine g_if_ne (tgt := 125) X dX2_worthBy_107 rfl (fun c107 => ?_) (fun c107 => ?_)
      · refine g_iinc (v := 1) X dX2_worthBy_125 rfl rfl (Nat.le_of_ble_eq_true rfl) ?_
        refine g_goto (tgt := 71) X dX2_worthBy_128 rfl ?_
        refine g_sub (le_1 rfl (le_1 rfl (le_1 rfl (le_1 rfl (le_1 e_1 le_n))))) (ih (i + 1) ?_ ?_)
        · try dsimp only
          omega
        · try dsimp only
          omega
      · exact absurd c107 (hno i hin)
set_option maxHeartbeats 600000 in
theorem k_X2_worthBy_w {l : Launch} {E : gk_E} (ho : E.2.2.2.2 = true) {S : gk_S} {x : Int32} {y : Int32} {z : Int32} {f k j nc i0 t0 t1 n : Nat} {g : Nat → Int32} {C : List (Nat × Nat)} {w : Int64} (hx : x = nI j) (hj : j < 4) (hy : y = nI f) (hf : f < 5) (hz : z = nI k) (hk : k < 5) (hn : nc ≤ 24) (hn2 : S.1 402 (714 * j) = nI nc) (hi0 : i0 < nc) (hno : ∀ i, i < i0 → ¬ S.1 402 (714 * j + 1 + 4 * i) = 0) (hz0 : S.1 402 (714 * j + 1 + 4 * i0) = 0) (h1 : S.1 402 (714 * j + 1 + 4 * i0 + 1) = nI t0) (h2 : S.1 402 (714 * j + 1 + 4 * i0 + 2) = nI t1) (hC : t0 + C.length = t1) (ht : t1 ≤ 304) (hcd : cdA (S.1 402) j t0 C) (hcl : S.1 201 24 = 0) (hu : MU S n g) (hrn : rn (vcM S f k n) C ([], []) = some ([w], [])) (hlw : lwB (S.2.1 0)) : gk_T l E yX2_worthBy cX2_worthBy 5 ((some .int)) 3 74 0 0 [.ref (E.2.2.1 3), .int x, .int y, .int z] S (fun r S' => ∃ (A : Nat → Int64) (B : Nat → Int32), r = some (.int (cuM w (-99) 99)) ∧ S' = gk_dt S (nmM S f k) A B ∧ lwB A) := by
  refine gk_T.of [some (.ref (E.2.2.1 3)), some (.int x), some (.int y), some (.int z), none] (by decide) (Nat.le_of_ble_eq_true rfl) (le_1 rfl (le_1 rfl (le_1 rfl (le_1 rfl (le_p le_n))))) ?_
  intro p_ e_ R_ s_ m_ args_ below_ meth_ c_ hR X hr hin
  subst hR
  refine g_aload_n X dX2_worthBy_0 rfl ?_
  refine g_get (C := RX2) (T := TX2) (N := 35) X 21 in_X2 dX2_worthBy_1 q1426 (rd3 ho) rfl (Nat.le_of_ble_eq_true rfl) (fun _ h9 => h9) rfl ?_
  refine g_iconst (v := 0) X dX2_worthBy_4 rfl ?_
  refine g_aload_n X dX2_worthBy_5 rfl ?_
  refine g_get (C := RX2) (T := TX2) (N := 35) X 0 in_X2 dX2_worthBy_6 q1405 (rd3 ho) rfl (Nat.le_of_ble_eq_true rfl) (fun _ h9 => h9) rfl ?_
  refine g_iconst (v := 5) X dX2_worthBy_9 rfl ?_
  refine g_iald (j := 5) X dX2_worthBy_10 (rdi ho (400) (rfl)) rfl (by decide) (by decide) ?_
  refine g_iast X ho (405) (j := 0) dX2_worthBy_11 rfl (rfl) rfl (by decide) (by decide) ?_
  refine g_aload_n X dX2_worthBy_12 rfl ?_
  refine g_get (C := RX2) (T := TX2) (N := 35) X 21 in_X2 dX2_worthBy_13 q1426 (rd3 ho) rfl (Nat.le_of_ble_eq_true rfl) (fun _ h9 => h9) rfl ?_
  refine g_iconst (v := 1) X dX2_worthBy_16 rfl ?_
  refine g_iload_n X dX2_worthBy_17 rfl ?_
  refine g_top (y := nI k) hz ?_
  refine g_iast X ho (405) (j := 1) dX2_worthBy_18 rfl (rfl) rfl (by decide) (by decide) ?_
  refine g_aload_n X dX2_worthBy_19 rfl ?_
  refine g_get (C := RX2) (T := TX2) (N := 35) X 21 in_X2 dX2_worthBy_20 q1426 (rd3 ho) rfl (Nat.le_of_ble_eq_true rfl) (fun _ h9 => h9) rfl ?_
  refine g_iconst (v := 2) X dX2_worthBy_23 rfl ?_
  refine g_aload_n X dX2_worthBy_24 rfl ?_
  refine g_get (C := RX2) (T := TX2) (N := 35) X 0 in_X2 dX2_worthBy_25 q1405 (rd3 ho) rfl (Nat.le_of_ble_eq_true rfl) (fun _ h9 => h9) rfl ?_
  refine g_bipush (v := 32) X dX2_worthBy_28 rfl ?_
  refine g_iload_n X dX2_worthBy_30 rfl ?_
  refine g_iadd X dX2_worthBy_31 ?_
  refine g_iald (j := 32 + k) X dX2_worthBy_32 (rdi ho (400) (rfl)) (by rw [hz]; show nI 32 + nI k = _; rw [nI_add]) (by omega) (by decide) ?_
  refine g_iast X ho (405) (j := 2) dX2_worthBy_33 rfl (rfl) rfl (by decide) (by decide) ?_
  refine g_aload_n X dX2_worthBy_34 rfl ?_
  refine g_get (C := RX2) (T := TX2) (N := 35) X 21 in_X2 dX2_worthBy_35 q1426 (rd3 ho) rfl (Nat.le_of_ble_eq_true rfl) (fun _ h9 => h9) rfl ?_
  refine g_iconst (v := 3) X dX2_worthBy_38 rfl ?_
  refine g_iload_n X dX2_worthBy_39 rfl ?_
  refine g_top (y := nI f) hy ?_
  refine g_iast X ho (405) (j := 3) dX2_worthBy_40 rfl (rfl) rfl (by decide) (by decide) ?_
  refine g_aload_n X dX2_worthBy_41 rfl ?_
  refine g_get (C := RX2) (T := TX2) (N := 35) X 21 in_X2 dX2_worthBy_42 q1426 (rd3 ho) rfl (Nat.le_of_ble_eq_true rfl) (fun _ h9 => h9) rfl ?_
  refine g_iconst (v := 4) X dX2_worthBy_45 rfl ?_
  refine g_aload_n X dX2_worthBy_46 rfl ?_
  refine g_get (C := RX2) (T := TX2) (N := 35) X 0 in_X2 dX2_worthBy_47 q1405 (rd3 ho) rfl (Nat.le_of_ble_eq_true rfl) (fun _ h9 => h9) rfl ?_
  refine g_bipush (v := 27) X dX2_worthBy_50 rfl ?_
  refine g_iload_n X dX2_worthBy_52 rfl ?_
  refine g_iadd X dX2_worthBy_53 ?_
  refine g_iald (j := 27 + f) X dX2_worthBy_54 (rdi ho (400) (rfl)) (by rw [hy]; show nI 27 + nI f = _; rw [nI_add]) (by omega) (by decide) ?_
  refine g_iast X ho (405) (j := 4) dX2_worthBy_55 rfl (rfl) rfl (by decide) (by decide) ?_
  refine g_aload_n X dX2_worthBy_56 rfl ?_
  refine g_get (C := RX2) (T := TX2) (N := 35) X 21 in_X2 dX2_worthBy_57 q1426 (rd3 ho) rfl (Nat.le_of_ble_eq_true rfl) (fun _ h9 => h9) rfl ?_
  refine g_iconst (v := 5) X dX2_worthBy_60 rfl ?_
  refine g_aload_n X dX2_worthBy_61 rfl ?_
  refine g_iload_n X dX2_worthBy_62 rfl ?_
  refine g_iload_n X dX2_worthBy_63 rfl ?_
  refine g_callV (C := RX2) (T := TX2) (N := 35) X (k_X2_wantOf ho hy hf hz hk) (lw_V q1833 q1835 qs111 q139 q1836) hd_X2_wantOf dX2_worthBy_64 (rd3 ho) rfl rfl ⟨Nat.le_of_ble_eq_true rfl, Nat.le_of_ble_eq_true rfl⟩ ⟨Nat.le_of_ble_eq_true rfl, Nat.le_of_ble_eq_true rfl⟩ (Nat.le_of_ble_eq_true rfl) ?_
  rintro _ S1 ⟨rfl, hS1⟩
  obtain rfl := hS1.symm
  refine g_iast X ho (405) (j := 5) dX2_worthBy_67 rfl (rfl) rfl (by decide) (by decide) ?_
  refine g_eq (S2 := gk_si S 405 (nmM S f k)) (by simp only [si_si, si_s]; rfl) ?_
  refine g_iconst (v := 0) X dX2_worthBy_68 rfl ?_
  refine g_istore X dX2_worthBy_69 (Nat.le_of_ble_eq_true rfl) ?_
  refine g_loop (σ := Nat) (fun (i : Nat) => gk_si S 405 (nmM S f k)) (fun (i : Nat) => ([some (.ref (E.2.2.1 3)), some (.int x), some (.int y), some (.int z), some (.int (nI i))] : List (Option Value))) (fun (i : Nat) => i ≤ i0) (fun (i : Nat) => i0 - i) (0) ?_ (rfl) (le_1 rfl (le_1 rfl (le_1 rfl (le_1 rfl (le_1 rfl le_n))))) ?_
  · exact Nat.zero_le _
  intro i hI ih
  try dsimp only at hI ih ⊢
  refine g_iload_n X dX2_worthBy_71 rfl ?_
  refine g_if_lt (tgt := 131) X dX2_worthBy_72 rfl (fun c72 => ?_) (fun c72 => ?_)
  · exact absurd c72 (by rw [hx]; exact nI_pos (by omega))
  · refine g_iload X dX2_worthBy_75 rfl ?_
    refine g_aload_n X dX2_worthBy_77 rfl ?_
    refine g_get (C := RX2) (T := TX2) (N := 35) X 2 in_X2 dX2_worthBy_78 q1407 (rd3 ho) rfl (Nat.le_of_ble_eq_true rfl) (fun _ h9 => h9) rfl ?_
    refine g_sipush (v := 714) X dX2_worthBy_81 rfl ?_
    refine g_iload_n X dX2_worthBy_84 rfl ?_
    refine g_imul X dX2_worthBy_85 ?_
    refine g_iald (j := 714 * j) X dX2_worthBy_86 (rdi ho (402) (rfl)) (by rw [hx]; show nI 714 * nI j = _; rw [pk_mul]) (by omega) (by decide) ?_
    refine g_top (y := nI nc) hn2 ?_
    refine g_icmp_ge (tgt := 131) X dX2_worthBy_87 rfl (fun c87 => ?_) (fun c87 => ?_)
    · exact absurd ((nI_leI (by omega) (by omega)).mp c87) (by omega)
    · refine g_aload_n X dX2_worthBy_90 rfl ?_
      refine g_get (C := RX2) (T := TX2) (N := 35) X 2 in_X2 dX2_worthBy_91 q1407 (rd3 ho) rfl (Nat.le_of_ble_eq_true rfl) (fun _ h9 => h9) rfl ?_
      refine g_sipush (v := 714) X dX2_worthBy_94 rfl ?_
      refine g_iload_n X dX2_worthBy_97 rfl ?_
      refine g_imul X dX2_worthBy_98 ?_
      refine g_iconst (v := 1) X dX2_worthBy_99 rfl ?_
      refine g_iadd X dX2_worthBy_100 ?_
      refine g_iconst (v := 4) X dX2_worthBy_101 rfl ?_
      refine g_iload X dX2_worthBy_102 rfl ?_
      refine g_imul X dX2_worthBy_104 ?_
      refine g_iadd X dX2_worthBy_105 ?_
      refine g_iald (j := 714 * j + 1 + 4 * i) X dX2_worthBy_106 (rdi ho (402) (rfl)) (by rw [hx]; show nI 714 * nI j + nI 1 + nI 4 * nI i = _; rw [pk_mul, pk_mul, nI_add, nI_add]) (by omega) (by decide) ?_
      refine g_if_ne (tgt := 125) X dX2_worthBy_107 rfl (fun c107 => ?_) (fun c107 => ?_)
      · refine g_iinc (v := 1) X dX2_worthBy_125 rfl rfl (Nat.le_of_ble_eq_true rfl) ?_
        refine g_goto (tgt := 71) X dX2_worthBy_128 rfl ?_
        refine g_sub (le_1 rfl (le_1 rfl (le_1 rfl (le_1 rfl (le_1 e_1 le_n))))) (ih (i + 1) ?_ ?_)
        · try dsimp only
          have : i ≠ i0 := fun z => c107 (by rw [z]; exact hz0)
          omega
        · try dsimp only
          have : i ≠ i0 := fun z => c107 (by rw [z]; exact hz0)
          omega
      · obtain rfl : i = i0 := Nat.le_antisymm hI (Nat.not_lt.mp (fun z => hno i z c107))
        refine g_aload_n X dX2_worthBy_110 rfl ?_
        refine g_iload_n X dX2_worthBy_111 rfl ?_
        refine g_iload X dX2_worthBy_112 rfl ?_
        refine g_callV (C := RX2) (T := TX2) (N := 35) X (k_X2_summedUp ho (S := gk_si S 405 _) hx hj (rfl : nI i = nI i) (by omega) h1 h2 hC ht hcd hrn (fun w hw => vcM_nm hw) (vcM_hd hcl hu) hlw) (lw_V q1699 q1701 qs92 q139 q1702) hd_X2_summedUp dX2_worthBy_114 (rd3 ho) rfl rfl ⟨Nat.le_of_ble_eq_true rfl, Nat.le_of_ble_eq_true rfl⟩ ⟨Nat.le_of_ble_eq_true rfl, Nat.le_of_ble_eq_true rfl⟩ (Nat.le_of_ble_eq_true rfl) ?_
        rintro _ S1 ⟨A, B, rfl, hS1, hA1, hB1, hA2⟩
        obtain rfl := hS1.symm
        refine g_ltop (y := w) hA1.1 ?_
        refine g_bipush (v := (-99)) X dX2_worthBy_117 rfl ?_
        refine g_bipush (v := 99) X dX2_worthBy_119 rfl ?_
        refine g_callS X (k_X2_cut ho) (lw_S q1819 q1820 q139 q1821) hd_X2_cut dX2_worthBy_121 rfl ⟨Nat.le_of_ble_eq_true rfl, Nat.le_of_ble_eq_true rfl⟩ ⟨Nat.le_of_ble_eq_true rfl, Nat.le_of_ble_eq_true rfl⟩ (Nat.le_of_ble_eq_true rfl) ?_
        rintro _ S1 ⟨rfl, hS1⟩
        obtain rfl := hS1.symm
        exact g_iret X hr dX2_worthBy_124 (Nat.le_of_ble_eq_true rfl) (Nat.le_of_ble_eq_true rfl) (⟨A, B, rfl, rfl, hA2⟩)
theorem vcM_9 {S : gk_S} {f k n : Nat} : vcM S f k n 9 = S.1 400 (37 + 5 * f + k) := by
  show nmM S f k 5 = _
  unfold nmM nmd
  rw [upd_s]
theorem k_X2_worthBy {l : Launch} {E : gk_E} (ho : E.2.2.2.2 = true) {S : gk_S} {x y z : Int32} {f k n : Nat} {g : Nat → Int32} {W : Option mnB} (hy : y = nI f) (hf : f < 5) (hz : z = nI k) (hk : k < 5) (hw : wtM (S.1 402) x W) (hcl : S.1 201 24 = 0) (hu : MU S n g) (hag : agK false (vcM S f k n) (vcM S f k n)) (hlw : lwB (S.2.1 0)) : gk_T l E yX2_worthBy cX2_worthBy 5 (some .int) 3 74 0 0 [.ref (E.2.2.1 3), .int x, .int y, .int z] S (fun r S' => ∃ (A : Nat → Int64) (B : Nat → Int32), r = some (.int (wvM W (vcM S f k n))) ∧ S' = gk_dt S (nmM S f k) A B ∧ lwB A) := by
  rcases hw with ⟨hx, rfl⟩ | ⟨j, hj, hx, nc, hn, hn2, ⟨rfl, hno⟩ | ⟨i0, M, C, t0, t1, rfl, h3, h4, h5, h6, h7, h8, h9, h10, h11⟩⟩
  · rw [show wvM none (vcM S f k n) = S.1 400 (37 + 5 * f + k) from vcM_9]
    exact k_X2_worthBy_m ho hx hlw hy hf hz hk
  · rw [show wvM none (vcM S f k n) = S.1 400 (37 + 5 * f + k) from vcM_9]
    exact k_X2_worthBy_n ho hx hj hlw hy hf hz hk hn hn2 hno
  · exact k_X2_worthBy_w ho hx hj hy hf hz hk hn hn2 h3 h4 h5 h6 h7 h8 h9 h10 hcl hu ((h11 _ _ hag).2 [] []) hlw
