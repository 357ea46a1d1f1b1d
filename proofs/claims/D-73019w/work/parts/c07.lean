def grw (n : Nat) : Nat := if n = 0 then 10 else n + n / 2
theorem al_g1 {n k : Nat} {P : Prop} (hn : (n = 0 ∧ P ∧ k = 0) ∨ (10 ≤ n ∧ k = n)) (h5 : n < 50000) (c : (0 : Int32) < nI n) : 10 ≤ n ∧ k = n := by
  rcases hn with h | h
  · rw [h.1] at c; exact absurd c (by decide)
  · exact h
theorem al_g0 {n k : Nat} {P : Prop} (hn : (n = 0 ∧ P ∧ k = 0) ∨ (10 ≤ n ∧ k = n)) (h5 : n < 50000) (c : ¬ (0 : Int32) < nI n) : n = 0 ∧ P ∧ k = 0 := by
  rcases hn with h | h
  · exact h
  · exfalso
    apply c
    have h1 : (0 : Int32).toInt < (nI n).toInt := by rw [nI_toInt (by omega)]; show (0 : Int) < _; omega
    exact Int32.lt_iff_toInt_lt.mpr h1
theorem al_m10 : (if (10 : Int32) < nI (0 + 1) then nI (0 + 1) else (10 : Int32)) = 10 := by decide
theorem cpy_0 {x g : Nat → Option Nat} : va_cpy x g 0 0 0 = g := by
  funext j
  unfold va_cpy
  rw [if_neg (by omega)]
theorem al_one {n : Nat} : nI (n + 1) - nI n = 1 := by
  rw [← nI_add, Int32.add_comm, Int32.add_sub_cancel]
  rfl
theorem al_shr {n : Nat} (h : n < 100000) : nI n >>> (1 : Int32) = nI (n / 2) := by
  apply Int32.toBitVec_inj.mp
  rw [Int32.toBitVec_shiftRight, show (1 : Int32).toBitVec.smod 32 = 1#32 by decide]
  apply BitVec.eq_of_toInt_eq
  rw [BitVec.sshiftRight', BitVec.toInt_sshiftRight]
  have h1 : (nI n).toBitVec.toInt = (n : Int) := nI_toInt (by omega)
  have h2 : (nI (n / 2)).toBitVec.toInt = ((n / 2 : Nat) : Int) := nI_toInt (by omega)
  rw [h1, h2, Int.shiftRight_eq_div_pow]
  rw [show (1#32).toNat = 1 by decide]
  omega
set_option maxHeartbeats 600000 in
theorem k_J3_grow_2 {l : Launch} {E : gk_E} {S : gk_S} {i1 : Int32} {o1 b n k : Nat} {mo : Int32} {x : Nat → Option Nat} (hi : i1 = nI (k + 1)) (h : LsA E S o1 mo b n k x) (hbo : E.2.2.2.1 ≤ o1) (hn : (n = 0 ∧ b = E.2.2.1 903 ∧ k = 0) ∨ (10 ≤ n ∧ k = n)) (h5 : n < 50000) (hel : ∀ i : Nat, i < n → ∀ y : Nat, x i = some y → ∃ ci fs, S.2.2.2 y = some (.inr (ci, fs))) : gk_TZ l E yJ3_grow_2 cJ3_grow_2 4 ((some (.array (.object "java/lang/Object")))) 3 140 1 (grw n) [.ref o1, .int i1] S (fun r S' => ∃ q : Nat, r = some (.ref q) ∧ S.2.2.2 q = none ∧ E.2.2.2.1 ≤ q ∧ S' = gk_sd (gk_sd S q (.inl (E.2.1 6, grw n, .inr (.inr (.inr (.inr (va_cpy x (fun _ => none) 0 0 n))))))) o1 (.inr (17, [.int mo, .ref q, .int (nI k)]))) := by
  refine gk_TZ.of [some (.ref o1), some (.int i1), none, none] (by decide) (Nat.le_of_ble_eq_true rfl) (le_1 rfl (le_1 rfl (le_p (le_p le_n)))) ?_
  intro p_ e_ R_ s_ m_ args_ below_ meth_ c_ hR X hZ hr hin
  subst hR
  subst hi
  refine g_aload_n X dJ3_grow_2_0 rfl ?_
  refine g_get (C := RJ3) (T := TJ3) (N := 3) X 1 in_J3 dJ3_grow_2_1 q377 (rd_dy h.1) rfl (Nat.le_of_ble_eq_true rfl) (fun _ h9 => h9) rfl ?_
  refine g_alen (t := 6) X dJ3_grow_2_4 h.2.1 rfl ?_
  refine g_istore_n X dJ3_grow_2_5 (Nat.le_of_ble_eq_true rfl) ?_
  refine g_iload_n X dJ3_grow_2_6 rfl ?_
  refine g_if_gt (tgt := 20) X dJ3_grow_2_7 rfl (fun c7 => ?_) (fun c7 => ?_)
  · obtain ⟨h10, hk⟩ := al_g1 hn h5 c7
    subst hk
    have hg : grw k = k + k / 2 := if_neg (by omega)
    refine g_iload_n X dJ3_grow_2_20 rfl ?_
    refine g_iload_n X dJ3_grow_2_21 rfl ?_
    refine g_iload_n X dJ3_grow_2_22 rfl ?_
    refine g_isub X dJ3_grow_2_23 ?_
    refine g_iload_n X dJ3_grow_2_24 rfl ?_
    refine g_iconst (v := 1) X dJ3_grow_2_25 rfl ?_
    refine g_ishr X dJ3_grow_2_26 ?_
    refine g_callS X (k_J14_newLength (n := k) rfl al_one (al_shr (by omega)) (by omega) (by omega)) (lw_S q744 q745 q165 q746) hd_J14_newLength dJ3_grow_2_27 rfl ⟨by first | omega | (dsimp only; omega), by first | omega | (dsimp only; omega)⟩ ⟨by first | omega | (dsimp only; omega), by first | omega | (dsimp only; omega)⟩ (Nat.le_of_ble_eq_true rfl) ?_
    rintro _ S1 ⟨rfl, hS1⟩
    obtain rfl := hS1.symm
    refine g_istore_n X dJ3_grow_2_30 (Nat.le_of_ble_eq_true rfl) ?_
    refine g_aload_n X dJ3_grow_2_31 rfl ?_
    refine g_aload_n X dJ3_grow_2_32 rfl ?_
    refine g_get (C := RJ3) (T := TJ3) (N := 3) X 1 in_J3 dJ3_grow_2_33 q377 (rd_dy h.1) rfl (Nat.le_of_ble_eq_true rfl) (fun _ h9 => h9) rfl ?_
    refine g_iload_n X dJ3_grow_2_36 rfl ?_
    refine g_callSZ X hZ (k_J0_copyOf rfl h.2.1 (by omega) (by omega) hel) (lw_S q754 q755 q137 q756) hd_J0_copyOf dJ3_grow_2_37 rfl ⟨by first | omega | (dsimp only; omega), by first | omega | (dsimp only; omega)⟩ ⟨by first | omega | (dsimp only; omega), by first | omega | (dsimp only; omega)⟩ (Nat.le_of_ble_eq_true rfl) ?_
    rintro _ S1 ⟨q1, rfl, hq1, hb1, rfl⟩
    refine g_dup_x1 X dJ3_grow_2_40 rfl rfl ?_
    refine g_putd (C := RJ3) (T := TJ3) (N := 3) X 1 in_J3 tyJ3 tyJ3_ok nmJ3 dJ3_grow_2_41 (Or.inl q377) (sd_ne hq1 h.1) hbo rfl (Nat.le_of_ble_eq_true rfl) (fun _ h9 => h9) rfl rfl rfl (Nat.le_of_ble_eq_true rfl) ?_
    exact g_aret X hr (Or.inr ⟨_, rfl⟩) dJ3_grow_2_44 (by omega) (by omega) ⟨q1, rfl, hq1, hb1, by rw [hg]; rfl⟩
  · obtain ⟨h0, hb0, hk0⟩ := al_g0 hn h5 c7
    subst h0; subst hk0; subst hb0
    refine g_aload_n X dJ3_grow_2_10 rfl ?_
    refine g_get (C := RJ3) (T := TJ3) (N := 3) X 1 in_J3 dJ3_grow_2_11 q377 (rd_dy h.1) rfl (Nat.le_of_ble_eq_true rfl) (fun _ h9 => h9) rfl ?_
    refine g_gets (C := "java/util/ArrayList") (n := "DEFAULTCAPACITY_EMPTY_ELEMENTDATA") (d := "[Ljava/lang/Object;") X dJ3_grow_2_14 q375 (List.mem_of_getElem? (i := 3) rfl) (fun _ h9 => h9) ?_
    refine g_acmp_eq (rx := some (E.2.2.1 903)) (ry := some (E.2.2.1 903)) (tgt := 45) X dJ3_grow_2_17 rfl (fun _ => ?_) (fun z => absurd rfl z)
    refine g_aload_n X dJ3_grow_2_45 rfl ?_
    refine g_bipush (v := 10) X dJ3_grow_2_46 rfl ?_
    refine g_iload_n X dJ3_grow_2_48 rfl ?_
    refine g_mmax X dJ3_grow_2_49 q788 q748 q149 q749 (Nat.le_of_ble_eq_true rfl) (Nat.le_of_ble_eq_true rfl) ⟨by first | omega | (dsimp only; omega), by first | omega | (dsimp only; omega)⟩ ?_
    refine g_top al_m10 ?_
    refine g_anew (t := 6) (N := 10) X dJ3_grow_2_52 q789 (List.mem_cons_of_mem _ List.mem_cons_self) rfl rfl (by decide) (by dsimp only [grw]; decide) (by dsimp only [grw]; decide) (fun q1 hq1 hb1 => ?_)
    refine g_dup_x1 X dJ3_grow_2_55 rfl rfl ?_
    refine g_putd (C := RJ3) (T := TJ3) (N := 3) X 1 in_J3 tyJ3 tyJ3_ok nmJ3 dJ3_grow_2_56 (Or.inl q377) (sd_ne hq1 h.1) hbo rfl (Nat.le_of_ble_eq_true rfl) (fun _ h9 => h9) rfl rfl rfl (Nat.le_of_ble_eq_true rfl) ?_
    exact g_aret X hr (Or.inr ⟨_, rfl⟩) dJ3_grow_2_59 (by decide) (by decide) ⟨q1, rfl, hq1, hb1, by rw [cpy_0]; rfl⟩
set_option maxHeartbeats 600000 in
theorem k_J3_grow {l : Launch} {E : gk_E} {S : gk_S}  {o1 b n k : Nat} {mo : Int32} {x : Nat → Option Nat} (h : LsA E S o1 mo b n k x) (hbo : E.2.2.2.1 ≤ o1) (hn : (n = 0 ∧ b = E.2.2.1 903 ∧ k = 0) ∨ (10 ≤ n ∧ k = n)) (h5 : n < 50000) (hel : ∀ i : Nat, i < n → ∀ y : Nat, x i = some y → ∃ ci fs, S.2.2.2 y = some (.inr (ci, fs))) : gk_TZ l E yJ3_grow cJ3_grow 1 ((some (.array (.object "java/lang/Object")))) 4 190 1 (grw n) [.ref o1] S (fun r S' => ∃ q : Nat, r = some (.ref q) ∧ S.2.2.2 q = none ∧ E.2.2.2.1 ≤ q ∧ S' = gk_sd (gk_sd S q (.inl (E.2.1 6, grw n, .inr (.inr (.inr (.inr (va_cpy x (fun _ => none) 0 0 n))))))) o1 (.inr (17, [.int mo, .ref q, .int (nI k)]))) := by
  refine gk_TZ.of [some (.ref o1)] (by decide) (Nat.le_of_ble_eq_true rfl) (fun _ _ h => h) ?_
  intro p_ e_ R_ s_ m_ args_ below_ meth_ c_ hR X hZ hr hin
  subst hR
  refine g_aload_n X dJ3_grow_0 rfl ?_
  refine g_aload_n X dJ3_grow_1 rfl ?_
  refine g_get (C := RJ3) (T := TJ3) (N := 3) X 2 in_J3 dJ3_grow_2 q378 (rd_dy h.1) rfl (Nat.le_of_ble_eq_true rfl) (fun _ h9 => h9) rfl ?_
  refine g_iconst (v := 1) X dJ3_grow_5 rfl ?_
  refine g_iadd X dJ3_grow_6 ?_
  rw [show nI k + 1 = nI (k + 1) from nI_add k 1]
  refine g_callVZ (C := RJ3) (T := TJ3) (N := 3) X hZ (k_J3_grow_2 rfl h hbo hn h5 hel) (lw_V q740 q742 qs21 q144 q743) hd_J3_grow_2 dJ3_grow_7 (rd_dy h.1) rfl rfl ⟨by first | omega | (dsimp only; omega), by first | omega | (dsimp only; omega)⟩ ⟨by first | omega | (dsimp only; omega), by first | omega | (dsimp only; omega)⟩ (Nat.le_of_ble_eq_true rfl) ?_
  rintro _ S1 ⟨q1, rfl, hq1, hb1, rfl⟩
  exact g_aret X hr (Or.inr ⟨_, rfl⟩) dJ3_grow_10 (by omega) (by omega) ⟨q1, rfl, hq1, hb1, rfl⟩
