/-- the field of those left that a farmer wants most -/
abbrev waP (w : Nat → Int32) (left : Int32) (k : Nat) (b : Int32) : Prop := hs left (nI k) ∧ (b = -1 ∨ w (ix b) < w k)
def waB (w : Nat → Int32) (left : Int32) (i : Nat) : Int32 := itr (fun k b => if waP w left k b then nI k else b) i (-1)
theorem waB_t {w : Nat → Int32} {i : Nat} {left : Int32} (h : waP w left i (waB w left i)) : nI i = waB w left (i + 1) := (if_pos h).symm
theorem waB_f {w : Nat → Int32} {i : Nat} {left : Int32} (h : ¬ waP w left i (waB w left i)) : waB w left i = waB w left (i + 1) := (if_neg h).symm
theorem waB_in {w : Nat → Int32} {left : Int32} (i : Nat) : waB w left i = -1 ∨ ∃ v, v < i ∧ waB w left i = nI v ∧ hs left (nI v) := by
  induction i with
  | zero => exact Or.inl rfl
  | succ i ih =>
    by_cases h : waP w left i (waB w left i)
    · exact Or.inr ⟨i, by omega, (waB_t h).symm, h.1⟩
    · rw [← waB_f h]
      exact ih.imp id (fun ⟨v, h1, h2, h3⟩ => ⟨v, by omega, h2, h3⟩)
theorem waB_ne {w : Nat → Int32} {left : Int32} {v : Nat} (hv : hs left (nI v)) : ∀ i, i ≤ 1000 → v < i → waB w left i ≠ -1
  | 0, _, h => by omega
  | i + 1, hi, h => by
    by_cases h2 : waP w left i (waB w left i)
    · rw [← waB_t h2]
      exact nI_ne_m1 (by omega)
    · rw [← waB_f h2]
      rcases Nat.lt_or_ge v i with q | q
      · exact waB_ne hv i (by omega) q
      · have : v = i := by omega
        subst this
        intro z
        exact h2 ⟨hv, Or.inl z⟩
set_option maxHeartbeats 600000 in
theorem k_X0_wantedOf {l : Launch} {E : gk_E} (ho : E.2.2.2.2 = true) {S : gk_S} {x : Int32} {left : Int32} {i : Nat} (hx : x = nI i) (hi : i < 5) : gk_T l E yX0_wantedOf cX0_wantedOf 5 ((some .int)) 1 21 0 0 [.ref (E.2.2.1 0), .int x, .int left] S (fun r S' => r = some (.int (waB (S.1 (20 + i)) left 5)) ∧ S' = S) := by
  refine gk_T.of [some (.ref (E.2.2.1 0)), some (.int x), some (.int left), none, none] (by decide) (Nat.le_of_ble_eq_true rfl) (le_1 rfl (le_1 rfl (le_1 rfl (le_p (le_p le_n))))) ?_
  intro p_ e_ R_ s_ m_ args_ below_ meth_ c_ hR X hr hin
  subst hR
  refine g_iconst (v := (-1)) X dX0_wantedOf_0 rfl ?_
  refine g_istore_n X dX0_wantedOf_1 (Nat.le_of_ble_eq_true rfl) ?_
  refine g_iconst (v := 0) X dX0_wantedOf_2 rfl ?_
  refine g_istore X dX0_wantedOf_3 (Nat.le_of_ble_eq_true rfl) ?_
  refine g_loop (σ := Nat) (fun (k : Nat) => S) (fun (k : Nat) => ([some (.ref (E.2.2.1 0)), some (.int x), some (.int left), some (.int (waB (S.1 (20 + i)) left k)), some (.int (nI k))] : List (Option Value))) (fun (k : Nat) => k ≤ 5) (fun (k : Nat) => 5 - k) (0) ?_ (rfl) (le_1 rfl (le_1 rfl (le_1 rfl (le_1 rfl (le_1 rfl le_n))))) ?_
  · omega
  intro k hI ih
  try dsimp only at hI ih ⊢
  refine g_iload X dX0_wantedOf_5 rfl ?_
  refine g_iconst (v := 5) X dX0_wantedOf_7 rfl ?_
  refine g_icmp_ge (tgt := 60) X dX0_wantedOf_8 rfl (fun c8 => ?_) (fun c8 => ?_)
  · refine g_iload_n X dX0_wantedOf_60 rfl ?_
    exact g_iret X hr dX0_wantedOf_61 (Nat.le_of_ble_eq_true rfl) (Nat.le_of_ble_eq_true rfl) (⟨by rw [out_of (by omega) hI c8], rfl⟩)
  · have hk : k < 5 := in_of (by omega) hI c8
    refine g_iload_n X dX0_wantedOf_11 rfl ?_
    refine g_iload X dX0_wantedOf_12 rfl ?_
    refine g_callS X (k_X0_has ho) (lw_S q1028 q1029 q135 q1030) hd_X0_has dX0_wantedOf_14 rfl ⟨Nat.le_of_ble_eq_true rfl, Nat.le_of_ble_eq_true rfl⟩ ⟨Nat.le_of_ble_eq_true rfl, Nat.le_of_ble_eq_true rfl⟩ (Nat.le_of_ble_eq_true rfl) ?_
    rintro _ S1 ⟨rfl, hS1⟩
    obtain rfl := hS1.symm
    refine g_ifp_eq (tgt := 54) X dX0_wantedOf_17 rfl (fun c17 => ?_) (fun c17 => ?_)
    · refine g_iinc (v := 1) X dX0_wantedOf_54 rfl rfl (Nat.le_of_ble_eq_true rfl) ?_
      refine g_goto (tgt := 5) X dX0_wantedOf_57 rfl ?_
      refine g_sub (le_1 rfl (le_1 rfl (le_1 rfl (le_1 (ei (waB_f (w := (S.1 (20 + i))) (fun z => c17 z.1))) (le_1 e_1 le_n))))) (ih (k + 1) ?_ ?_)
      · try dsimp only
        omega
      · try dsimp only
        omega
    · refine g_iload_n X dX0_wantedOf_20 rfl ?_
      refine g_iconst (v := (-1)) X dX0_wantedOf_21 rfl ?_
      refine g_icmp_eq (tgt := 51) X dX0_wantedOf_22 rfl (fun c22 => ?_) (fun c22 => ?_)
      · refine g_iload X dX0_wantedOf_51 rfl ?_
        refine g_istore_n X dX0_wantedOf_53 (Nat.le_of_ble_eq_true rfl) ?_
        refine g_iinc (v := 1) X dX0_wantedOf_54 rfl rfl (Nat.le_of_ble_eq_true rfl) ?_
        refine g_goto (tgt := 5) X dX0_wantedOf_57 rfl ?_
        refine g_sub (le_1 rfl (le_1 rfl (le_1 rfl (le_1 (ei (waB_t (w := (S.1 (20 + i))) ⟨c17, Or.inl c22⟩)) (le_1 e_1 le_n))))) (ih (k + 1) ?_ ?_)
        · try dsimp only
          omega
        · try dsimp only
          omega
      · obtain ⟨v, hv1, hv2, -⟩ := (waB_in (w := (S.1 (20 + i))) (left := left) k).resolve_left c22
        refine g_aload_n X dX0_wantedOf_25 rfl ?_
        refine g_get (C := RX0) (T := TX0) (N := 13) X 0 in_X0 dX0_wantedOf_26 q241 (rd0 ho) rfl (Nat.le_of_ble_eq_true rfl) (fun _ h9 => h9) rfl ?_
        refine g_getN (C := RX1) (T := TX1) (N := 8) X 4 in_X1 dX0_wantedOf_29 q203 (rd1 ho) rfl (Nat.le_of_ble_eq_true rfl) (fun _ h9 => h9) rfl ?_
        refine g_iload_n X dX0_wantedOf_32 rfl ?_
        refine g_aald (t := 4) (j := i) X dX0_wantedOf_33 (rd14 ho) rfl rfl hx hi (by decide) rfl ?_
        refine g_iload X dX0_wantedOf_34 rfl ?_
        refine g_iald (j := k) X dX0_wantedOf_36 (rdi ho (20 + (i)) (kd_want hi)) rfl hk (by decide) ?_
        refine g_aload_n X dX0_wantedOf_37 rfl ?_
        refine g_get (C := RX0) (T := TX0) (N := 13) X 0 in_X0 dX0_wantedOf_38 q241 (rd0 ho) rfl (Nat.le_of_ble_eq_true rfl) (fun _ h9 => h9) rfl ?_
        refine g_getN (C := RX1) (T := TX1) (N := 8) X 4 in_X1 dX0_wantedOf_41 q203 (rd1 ho) rfl (Nat.le_of_ble_eq_true rfl) (fun _ h9 => h9) rfl ?_
        refine g_iload_n X dX0_wantedOf_44 rfl ?_
        refine g_aald (t := 4) (j := i) X dX0_wantedOf_45 (rd14 ho) rfl rfl hx hi (by decide) rfl ?_
        refine g_iload_n X dX0_wantedOf_46 rfl ?_
        refine g_iald (j := v) X dX0_wantedOf_47 (rdi ho (20 + (i)) (kd_want hi)) hv2 (by omega) (by decide) ?_
        refine g_icmp_le (tgt := 54) X dX0_wantedOf_48 rfl (fun c48 => ?_) (fun c48 => ?_)
        · refine g_iinc (v := 1) X dX0_wantedOf_54 rfl rfl (Nat.le_of_ble_eq_true rfl) ?_
          refine g_goto (tgt := 5) X dX0_wantedOf_57 rfl ?_
          refine g_sub (le_1 rfl (le_1 rfl (le_1 rfl (le_1 (ei (waB_f (w := (S.1 (20 + i))) (fun z => z.2.elim c22 (fun y => absurd (by rw [hv2, ix_n (by omega)] at y; exact y) (Int32.not_lt.mpr c48))))) (le_1 e_1 le_n))))) (ih (k + 1) ?_ ?_)
          · try dsimp only
            omega
          · try dsimp only
            omega
        · refine g_iload X dX0_wantedOf_51 rfl ?_
          refine g_istore_n X dX0_wantedOf_53 (Nat.le_of_ble_eq_true rfl) ?_
          refine g_iinc (v := 1) X dX0_wantedOf_54 rfl rfl (Nat.le_of_ble_eq_true rfl) ?_
          refine g_goto (tgt := 5) X dX0_wantedOf_57 rfl ?_
          refine g_sub (le_1 rfl (le_1 rfl (le_1 rfl (le_1 (ei (waB_t (w := (S.1 (20 + i))) ⟨c17, Or.inr (by rw [hv2, ix_n (by omega)]; exact Int32.not_le.mp c48)⟩)) (le_1 e_1 le_n))))) (ih (k + 1) ?_ ?_)
          · try dsimp only
            omega
          · try dsimp only
            omega
set_option maxHeartbeats 600000 in
theorem k_X0_power {l : Launch} {E : gk_E} (ho : E.2.2.2.2 = true) : ∀ (d : Nat) {S : gk_S} {x : Int32} {k : Nat} (_ : x = nI k) (_ : k ≤ d ∧ k < 9), gk_T l E yX0_power cX0_power 1 (some .int) d (20 * d) 0 0 [.int x] S (fun r S' => r = some (.int (nI (10 ^ k))) ∧ S' = S) := by
  intro d
  induction d with
  | zero =>
    intro S x k hx ⟨hy, hy2⟩
    refine gk_T.of [some (.int x)] (by decide) (Nat.le_of_ble_eq_true rfl) (fun _ _ h => h) ?_
    intro p_ e_ R_ s_ m_ args_ below_ meth_ c_ hR X hr hin
    subst hR
    refine g_iload_n X dX0_power_0 rfl ?_
    refine g_if_ne (tgt := 8) X dX0_power_1 rfl (fun c1 => ?_) (fun c1 => ?_)
    · exact absurd (by rw [hx, show k = 0 by omega]; rfl) c1
    · refine g_iconst (v := 1) X dX0_power_4 rfl ?_
      refine g_goto (tgt := 17) X dX0_power_5 rfl ?_
      exact g_iret X hr dX0_power_17 (Nat.le_of_ble_eq_true rfl) (Nat.le_of_ble_eq_true rfl) (⟨by rw [show k = 0 from (nI_eq (by omega) (by decide)).mp (hx.symm.trans c1)]; rfl, rfl⟩)
  | succ d ih =>
    intro S x k hx ⟨hy, hy2⟩
    refine gk_T.of [some (.int x)] (by decide) (Nat.le_of_ble_eq_true rfl) (fun _ _ h => h) ?_
    intro p_ e_ R_ s_ m_ args_ below_ meth_ c_ hR X hr hin
    subst hR
    refine g_iload_n X dX0_power_0 rfl ?_
    refine g_if_ne (tgt := 8) X dX0_power_1 rfl (fun c1 => ?_) (fun c1 => ?_)
    · have hk0 : k ≠ 0 := fun z => c1 (by rw [hx, z]; rfl)
      refine g_bipush (v := 10) X dX0_power_8 rfl ?_
      refine g_iload_n X dX0_power_10 rfl ?_
      refine g_iconst (v := 1) X dX0_power_11 rfl ?_
      refine g_isub X dX0_power_12 ?_
      refine g_callS X (ih (k := k - 1) (by rw [hx]; obtain ⟨q, rfl⟩ : ∃ q, k = q + 1 := ⟨k - 1, by omega⟩; exact nI_pred q) ⟨by omega, by omega⟩) (lw_S q1281 q1282 q135 q1283) hd_X0_power dX0_power_13 rfl ⟨Nat.le_refl _, by show 8 + (1 + 11) + 20 * d ≤ 20 * (d + 1); omega⟩ ⟨Nat.le_of_ble_eq_true rfl, Nat.le_of_ble_eq_true rfl⟩ (Nat.le_of_ble_eq_true rfl) ?_
      rintro _ S1 ⟨rfl, hS1⟩
      obtain rfl := hS1.symm
      refine g_imul X dX0_power_16 ?_
      exact g_iret X hr dX0_power_17 (Nat.le_of_ble_eq_true rfl) (Nat.le_of_ble_eq_true rfl) (⟨by obtain ⟨q, rfl⟩ : ∃ q, k = q + 1 := ⟨k - 1, by omega⟩; show some (Value.int (nI 10 * nI (10 ^ q))) = _; rw [pk_mul, Nat.pow_succ, Nat.mul_comm], rfl⟩)
    · refine g_iconst (v := 1) X dX0_power_4 rfl ?_
      refine g_goto (tgt := 17) X dX0_power_5 rfl ?_
      exact g_iret X hr dX0_power_17 (Nat.le_of_ble_eq_true rfl) (Nat.le_of_ble_eq_true rfl) (⟨by rw [show k = 0 from (nI_eq (by omega) (by decide)).mp (hx.symm.trans c1)]; rfl, rfl⟩)
def dgC (o : Int32) (k : Nat) : Int32 := o / nI (10 ^ k) - o / nI (10 ^ k) / 10 * 10
def odC (o : Int32) (i : Nat) : Int32 := itr (fun k a => a ||| one (dgC o k)) i 0
theorem odC_s {o : Int32} {i : Nat} : odC o i ||| one (dgC o i) = odC o (i + 1) := rfl
def dvM (o : Int32) (i : Nat) : Int32 := itr (fun _ v => v / 10) i o
def dgM (o : Int32) (k : Nat) : Int32 := dvM o (4 - k) - dvM o (4 - k) / 10 * 10
def odM (o : Int32) (i : Nat) : Int32 := itr (fun k a => a ||| one (dgM o k)) i 0
theorem odM_s {o : Int32} {i : Nat} : odM o i ||| one (dgM o i) = odM o (i + 1) := rfl
theorem p10 : ∀ k, k < 9 → ¬ nI (10 ^ k) = 0 := by decide
set_option maxHeartbeats 600000 in
theorem k_X0_isOrder {l : Launch} {E : gk_E} (ho : E.2.2.2.2 = true) {S : gk_S} {o : Int32}   : gk_T l E yX0_isOrder cX0_isOrder 3 ((some .boolean)) 6 120 0 0 [.int o] S (fun r S' => r = some (.int (bP ((0 ≤ o ∧ o ≤ 43210) ∧ odC o 5 = 31))) ∧ S' = S) := by
  refine gk_T.of [some (.int o), none, none] (by decide) (Nat.le_of_ble_eq_true rfl) (le_1 rfl (le_p (le_p le_n))) ?_
  intro p_ e_ R_ s_ m_ args_ below_ meth_ c_ hR X hr hin
  subst hR
  refine g_iconst (v := 0) X dX0_isOrder_0 rfl ?_
  refine g_istore_n X dX0_isOrder_1 (Nat.le_of_ble_eq_true rfl) ?_
  refine g_iconst (v := 0) X dX0_isOrder_2 rfl ?_
  refine g_istore_n X dX0_isOrder_3 (Nat.le_of_ble_eq_true rfl) ?_
  refine g_loop (σ := Nat) (fun (k : Nat) => S) (fun (k : Nat) => ([some (.int o), some (.int (odC o k)), some (.int (nI k))] : List (Option Value))) (fun (k : Nat) => k ≤ 5) (fun (k : Nat) => 5 - k) (0) ?_ (rfl) (le_1 rfl (le_1 rfl (le_1 rfl le_n))) ?_
  · omega
  intro k hI ih
  try dsimp only at hI ih ⊢
  refine g_iload_n X dX0_isOrder_4 rfl ?_
  refine g_iconst (v := 5) X dX0_isOrder_5 rfl ?_
  refine g_icmp_ge (tgt := 29) X dX0_isOrder_6 rfl (fun c6 => ?_) (fun c6 => ?_)
  · have hk := out_of (by omega) hI c6
    subst hk
    refine g_iload_n X dX0_isOrder_29 rfl ?_
    refine g_iconst (v := 0) X dX0_isOrder_30 rfl ?_
    refine g_ldcw X dX0_isOrder_31 q1284 ?_
    refine g_callS X (k_X0_in ho) (lw_S q291 q292 q135 q293) hd_X0_in dX0_isOrder_34 rfl ⟨Nat.le_of_ble_eq_true rfl, Nat.le_of_ble_eq_true rfl⟩ ⟨Nat.le_of_ble_eq_true rfl, Nat.le_of_ble_eq_true rfl⟩ (Nat.le_of_ble_eq_true rfl) ?_
    rintro _ S1 ⟨rfl, hS1⟩
    obtain rfl := hS1.symm
    refine g_ifp_eq (tgt := 50) X dX0_isOrder_37 rfl (fun c37 => ?_) (fun c37 => ?_)
    · refine g_iconst (v := 0) X dX0_isOrder_50 rfl ?_
      refine g_zret X hr dX0_isOrder_51 ?_ (Nat.le_of_ble_eq_true rfl) (Nat.le_of_ble_eq_true rfl) ?_
      · first | rfl | exact nb_bP
      · exact ⟨lb_0 (fun z => c37 z.1), rfl⟩
    · refine g_iload_n X dX0_isOrder_40 rfl ?_
      refine g_bipush (v := 31) X dX0_isOrder_41 rfl ?_
      refine g_icmp_ne (tgt := 50) X dX0_isOrder_43 rfl (fun c43 => ?_) (fun c43 => ?_)
      · refine g_iconst (v := 0) X dX0_isOrder_50 rfl ?_
        refine g_zret X hr dX0_isOrder_51 ?_ (Nat.le_of_ble_eq_true rfl) (Nat.le_of_ble_eq_true rfl) ?_
        · first | rfl | exact nb_bP
        · exact ⟨lb_0 (fun z => c43 z.2), rfl⟩
      · refine g_iconst (v := 1) X dX0_isOrder_46 rfl ?_
        refine g_goto (tgt := 51) X dX0_isOrder_47 rfl ?_
        refine g_zret X hr dX0_isOrder_51 ?_ (Nat.le_of_ble_eq_true rfl) (Nat.le_of_ble_eq_true rfl) ?_
        · first | rfl | exact nb_bP
        · exact ⟨lb_1 ⟨c37, c43⟩, rfl⟩
  · have hk : k < 5 := in_of (by omega) hI c6
    refine g_iload_n X dX0_isOrder_9 rfl ?_
    refine g_iconst (v := 1) X dX0_isOrder_10 rfl ?_
    refine g_iload_n X dX0_isOrder_11 rfl ?_
    refine g_iload_n X dX0_isOrder_12 rfl ?_
    refine g_callS X (k_X0_power ho 5 rfl ⟨by omega, by omega⟩) (lw_S q1281 q1282 q135 q1283) hd_X0_power dX0_isOrder_13 rfl ⟨Nat.le_of_ble_eq_true rfl, Nat.le_of_ble_eq_true rfl⟩ ⟨Nat.le_of_ble_eq_true rfl, Nat.le_of_ble_eq_true rfl⟩ (Nat.le_of_ble_eq_true rfl) ?_
    rintro _ S1 ⟨rfl, hS1⟩
    obtain rfl := hS1.symm
    refine g_idiv X dX0_isOrder_16 (p10 k (by omega)) ?_
    refine g_bipush (v := 10) X dX0_isOrder_17 rfl ?_
    refine g_irem X dX0_isOrder_19 (by decide) ?_
    refine g_ishl X dX0_isOrder_20 ?_
    refine g_ior X dX0_isOrder_21 ?_
    refine g_istore_n X dX0_isOrder_22 (Nat.le_of_ble_eq_true rfl) ?_
    refine g_iinc (v := 1) X dX0_isOrder_23 rfl rfl (Nat.le_of_ble_eq_true rfl) ?_
    refine g_goto (tgt := 4) X dX0_isOrder_26 rfl ?_
    refine g_sub (le_1 rfl (le_1 (ei rfl) (le_1 e_1 le_n))) (ih (k + 1) ?_ ?_)
    · try dsimp only
      omega
    · try dsimp only
      omega
set_option maxHeartbeats 600000 in
theorem k_X2_digitOf {l : Launch} {E : gk_E} (ho : E.2.2.2.2 = true) {S : gk_S} {o : Int32} {x : Int32} {k : Nat} (hx : x = nI k) (hk : k < 5) : gk_T l E yX2_digitOf cX2_digitOf 4 ((some .int)) 0 0 0 0 [.int o, .int x] S (fun r S' => r = some (.int (dgM o k)) ∧ S' = S) := by
  refine gk_T.of [some (.int o), some (.int x), none, none] (by decide) (Nat.le_of_ble_eq_true rfl) (le_1 rfl (le_1 rfl (le_p (le_p le_n)))) ?_
  intro p_ e_ R_ s_ m_ args_ below_ meth_ c_ hR X hr hin
  subst hR
  refine g_iload_n X dX2_digitOf_0 rfl ?_
  refine g_istore_n X dX2_digitOf_1 (Nat.le_of_ble_eq_true rfl) ?_
  refine g_iconst (v := 4) X dX2_digitOf_2 rfl ?_
  refine g_istore_n X dX2_digitOf_3 (Nat.le_of_ble_eq_true rfl) ?_
  refine g_loop (σ := Nat) (fun (i : Nat) => S) (fun (i : Nat) => ([some (.int o), some (.int x), some (.int (dvM o i)), some (.int (nI (4 - i)))] : List (Option Value))) (fun (i : Nat) => i ≤ 4 - k) (fun (i : Nat) => 4 - k - i) (0) ?_ (rfl) (le_1 rfl (le_1 rfl (le_1 rfl (le_1 rfl le_n)))) ?_
  · omega
  intro i hI ih
  try dsimp only at hI ih ⊢
  refine g_iload_n X dX2_digitOf_4 rfl ?_
  refine g_iload_n X dX2_digitOf_5 rfl ?_
  refine g_icmp_le (tgt := 20) X dX2_digitOf_6 rfl (fun c6 => ?_) (fun c6 => ?_)
  · have hi : i = 4 - k := by
      have := (nI_leI (a := 4 - i) (b := k) (by omega) (by omega)).mp (by rw [← hx]; exact c6)
      omega
    subst hi
    refine g_iload_n X dX2_digitOf_20 rfl ?_
    refine g_bipush (v := 10) X dX2_digitOf_21 rfl ?_
    refine g_irem X dX2_digitOf_23 (by decide) ?_
    exact g_iret X hr dX2_digitOf_24 (Nat.le_of_ble_eq_true rfl) (Nat.le_of_ble_eq_true rfl) (⟨rfl, rfl⟩)
  · have hi : i < 4 - k := by
      rcases Nat.lt_or_ge i (4 - k) with q | q
      · exact q
      · exact absurd (by rw [hx]; exact nI_le (by omega) (by omega)) c6
    refine g_iload_n X dX2_digitOf_9 rfl ?_
    refine g_bipush (v := 10) X dX2_digitOf_10 rfl ?_
    refine g_idiv X dX2_digitOf_12 (by decide) ?_
    refine g_istore_n X dX2_digitOf_13 (Nat.le_of_ble_eq_true rfl) ?_
    refine g_iinc (v := (-1)) X dX2_digitOf_14 rfl rfl (Nat.le_of_ble_eq_true rfl) ?_
    refine g_goto (tgt := 4) X dX2_digitOf_17 rfl ?_
    refine g_sub (le_1 rfl (le_1 rfl (le_1 (ei rfl) (le_1 (e_m1 (by omega)) le_n)))) (ih (i + 1) ?_ ?_)
    · try dsimp only
      omega
    · try dsimp only
      omega
set_option maxHeartbeats 600000 in
theorem k_X2_isOrder {l : Launch} {E : gk_E} (ho : E.2.2.2.2 = true) {S : gk_S} {o : Int32}   : gk_T l E yX2_isOrder cX2_isOrder 3 ((some .boolean)) 1 23 0 0 [.int o] S (fun r S' => r = some (.int (bP ((1234 ≤ o ∧ o ≤ 43210) ∧ odM o 5 = 31))) ∧ S' = S) := by
  refine gk_T.of [some (.int o), none, none] (by decide) (Nat.le_of_ble_eq_true rfl) (le_1 rfl (le_p (le_p le_n))) ?_
  intro p_ e_ R_ s_ m_ args_ below_ meth_ c_ hR X hr hin
  subst hR
  refine g_iload_n X dX2_isOrder_0 rfl ?_
  refine g_sipush (v := 1234) X dX2_isOrder_1 rfl ?_
  refine g_ldcw X dX2_isOrder_4 q2010 ?_
  refine g_callS X (k_X2_isIn ho) (lw_S q1516 q1517 q139 q1518) hd_X2_isIn dX2_isOrder_7 rfl ⟨Nat.le_of_ble_eq_true rfl, Nat.le_of_ble_eq_true rfl⟩ ⟨Nat.le_of_ble_eq_true rfl, Nat.le_of_ble_eq_true rfl⟩ (Nat.le_of_ble_eq_true rfl) ?_
  rintro _ S1 ⟨rfl, hS1⟩
  obtain rfl := hS1.symm
  refine g_ifp_ne (tgt := 15) X dX2_isOrder_10 rfl (fun c10 => ?_) (fun c10 => ?_)
  · refine g_iconst (v := 0) X dX2_isOrder_15 rfl ?_
    refine g_istore_n X dX2_isOrder_16 (Nat.le_of_ble_eq_true rfl) ?_
    refine g_iconst (v := 0) X dX2_isOrder_17 rfl ?_
    refine g_istore_n X dX2_isOrder_18 (Nat.le_of_ble_eq_true rfl) ?_
    refine g_loop (σ := Nat) (fun (k : Nat) => S) (fun (k : Nat) => ([some (.int o), some (.int (odM o k)), some (.int (nI k))] : List (Option Value))) (fun (k : Nat) => k ≤ 5) (fun (k : Nat) => 5 - k) (0) ?_ (rfl) (le_1 rfl (le_1 rfl (le_1 rfl le_n))) ?_
    · omega
    intro k hI ih
    try dsimp only at hI ih ⊢
    refine g_iload_n X dX2_isOrder_19 rfl ?_
    refine g_iconst (v := 5) X dX2_isOrder_20 rfl ?_
    refine g_icmp_ge (tgt := 40) X dX2_isOrder_21 rfl (fun c21 => ?_) (fun c21 => ?_)
    · have hk := out_of (by omega) hI c21
      subst hk
      refine g_iload_n X dX2_isOrder_40 rfl ?_
      refine g_bipush (v := 31) X dX2_isOrder_41 rfl ?_
      refine g_icmp_ne (tgt := 50) X dX2_isOrder_43 rfl (fun c43 => ?_) (fun c43 => ?_)
      · refine g_iconst (v := 0) X dX2_isOrder_50 rfl ?_
        refine g_zret X hr dX2_isOrder_51 ?_ (Nat.le_of_ble_eq_true rfl) (Nat.le_of_ble_eq_true rfl) ?_
        · first | rfl | exact nb_bP
        · exact ⟨lb_0 (fun z => c43 z.2), rfl⟩
      · refine g_iconst (v := 1) X dX2_isOrder_46 rfl ?_
        refine g_goto (tgt := 51) X dX2_isOrder_47 rfl ?_
        refine g_zret X hr dX2_isOrder_51 ?_ (Nat.le_of_ble_eq_true rfl) (Nat.le_of_ble_eq_true rfl) ?_
        · first | rfl | exact nb_bP
        · exact ⟨lb_1 ⟨c10, c43⟩, rfl⟩
    · have hk : k < 5 := in_of (by omega) hI c21
      refine g_iload_n X dX2_isOrder_24 rfl ?_
      refine g_iconst (v := 1) X dX2_isOrder_25 rfl ?_
      refine g_iload_n X dX2_isOrder_26 rfl ?_
      refine g_iload_n X dX2_isOrder_27 rfl ?_
      refine g_callS X (k_X2_digitOf ho rfl hk) (lw_S q2011 q2012 q139 q2013) hd_X2_digitOf dX2_isOrder_28 rfl ⟨Nat.le_of_ble_eq_true rfl, Nat.le_of_ble_eq_true rfl⟩ ⟨Nat.le_of_ble_eq_true rfl, Nat.le_of_ble_eq_true rfl⟩ (Nat.le_of_ble_eq_true rfl) ?_
      rintro _ S1 ⟨rfl, hS1⟩
      obtain rfl := hS1.symm
      refine g_ishl X dX2_isOrder_31 ?_
      refine g_ior X dX2_isOrder_32 ?_
      refine g_istore_n X dX2_isOrder_33 (Nat.le_of_ble_eq_true rfl) ?_
      refine g_iinc (v := 1) X dX2_isOrder_34 rfl rfl (Nat.le_of_ble_eq_true rfl) ?_
      refine g_goto (tgt := 19) X dX2_isOrder_37 rfl ?_
      refine g_sub (le_1 rfl (le_1 (ei rfl) (le_1 e_1 le_n))) (ih (k + 1) ?_ ?_)
      · try dsimp only
        omega
      · try dsimp only
        omega
  · refine g_iconst (v := 0) X dX2_isOrder_13 rfl ?_
    refine g_zret X hr dX2_isOrder_14 ?_ (Nat.le_of_ble_eq_true rfl) (Nat.le_of_ble_eq_true rfl) ?_
    · first | rfl | exact nb_bP
    · exact ⟨lb_0 (fun z => c10 z.1), rfl⟩
