/-- worlds: the component's answer -/
def wsC (w : Nat) (i : Int32) : Int32 := if i = -1 then bcI (nI w) else if kzN w (ix i) = 0 then -2 else nI (lowN 16 (kzN w (ix i)))
theorem m1_le {i : Int32} (h : -1 ≤ i) (h2 : ¬ i = -1) : 0 ≤ i := by
  rw [Int32.le_iff_toInt_le]
  have h1 := Int32.le_iff_toInt_le.mp h
  rw [show (-1 : Int32).toInt = -1 by decide] at h1
  have h3 : ¬ i.toInt = -1 := fun z => h2 (Int32.toInt_inj.mp (by rw [z]; decide))
  rw [show (0 : Int32).toInt = 0 by decide]
  omega
theorem ix31 (x : Int32) : ix x < 2 ^ 31 := by
  have := x.toNatClampNeg_lt
  omega
theorem in_ofB {i n : Nat} (hn : n < 2 ^ 31) (hi : i ≤ n) (c : ¬ nI n ≤ nI i) : i < n := by
  rcases Nat.lt_or_ge i n with q | q
  · exact q
  · exact absurd (nI_le q (by omega)) c
theorem out_ofB {i n : Nat} (hn : n < 2 ^ 31) (hi : i ≤ n) (c : nI n ≤ nI i) : i = n := Nat.le_antisymm hi ((nI_leI (by omega) (by omega)).mp c)
theorem low_min : ∀ (f v : Nat), v % 2 ^ f ≠ 0 → lowN f v < f ∧ v / 2 ^ (lowN f v) % 2 = 1 ∧ ∀ j, j < lowN f v → v / 2 ^ j % 2 = 0
  | 0, v, h => by omega
  | f + 1, v, h => by
    by_cases h1 : v % 2 = 1
    · have e : lowN (f + 1) v = 0 := by simp [lowN, h1]
      rw [e]
      refine ⟨by omega, by simpa using h1, fun j hj => by omega⟩
    · have e : lowN (f + 1) v = lowN f (v / 2) + 1 := by
        have : Nat.beq (v % 2) 1 = false := by
          cases hb : Nat.beq (v % 2) 1 with
          | false => rfl
          | true => exact absurd (Nat.eq_of_beq_eq_true hb) h1
        simp [lowN, this]
      have hv2 : v / 2 % 2 ^ f ≠ 0 := by
        intro z
        apply h
        rw [Nat.pow_succ, Nat.mul_comm, Nat.mod_mul, z]
        omega
      obtain ⟨q1, q2, q3⟩ := low_min f (v / 2) hv2
      rw [e]
      refine ⟨by omega, by rw [Nat.pow_succ, Nat.mul_comm, ← Nat.div_div_eq_div_mul]; exact q2, fun j hj => ?_⟩
      cases j with
      | zero => simp; omega
      | succ j =>
        rw [Nat.pow_succ, Nat.mul_comm, ← Nat.div_div_eq_div_mul]
        exact q3 j (by omega)
theorem hs_N {v k : Nat} (hv : v < 65536) (hk : k < 16) : hs (nI v) (nI k) ↔ v / 2 ^ k % 2 = 1 := by
  have e : nI v >>> (nI k &&& 31) = nI (v / 2 ^ k) := pk_shrN (by omega) _ k (by exact s_l k (by omega))
  unfold hs
  rw [e]
  show nI (v / 2 ^ k) &&& nI 1 = nI 1 ↔ _
  have h1 : v / 2 ^ k ≤ v := Nat.div_le_self _ _
  rw [nx_and, nI_eq (by have := Nat.and_le_left (n := v / 2 ^ k) (m := 1); omega) (by decide), Nat.and_one_is_mod]
set_option maxHeartbeats 600000 in
theorem k_X0_worlds {l : Launch} {E : gk_E} (ho : E.2.2.2.2 = true) {S : gk_S} {b : Int32} {i : Int32} {a n : Nat} {f : Nat → Int32} (hu : RU E S a n f) (ht : tbW n f) : gk_T l E yX0_worlds cX0_worlds 5 ((some .int)) 4 81 0 0 [.ref (E.2.2.1 0), .int b, .int i] S (fun r S' => r = some (.int (if (0 ≤ b ∧ b ≤ alC n) ∧ -1 ≤ i then wsC (ix (wo n f b)) i else -2)) ∧ S' = S) := by
  refine gk_T.of [some (.ref (E.2.2.1 0)), some (.int b), some (.int i), none, none] (by decide) (Nat.le_of_ble_eq_true rfl) (le_1 rfl (le_1 rfl (le_1 rfl (le_p (le_p le_n))))) ?_
  intro p_ e_ R_ s_ m_ args_ below_ meth_ c_ hR X hr hin
  subst hR
  have hn8 : n ≤ 8 := hu.1
  obtain ⟨w, hw, hw2⟩ := wo_w (b := b) ht
  have hwx : ix (wo n f b) = w := by rw [hw2, ix_n (by omega)]
  refine g_aload_n X dX0_worlds_0 rfl ?_
  refine g_iload_n X dX0_worlds_1 rfl ?_
  refine g_callV (C := RX0) (T := TX0) (N := 13) X (k_X0_areClaims ho hu) (lw_V q1193 q1195 qs44 q135 q1196) hd_X0_areClaims dX0_worlds_2 (rd0 ho) rfl rfl ⟨Nat.le_of_ble_eq_true rfl, Nat.le_of_ble_eq_true rfl⟩ ⟨Nat.le_of_ble_eq_true rfl, Nat.le_of_ble_eq_true rfl⟩ (Nat.le_of_ble_eq_true rfl) ?_
  rintro _ S1 ⟨rfl, hS1⟩
  obtain rfl := hS1.symm
  refine g_ifp_eq (tgt := 13) X dX0_worlds_5 rfl (fun c5 => ?_) (fun c5 => ?_)
  · refine g_bipush (v := (-2)) X dX0_worlds_13 rfl ?_
    exact g_iret X hr dX0_worlds_15 (Nat.le_of_ble_eq_true rfl) (Nat.le_of_ble_eq_true rfl) (⟨by rw [if_neg (fun z => c5 z.1)], rfl⟩)
  · refine g_iload_n X dX0_worlds_8 rfl ?_
    refine g_iconst (v := (-1)) X dX0_worlds_9 rfl ?_
    refine g_icmp_ge (tgt := 16) X dX0_worlds_10 rfl (fun c10 => ?_) (fun c10 => ?_)
    · refine g_aload_n X dX0_worlds_16 rfl ?_
      refine g_iload_n X dX0_worlds_17 rfl ?_
      refine g_callV (C := RX0) (T := TX0) (N := 13) X (k_X0_worldsOf ho hu) (lw_V q1043 q1045 qs32 q135 q1046) hd_X0_worldsOf dX0_worlds_18 (rd0 ho) rfl rfl ⟨Nat.le_of_ble_eq_true rfl, Nat.le_of_ble_eq_true rfl⟩ ⟨Nat.le_of_ble_eq_true rfl, Nat.le_of_ble_eq_true rfl⟩ (Nat.le_of_ble_eq_true rfl) ?_
      rintro _ S1 ⟨rfl, hS1⟩
      obtain rfl := hS1.symm
      refine g_istore_n X dX0_worlds_21 (Nat.le_of_ble_eq_true rfl) ?_
      refine g_iload_n X dX0_worlds_22 rfl ?_
      refine g_iconst (v := (-1)) X dX0_worlds_23 rfl ?_
      refine g_icmp_ne (tgt := 32) X dX0_worlds_24 rfl (fun c24 => ?_) (fun c24 => ?_)
      · have hi0 := m1_le c10 c24
        refine g_iconst (v := 0) X dX0_worlds_32 rfl ?_
        refine g_istore X dX0_worlds_33 (Nat.le_of_ble_eq_true rfl) ?_
        refine g_loop (σ := Nat) (fun (k : Nat) => S) (fun (k : Nat) => ([some (.ref (E.2.2.1 0)), some (.int b), some (.int i), some (.int (nI (kzN w k))), some (.int (nI k))] : List (Option Value))) (fun (k : Nat) => k ≤ ix i) (fun (k : Nat) => ix i - k) (0) ?_ (rfl) (le_1 rfl (le_1 rfl (le_1 rfl (le_1 (ei hw2) (le_1 rfl le_n))))) ?_
        · exact Nat.zero_le _
        intro k hI ih
        try dsimp only at hI ih ⊢
        refine g_iload X dX0_worlds_35 rfl ?_
        refine g_iload_n X dX0_worlds_37 rfl ?_
        refine g_icmp_ge (tgt := 53) X dX0_worlds_38 rfl (fun c38 => ?_) (fun c38 => ?_)
        · have hk : k = ix i := out_ofB (ix31 i) hI (by rw [← ix_i hi0]; exact c38)
          subst hk
          refine g_iload_n X dX0_worlds_53 rfl ?_
          refine g_if_ne (tgt := 62) X dX0_worlds_54 rfl (fun c54 => ?_) (fun c54 => ?_)
          · have hz : kzN w (ix i) ≠ 0 := fun z => c54 (by rw [z]; rfl)
            refine g_iload_n X dX0_worlds_62 rfl ?_
            refine g_callS X (k_J13_numberOfTrailingZeros ho rfl (kzN_lt hw _) hz) (lw_S q1197 q1198 q163 q1199) hd_J13_numberOfTrailingZeros dX0_worlds_63 rfl ⟨Nat.le_of_ble_eq_true rfl, Nat.le_of_ble_eq_true rfl⟩ ⟨Nat.le_of_ble_eq_true rfl, Nat.le_of_ble_eq_true rfl⟩ (Nat.le_of_ble_eq_true rfl) ?_
            rintro _ S1 ⟨rfl, hS1⟩
            obtain rfl := hS1.symm
            exact g_iret X hr dX0_worlds_66 (Nat.le_of_ble_eq_true rfl) (Nat.le_of_ble_eq_true rfl) (⟨by rw [if_pos ⟨c5, c10⟩, hwx]; unfold wsC; rw [if_neg c24, if_neg hz], rfl⟩)
          · refine g_bipush (v := (-2)) X dX0_worlds_57 rfl ?_
            refine g_goto (tgt := 66) X dX0_worlds_59 rfl ?_
            exact g_iret X hr dX0_worlds_66 (Nat.le_of_ble_eq_true rfl) (Nat.le_of_ble_eq_true rfl) (⟨by rw [if_pos ⟨c5, c10⟩, hwx]; unfold wsC; rw [if_neg c24, if_pos ((nI_eq (by have := kzN_lt hw (ix i); omega) (by decide)).mp c54)], rfl⟩)
        · have hk : k < ix i := in_ofB (ix31 i) hI (by rw [← ix_i hi0]; exact c38)
          refine g_iload_n X dX0_worlds_41 rfl ?_
          refine g_iload_n X dX0_worlds_42 rfl ?_
          refine g_iconst (v := 1) X dX0_worlds_43 rfl ?_
          refine g_isub X dX0_worlds_44 ?_
          refine g_iand X dX0_worlds_45 ?_
          refine g_istore_n X dX0_worlds_46 (Nat.le_of_ble_eq_true rfl) ?_
          refine g_iinc (v := 1) X dX0_worlds_47 rfl rfl (Nat.le_of_ble_eq_true rfl) ?_
          refine g_goto (tgt := 35) X dX0_worlds_50 rfl ?_
          refine g_sub (le_1 rfl (le_1 rfl (le_1 rfl (le_1 (ei (and_m1' (kzN_lt hw k))) (le_1 e_1 le_n))))) (ih (k + 1) ?_ ?_)
          · try dsimp only
            omega
          · try dsimp only
            omega
      · refine g_iload_n X dX0_worlds_27 rfl ?_
        refine g_callS X (k_J13_bitCount ho) (lw_S q1068 q1069 q163 q1070) hd_J13_bitCount dX0_worlds_28 rfl ⟨Nat.le_of_ble_eq_true rfl, Nat.le_of_ble_eq_true rfl⟩ ⟨Nat.le_of_ble_eq_true rfl, Nat.le_of_ble_eq_true rfl⟩ (Nat.le_of_ble_eq_true rfl) ?_
        rintro _ S1 ⟨rfl, hS1⟩
        obtain rfl := hS1.symm
        exact g_iret X hr dX0_worlds_31 (Nat.le_of_ble_eq_true rfl) (Nat.le_of_ble_eq_true rfl) (⟨by rw [if_pos ⟨c5, c10⟩, hwx]; unfold wsC; rw [if_pos c24, hw2], rfl⟩)
    · refine g_bipush (v := (-2)) X dX0_worlds_13 rfl ?_
      exact g_iret X hr dX0_worlds_15 (Nat.le_of_ble_eq_true rfl) (Nat.le_of_ble_eq_true rfl) (⟨by rw [if_neg (fun z => c10 z.2)], rfl⟩)
set_option maxHeartbeats 600000 in
theorem k_X2_worlds {l : Launch} {E : gk_E} (ho : E.2.2.2.2 = true) {S : gk_S} {b : Int32} {i : Int32} {n : Nat} {f : Nat → Int32} (hu : MU S n f) (ht : tbW n f) : gk_T l E yX2_worlds cX2_worlds 5 ((some .int)) 3 61 0 0 [.ref (E.2.2.1 3), .int b, .int i] S (fun r S' => r = some (.int (if 0 ≤ b ∧ b ≤ alC n then (if i = -1 ∨ (0 ≤ i ∧ i ≤ bcI (wo n f b) - 1) then wsC (ix (wo n f b)) i else -2) else -2)) ∧ S' = S) := by
  refine gk_T.of [some (.ref (E.2.2.1 3)), some (.int b), some (.int i), none, none] (by decide) (Nat.le_of_ble_eq_true rfl) (le_1 rfl (le_1 rfl (le_1 rfl (le_p (le_p le_n))))) ?_
  intro p_ e_ R_ s_ m_ args_ below_ meth_ c_ hR X hr hin
  subst hR
  have hn8 : n ≤ 8 := hu.1
  obtain ⟨w, hw, hw2⟩ := wo_w (b := b) ht
  have hwx : ix (wo n f b) = w := by rw [hw2, ix_n (by omega)]
  refine g_aload_n X dX2_worlds_0 rfl ?_
  refine g_iload_n X dX2_worlds_1 rfl ?_
  refine g_callV (C := RX2) (T := TX2) (N := 35) X (k_X2_areClaims ho hu) (lw_V q1939 q1941 qs121 q139 q1942) hd_X2_areClaims dX2_worlds_2 (rd3 ho) rfl rfl ⟨Nat.le_of_ble_eq_true rfl, Nat.le_of_ble_eq_true rfl⟩ ⟨Nat.le_of_ble_eq_true rfl, Nat.le_of_ble_eq_true rfl⟩ (Nat.le_of_ble_eq_true rfl) ?_
  rintro _ S1 ⟨rfl, hS1⟩
  obtain rfl := hS1.symm
  refine g_ifp_ne (tgt := 11) X dX2_worlds_5 rfl (fun c5 => ?_) (fun c5 => ?_)
  · refine g_aload_n X dX2_worlds_11 rfl ?_
    refine g_iload_n X dX2_worlds_12 rfl ?_
    refine g_callV (C := RX2) (T := TX2) (N := 35) X (k_X2_worldsOf ho hu) (lw_V q1763 q1765 qs99 q139 q1766) hd_X2_worldsOf dX2_worlds_13 (rd3 ho) rfl rfl ⟨Nat.le_of_ble_eq_true rfl, Nat.le_of_ble_eq_true rfl⟩ ⟨Nat.le_of_ble_eq_true rfl, Nat.le_of_ble_eq_true rfl⟩ (Nat.le_of_ble_eq_true rfl) ?_
    rintro _ S1 ⟨rfl, hS1⟩
    obtain rfl := hS1.symm
    refine g_istore_n X dX2_worlds_16 (Nat.le_of_ble_eq_true rfl) ?_
    refine g_iload_n X dX2_worlds_17 rfl ?_
    refine g_iconst (v := (-1)) X dX2_worlds_18 rfl ?_
    refine g_icmp_ne (tgt := 27) X dX2_worlds_19 rfl (fun c19 => ?_) (fun c19 => ?_)
    · refine g_iload_n X dX2_worlds_27 rfl ?_
      refine g_iconst (v := 0) X dX2_worlds_28 rfl ?_
      refine g_iload_n X dX2_worlds_29 rfl ?_
      refine g_callS X (k_X2_bits ho hw2 hw) (lw_S q1822 q1823 q139 q1824) hd_X2_bits dX2_worlds_30 rfl ⟨Nat.le_of_ble_eq_true rfl, Nat.le_of_ble_eq_true rfl⟩ ⟨Nat.le_of_ble_eq_true rfl, Nat.le_of_ble_eq_true rfl⟩ (Nat.le_of_ble_eq_true rfl) ?_
      rintro _ S1 ⟨rfl, hS1⟩
      obtain rfl := hS1.symm
      refine g_iconst (v := 1) X dX2_worlds_33 rfl ?_
      refine g_isub X dX2_worlds_34 ?_
      refine g_callS X (k_X2_isIn ho) (lw_S q1516 q1517 q139 q1518) hd_X2_isIn dX2_worlds_35 rfl ⟨Nat.le_of_ble_eq_true rfl, Nat.le_of_ble_eq_true rfl⟩ ⟨Nat.le_of_ble_eq_true rfl, Nat.le_of_ble_eq_true rfl⟩ (Nat.le_of_ble_eq_true rfl) ?_
      rintro _ S1 ⟨rfl, hS1⟩
      obtain rfl := hS1.symm
      refine g_ifp_ne (tgt := 44) X dX2_worlds_38 rfl (fun c38 => ?_) (fun c38 => ?_)
      · refine g_iconst (v := 0) X dX2_worlds_44 rfl ?_
        refine g_istore X dX2_worlds_45 (Nat.le_of_ble_eq_true rfl) ?_
        refine g_loop (σ := Nat) (fun (k : Nat) => S) (fun (k : Nat) => ([some (.ref (E.2.2.1 3)), some (.int b), some (.int i), some (.int (nI (kzN w k))), some (.int (nI k))] : List (Option Value))) (fun (k : Nat) => k ≤ ix i) (fun (k : Nat) => ix i - k) (0) ?_ (rfl) (le_1 rfl (le_1 rfl (le_1 rfl (le_1 (ei hw2) (le_1 rfl le_n))))) ?_
        · exact Nat.zero_le _
        intro k hI ih
        try dsimp only at hI ih ⊢
        refine g_iload X dX2_worlds_47 rfl ?_
        refine g_iload_n X dX2_worlds_49 rfl ?_
        refine g_icmp_ge (tgt := 65) X dX2_worlds_50 rfl (fun c50 => ?_) (fun c50 => ?_)
        · have hk : k = ix i := out_ofB (ix31 i) hI (by rw [← ix_i c38.1]; exact c50)
          subst hk
          have hz : kzN w (ix i) ≠ 0 := by
            intro z
            have h1 := (kzN_bc hw (ix i)).mp z
            have h2 := c38.2
            have h63 := bcN_le (w := w)
            rw [hw2, bcI_N hw] at h2
            cases hb : bcN w with
            | zero =>
              rw [hb] at h2
              have h3 := Int32.le_iff_toInt_le.mp c38.1
              have h4 := Int32.le_iff_toInt_le.mp h2
              rw [show (nI 0 - 1 : Int32).toInt = -1 by decide] at h4
              rw [show (0 : Int32).toInt = 0 by decide] at h3
              omega
            | succ q =>
              rw [hb, nI_pred] at h2
              have := ix_le q (by omega) c38.1 h2
              omega
          obtain ⟨l1, l2, l3⟩ := low_min 16 (kzN w (ix i)) (by have := kzN_lt hw (ix i); omega)
          have hkl := kzN_lt hw (ix i)
          refine g_iconst (v := 0) X dX2_worlds_65 rfl ?_
          refine g_istore X dX2_worlds_66 (Nat.le_of_ble_eq_true rfl) ?_
          refine g_loop (σ := Nat) (fun (t : Nat) => S) (fun (t : Nat) => ([some (.ref (E.2.2.1 3)), some (.int b), some (.int i), some (.int (nI (kzN w (ix i)))), some (.int (nI t))] : List (Option Value))) (fun (t : Nat) => t ≤ lowN 16 (kzN w (ix i))) (fun (t : Nat) => lowN 16 (kzN w (ix i)) - t) (0) ?_ (rfl) (le_1 rfl (le_1 rfl (le_1 rfl (le_1 rfl (le_1 rfl le_n))))) ?_
          · exact Nat.zero_le _
          intro t hI ih
          try dsimp only at hI ih ⊢
          refine g_iload_n X dX2_worlds_68 rfl ?_
          refine g_iload X dX2_worlds_69 rfl ?_
          refine g_callS X (k_X2_has ho) (lw_S q1711 q1712 q139 q1713) hd_X2_has dX2_worlds_71 rfl ⟨Nat.le_of_ble_eq_true rfl, Nat.le_of_ble_eq_true rfl⟩ ⟨Nat.le_of_ble_eq_true rfl, Nat.le_of_ble_eq_true rfl⟩ (Nat.le_of_ble_eq_true rfl) ?_
          rintro _ S1 ⟨rfl, hS1⟩
          obtain rfl := hS1.symm
          refine g_ifp_ne (tgt := 83) X dX2_worlds_74 rfl (fun c74 => ?_) (fun c74 => ?_)
          · have ht : t = lowN 16 (kzN w (ix i)) := by
              rcases Nat.lt_or_ge t (lowN 16 (kzN w (ix i))) with q | q
              · exact absurd ((hs_N hkl (by omega)).mp c74) (by rw [l3 t q]; decide)
              · omega
            refine g_iload X dX2_worlds_83 rfl ?_
            exact g_iret X hr dX2_worlds_85 (Nat.le_of_ble_eq_true rfl) (Nat.le_of_ble_eq_true rfl) (⟨by rw [if_pos c5, if_pos (Or.inr c38), hwx]; unfold wsC; rw [if_neg c19, if_neg hz, ht], rfl⟩)
          · have ht : t < lowN 16 (kzN w (ix i)) := by
              rcases Nat.lt_or_ge t (lowN 16 (kzN w (ix i))) with q | q
              · exact q
              · exact absurd (by rw [show t = lowN 16 (kzN w (ix i)) by omega]; exact (hs_N hkl l1).mpr l2) c74
            refine g_iinc (v := 1) X dX2_worlds_77 rfl rfl (Nat.le_of_ble_eq_true rfl) ?_
            refine g_goto (tgt := 68) X dX2_worlds_80 rfl ?_
            refine g_sub (le_1 rfl (le_1 rfl (le_1 rfl (le_1 rfl (le_1 e_1 le_n))))) (ih (t + 1) ?_ ?_)
            · try dsimp only
              omega
            · try dsimp only
              omega
        · have hk : k < ix i := in_ofB (ix31 i) hI (by rw [← ix_i c38.1]; exact c50)
          refine g_iload_n X dX2_worlds_53 rfl ?_
          refine g_iload_n X dX2_worlds_54 rfl ?_
          refine g_iconst (v := 1) X dX2_worlds_55 rfl ?_
          refine g_isub X dX2_worlds_56 ?_
          refine g_iand X dX2_worlds_57 ?_
          refine g_istore_n X dX2_worlds_58 (Nat.le_of_ble_eq_true rfl) ?_
          refine g_iinc (v := 1) X dX2_worlds_59 rfl rfl (Nat.le_of_ble_eq_true rfl) ?_
          refine g_goto (tgt := 47) X dX2_worlds_62 rfl ?_
          refine g_sub (le_1 rfl (le_1 rfl (le_1 rfl (le_1 (ei (and_m1' (kzN_lt hw k))) (le_1 e_1 le_n))))) (ih (k + 1) ?_ ?_)
          · try dsimp only
            omega
          · try dsimp only
            omega
      · refine g_bipush (v := (-2)) X dX2_worlds_41 rfl ?_
        exact g_iret X hr dX2_worlds_43 (Nat.le_of_ble_eq_true rfl) (Nat.le_of_ble_eq_true rfl) (⟨by rw [if_pos c5, if_neg (fun z => z.elim c19 c38)], rfl⟩)
    · refine g_iload_n X dX2_worlds_22 rfl ?_
      refine g_callS X (k_X2_bits ho hw2 hw) (lw_S q1822 q1823 q139 q1824) hd_X2_bits dX2_worlds_23 rfl ⟨Nat.le_of_ble_eq_true rfl, Nat.le_of_ble_eq_true rfl⟩ ⟨Nat.le_of_ble_eq_true rfl, Nat.le_of_ble_eq_true rfl⟩ (Nat.le_of_ble_eq_true rfl) ?_
      rintro _ S1 ⟨rfl, hS1⟩
      obtain rfl := hS1.symm
      exact g_iret X hr dX2_worlds_26 (Nat.le_of_ble_eq_true rfl) (Nat.le_of_ble_eq_true rfl) (⟨by rw [if_pos c5, if_pos (Or.inl c19), hwx]; unfold wsC; rw [if_pos c19, hw2], rfl⟩)
  · refine g_bipush (v := (-2)) X dX2_worlds_8 rfl ?_
    exact g_iret X hr dX2_worlds_10 (Nat.le_of_ble_eq_true rfl) (Nat.le_of_ble_eq_true rfl) (⟨by rw [if_neg c5], rfl⟩)
set_option maxHeartbeats 600000 in
theorem k_X0_about {l : Launch} {E : gk_E} (ho : E.2.2.2.2 = true) {S : gk_S} {w : Int32}   : gk_T l E yX0_about cX0_about 2 ((some .int)) 1 20 0 0 [.ref (E.2.2.1 0), .int w] S (fun r S' => r = some (.int (if w = 0 then S.1 10 0 else if w = 1 then S.1 10 1 else if w = 2 then S.1 10 2 else if w = 3 then S.1 10 3 else if w = 4 then S.1 10 4 else if w = 5 then S.1 200 3 else -2)) ∧ S' = S) := by
  refine gk_T.of [some (.ref (E.2.2.1 0)), some (.int w)] (by decide) (Nat.le_of_ble_eq_true rfl) (fun _ _ h => h) ?_
  intro p_ e_ R_ s_ m_ args_ below_ meth_ c_ hR X hr hin
  subst hR
  refine g_iload_n X dX0_about_0 rfl ?_
  rcases Decidable.em ((w).toInt < 0 ∨ 5 < (w).toInt) with h1 | h1
  · refine g_tableOut (tgt := 90) X dX0_about_1 h1 rfl ?_
    refine g_bipush (v := (-2)) X dX0_about_90 rfl ?_
    exact g_iret X hr dX0_about_92 (Nat.le_of_ble_eq_true rfl) (Nat.le_of_ble_eq_true rfl) (⟨by rw [if_neg (fun z => by rw [z] at h1; revert h1; decide), if_neg (fun z => by rw [z] at h1; revert h1; decide), if_neg (fun z => by rw [z] at h1; revert h1; decide), if_neg (fun z => by rw [z] at h1; revert h1; decide), if_neg (fun z => by rw [z] at h1; revert h1; decide), if_neg (fun z => by rw [z] at h1; revert h1; decide)], rfl⟩)
  · rcases (show (w).toInt = 0 ∨ (w).toInt = 1 ∨ (w).toInt = 2 ∨ (w).toInt = 3 ∨ (w).toInt = 4 ∨ (w).toInt = 5 from by omega) with s1 | s1 | s1 | s1 | s1 | s1
    · have s1 : w = 0 := Int32.toInt_inj.mp (s1.trans (by decide))
      refine g_tableIn (off := 39) (tgt := 40) X dX0_about_1 (by rw [s1]; decide) (by rw [s1]; decide) (by rw [s1]; rfl) rfl ?_
      refine g_aload_n X dX0_about_40 rfl ?_
      refine g_callV (C := RX0) (T := TX0) (N := 13) X (k_X0_farmers ho) (lw_V q287 q289 qs0 q135 q290) hd_X0_farmers dX0_about_41 (rd0 ho) rfl rfl ⟨Nat.le_of_ble_eq_true rfl, Nat.le_of_ble_eq_true rfl⟩ ⟨Nat.le_of_ble_eq_true rfl, Nat.le_of_ble_eq_true rfl⟩ (Nat.le_of_ble_eq_true rfl) ?_
      rintro _ S1 ⟨rfl, hS1⟩
      obtain rfl := hS1.symm
      exact g_iret X hr dX0_about_44 (Nat.le_of_ble_eq_true rfl) (Nat.le_of_ble_eq_true rfl) (⟨by rw [ if_pos s1], rfl⟩)
    · have s1 : w = 1 := Int32.toInt_inj.mp (s1.trans (by decide))
      refine g_tableIn (off := 44) (tgt := 45) X dX0_about_1 (by rw [s1]; decide) (by rw [s1]; decide) (by rw [s1]; rfl) rfl ?_
      refine g_aload_n X dX0_about_45 rfl ?_
      refine g_get (C := RX0) (T := TX0) (N := 13) X 0 in_X0 dX0_about_46 q241 (rd0 ho) rfl (Nat.le_of_ble_eq_true rfl) (fun _ h9 => h9) rfl ?_
      refine g_getN (C := RX1) (T := TX1) (N := 8) X 0 in_X1 dX0_about_49 q195 (rd1 ho) rfl (Nat.le_of_ble_eq_true rfl) (fun _ h9 => h9) rfl ?_
      refine g_iconst (v := 1) X dX0_about_52 rfl ?_
      refine g_iald (j := 1) X dX0_about_53 (rdi ho (10) (rfl)) rfl (by decide) (by decide) ?_
      exact g_iret X hr dX0_about_54 (Nat.le_of_ble_eq_true rfl) (Nat.le_of_ble_eq_true rfl) (⟨by rw [if_neg (by rw [s1]; decide), if_pos s1], rfl⟩)
    · have s1 : w = 2 := Int32.toInt_inj.mp (s1.trans (by decide))
      refine g_tableIn (off := 54) (tgt := 55) X dX0_about_1 (by rw [s1]; decide) (by rw [s1]; decide) (by rw [s1]; rfl) rfl ?_
      refine g_aload_n X dX0_about_55 rfl ?_
      refine g_get (C := RX0) (T := TX0) (N := 13) X 0 in_X0 dX0_about_56 q241 (rd0 ho) rfl (Nat.le_of_ble_eq_true rfl) (fun _ h9 => h9) rfl ?_
      refine g_getN (C := RX1) (T := TX1) (N := 8) X 0 in_X1 dX0_about_59 q195 (rd1 ho) rfl (Nat.le_of_ble_eq_true rfl) (fun _ h9 => h9) rfl ?_
      refine g_iconst (v := 2) X dX0_about_62 rfl ?_
      refine g_iald (j := 2) X dX0_about_63 (rdi ho (10) (rfl)) rfl (by decide) (by decide) ?_
      exact g_iret X hr dX0_about_64 (Nat.le_of_ble_eq_true rfl) (Nat.le_of_ble_eq_true rfl) (⟨by rw [if_neg (by rw [s1]; decide), if_neg (by rw [s1]; decide), if_pos s1], rfl⟩)
    · have s1 : w = 3 := Int32.toInt_inj.mp (s1.trans (by decide))
      refine g_tableIn (off := 64) (tgt := 65) X dX0_about_1 (by rw [s1]; decide) (by rw [s1]; decide) (by rw [s1]; rfl) rfl ?_
      refine g_aload_n X dX0_about_65 rfl ?_
      refine g_get (C := RX0) (T := TX0) (N := 13) X 0 in_X0 dX0_about_66 q241 (rd0 ho) rfl (Nat.le_of_ble_eq_true rfl) (fun _ h9 => h9) rfl ?_
      refine g_getN (C := RX1) (T := TX1) (N := 8) X 0 in_X1 dX0_about_69 q195 (rd1 ho) rfl (Nat.le_of_ble_eq_true rfl) (fun _ h9 => h9) rfl ?_
      refine g_iconst (v := 3) X dX0_about_72 rfl ?_
      refine g_iald (j := 3) X dX0_about_73 (rdi ho (10) (rfl)) rfl (by decide) (by decide) ?_
      exact g_iret X hr dX0_about_74 (Nat.le_of_ble_eq_true rfl) (Nat.le_of_ble_eq_true rfl) (⟨by rw [if_neg (by rw [s1]; decide), if_neg (by rw [s1]; decide), if_neg (by rw [s1]; decide), if_pos s1], rfl⟩)
    · have s1 : w = 4 := Int32.toInt_inj.mp (s1.trans (by decide))
      refine g_tableIn (off := 74) (tgt := 75) X dX0_about_1 (by rw [s1]; decide) (by rw [s1]; decide) (by rw [s1]; rfl) rfl ?_
      refine g_aload_n X dX0_about_75 rfl ?_
      refine g_get (C := RX0) (T := TX0) (N := 13) X 0 in_X0 dX0_about_76 q241 (rd0 ho) rfl (Nat.le_of_ble_eq_true rfl) (fun _ h9 => h9) rfl ?_
      refine g_getN (C := RX1) (T := TX1) (N := 8) X 0 in_X1 dX0_about_79 q195 (rd1 ho) rfl (Nat.le_of_ble_eq_true rfl) (fun _ h9 => h9) rfl ?_
      refine g_iconst (v := 4) X dX0_about_82 rfl ?_
      refine g_iald (j := 4) X dX0_about_83 (rdi ho (10) (rfl)) rfl (by decide) (by decide) ?_
      exact g_iret X hr dX0_about_84 (Nat.le_of_ble_eq_true rfl) (Nat.le_of_ble_eq_true rfl) (⟨by rw [if_neg (by rw [s1]; decide), if_neg (by rw [s1]; decide), if_neg (by rw [s1]; decide), if_neg (by rw [s1]; decide), if_pos s1], rfl⟩)
    · have s1 : w = 5 := Int32.toInt_inj.mp (s1.trans (by decide))
      refine g_tableIn (off := 84) (tgt := 85) X dX0_about_1 (by rw [s1]; decide) (by rw [s1]; decide) (by rw [s1]; rfl) rfl ?_
      refine g_aload_n X dX0_about_85 rfl ?_
      refine g_get (C := RX0) (T := TX0) (N := 13) X 3 in_X0 dX0_about_86 q244 (rd0 ho) rfl (Nat.le_of_ble_eq_true rfl) (fun _ h9 => h9) rfl ?_
      exact g_iret X hr dX0_about_89 (Nat.le_of_ble_eq_true rfl) (Nat.le_of_ble_eq_true rfl) (⟨by rw [if_neg (by rw [s1]; decide), if_neg (by rw [s1]; decide), if_neg (by rw [s1]; decide), if_neg (by rw [s1]; decide), if_neg (by rw [s1]; decide), if_pos s1], rfl⟩)
set_option maxHeartbeats 600000 in
theorem k_X2_about {l : Launch} {E : gk_E} (ho : E.2.2.2.2 = true) {S : gk_S} {w : Int32}   : gk_T l E yX2_about cX2_about 2 ((some .int)) 1 22 0 0 [.ref (E.2.2.1 3), .int w] S (fun r S' => r = some (.int (if 0 ≤ w ∧ w ≤ 4 then S.1 400 (ix w) else if w = 5 then S.1 201 4 else -2)) ∧ S' = S) := by
  refine gk_T.of [some (.ref (E.2.2.1 3)), some (.int w)] (by decide) (Nat.le_of_ble_eq_true rfl) (fun _ _ h => h) ?_
  intro p_ e_ R_ s_ m_ args_ below_ meth_ c_ hR X hr hin
  subst hR
  refine g_iload_n X dX2_about_0 rfl ?_
  refine g_iconst (v := 0) X dX2_about_1 rfl ?_
  refine g_iconst (v := 4) X dX2_about_2 rfl ?_
  refine g_callS X (k_X2_isIn ho) (lw_S q1516 q1517 q139 q1518) hd_X2_isIn dX2_about_3 rfl ⟨Nat.le_of_ble_eq_true rfl, Nat.le_of_ble_eq_true rfl⟩ ⟨Nat.le_of_ble_eq_true rfl, Nat.le_of_ble_eq_true rfl⟩ (Nat.le_of_ble_eq_true rfl) ?_
  rintro _ S1 ⟨rfl, hS1⟩
  obtain rfl := hS1.symm
  refine g_ifp_eq (tgt := 18) X dX2_about_6 rfl (fun c6 => ?_) (fun c6 => ?_)
  · refine g_iload_n X dX2_about_18 rfl ?_
    refine g_iconst (v := 5) X dX2_about_19 rfl ?_
    refine g_icmp_ne (tgt := 30) X dX2_about_20 rfl (fun c20 => ?_) (fun c20 => ?_)
    · refine g_bipush (v := (-2)) X dX2_about_30 rfl ?_
      exact g_iret X hr dX2_about_32 (Nat.le_of_ble_eq_true rfl) (Nat.le_of_ble_eq_true rfl) (⟨by rw [if_neg c6, if_neg c20], rfl⟩)
    · refine g_aload_n X dX2_about_23 rfl ?_
      refine g_get (C := RX2) (T := TX2) (N := 35) X 4 in_X2 dX2_about_24 q1409 (rd3 ho) rfl (Nat.le_of_ble_eq_true rfl) (fun _ h9 => h9) rfl ?_
      refine g_goto (tgt := 32) X dX2_about_27 rfl ?_
      exact g_iret X hr dX2_about_32 (Nat.le_of_ble_eq_true rfl) (Nat.le_of_ble_eq_true rfl) (⟨by rw [if_neg c6, if_pos c20], rfl⟩)
  · have hw := ix_le 4 (by decide) c6.1 c6.2
    refine g_aload_n X dX2_about_9 rfl ?_
    refine g_get (C := RX2) (T := TX2) (N := 35) X 0 in_X2 dX2_about_10 q1405 (rd3 ho) rfl (Nat.le_of_ble_eq_true rfl) (fun _ h9 => h9) rfl ?_
    refine g_iload_n X dX2_about_13 rfl ?_
    refine g_iald (j := ix w) X dX2_about_14 (rdi ho (400) (rfl)) (ix_i c6.1) (by omega) (by decide) ?_
    refine g_goto (tgt := 32) X dX2_about_15 rfl ?_
    exact g_iret X hr dX2_about_32 (Nat.le_of_ble_eq_true rfl) (Nat.le_of_ble_eq_true rfl) (⟨by rw [if_pos c6], rfl⟩)
set_option maxHeartbeats 600000 in
theorem k_X0_landless {l : Launch} {E : gk_E} (ho : E.2.2.2.2 = true) {S : gk_S}  {nf : Nat} (h0 : S.1 10 0 = nI nf) (h1 : nf ≤ 5) : gk_T l E yX0_landless cX0_landless 3 ((some .int)) 1 20 0 0 [.ref (E.2.2.1 0)] S (fun r S' => r = some (.int (frA (fun c => S.1 11 (11 + ix c) = -1) nf)) ∧ S' = S) := by
  refine gk_T.of [some (.ref (E.2.2.1 0)), none, none] (by decide) (Nat.le_of_ble_eq_true rfl) (le_1 rfl (le_p (le_p le_n))) ?_
  intro p_ e_ R_ s_ m_ args_ below_ meth_ c_ hR X hr hin
  subst hR
  refine g_iconst (v := 0) X dX0_landless_0 rfl ?_
  refine g_istore_n X dX0_landless_1 (Nat.le_of_ble_eq_true rfl) ?_
  refine g_iconst (v := 0) X dX0_landless_2 rfl ?_
  refine g_istore_n X dX0_landless_3 (Nat.le_of_ble_eq_true rfl) ?_
  refine g_loop (σ := Nat) (fun (i : Nat) => S) (fun (i : Nat) => ([some (.ref (E.2.2.1 0)), some (.int (frA (fun c => S.1 11 (11 + ix c) = -1) i)), some (.int (nI i))] : List (Option Value))) (fun (i : Nat) => i ≤ nf) (fun (i : Nat) => nf - i) (0) ?_ (rfl) (le_1 rfl (le_1 rfl (le_1 rfl le_n))) ?_
  · exact Nat.zero_le _
  intro i hI ih
  try dsimp only at hI ih ⊢
  refine g_iload_n X dX0_landless_4 rfl ?_
  refine g_aload_n X dX0_landless_5 rfl ?_
  refine g_callV (C := RX0) (T := TX0) (N := 13) X (k_X0_farmers ho) (lw_V q287 q289 qs0 q135 q290) hd_X0_farmers dX0_landless_6 (rd0 ho) rfl rfl ⟨Nat.le_of_ble_eq_true rfl, Nat.le_of_ble_eq_true rfl⟩ ⟨Nat.le_of_ble_eq_true rfl, Nat.le_of_ble_eq_true rfl⟩ (Nat.le_of_ble_eq_true rfl) ?_
  rintro _ S1 ⟨rfl, hS1⟩
  obtain rfl := hS1.symm
  refine g_icmp_ge (tgt := 44) X dX0_landless_9 rfl (fun c9 => ?_) (fun c9 => ?_)
  · refine g_iload_n X dX0_landless_44 rfl ?_
    exact g_iret X hr dX0_landless_45 (Nat.le_of_ble_eq_true rfl) (Nat.le_of_ble_eq_true rfl) (⟨by rw [out_of (by omega) hI (by rw [← h0]; exact c9)], rfl⟩)
  · have hi : i < nf := in_of (by omega) hI (by rw [← h0]; exact c9)
    refine g_iload_n X dX0_landless_12 rfl ?_
    refine g_aload_n X dX0_landless_13 rfl ?_
    refine g_get (C := RX0) (T := TX0) (N := 13) X 0 in_X0 dX0_landless_14 q241 (rd0 ho) rfl (Nat.le_of_ble_eq_true rfl) (fun _ h9 => h9) rfl ?_
    refine g_getN (C := RX1) (T := TX1) (N := 8) X 1 in_X1 dX0_landless_17 q197 (rd1 ho) rfl (Nat.le_of_ble_eq_true rfl) (fun _ h9 => h9) rfl ?_
    refine g_bipush (v := 11) X dX0_landless_20 rfl ?_
    refine g_iload_n X dX0_landless_22 rfl ?_
    refine g_iadd X dX0_landless_23 ?_
    refine g_iald (j := 11 + i) X dX0_landless_24 (rdi ho (11) (rfl)) (nI_add 11 i) (by omega) (by decide) ?_
    refine g_iconst (v := (-1)) X dX0_landless_25 rfl ?_
    refine g_icmp_ne (tgt := 35) X dX0_landless_26 rfl (fun c26 => ?_) (fun c26 => ?_)
    · refine g_iconst (v := 0) X dX0_landless_35 rfl ?_
      refine g_ior X dX0_landless_36 ?_
      refine g_istore_n X dX0_landless_37 (Nat.le_of_ble_eq_true rfl) ?_
      refine g_iinc (v := 1) X dX0_landless_38 rfl rfl (Nat.le_of_ble_eq_true rfl) ?_
      refine g_goto (tgt := 4) X dX0_landless_41 rfl ?_
      refine g_sub (le_1 rfl (le_1 (ei (frA_f (P := (fun c => S.1 11 (11 + ix c) = -1)) (fun z => c26 (by rw [ix_n (by omega)] at z; exact z)))) (le_1 e_1 le_n))) (ih (i + 1) ?_ ?_)
      · try dsimp only
        omega
      · try dsimp only
        omega
    · refine g_iconst (v := 1) X dX0_landless_29 rfl ?_
      refine g_iload_n X dX0_landless_30 rfl ?_
      refine g_ishl X dX0_landless_31 ?_
      refine g_goto (tgt := 36) X dX0_landless_32 rfl ?_
      refine g_ior X dX0_landless_36 ?_
      refine g_istore_n X dX0_landless_37 (Nat.le_of_ble_eq_true rfl) ?_
      refine g_iinc (v := 1) X dX0_landless_38 rfl rfl (Nat.le_of_ble_eq_true rfl) ?_
      refine g_goto (tgt := 4) X dX0_landless_41 rfl ?_
      refine g_sub (le_1 rfl (le_1 (ei (frA_t (P := (fun c => S.1 11 (11 + ix c) = -1)) (by rw [ix_n (by omega)]; exact c26))) (le_1 e_1 le_n))) (ih (i + 1) ?_ ?_)
      · try dsimp only
        omega
      · try dsimp only
        omega
set_option maxHeartbeats 600000 in
theorem k_X2_landless {l : Launch} {E : gk_E} (ho : E.2.2.2.2 = true) {S : gk_S}  {nf : Nat} (h0 : S.1 400 0 = nI nf) (h1 : nf ≤ 5) : gk_T l E yX2_landless cX2_landless 3 ((some .int)) 1 21 0 0 [.ref (E.2.2.1 3)] S (fun r S' => r = some (.int (frA (fun c => S.1 400 (17 + 2 * ix c) = -1) nf)) ∧ S' = S) := by
  refine gk_T.of [some (.ref (E.2.2.1 3)), none, none] (by decide) (Nat.le_of_ble_eq_true rfl) (le_1 rfl (le_p (le_p le_n))) ?_
  intro p_ e_ R_ s_ m_ args_ below_ meth_ c_ hR X hr hin
  subst hR
  refine g_iconst (v := 0) X dX2_landless_0 rfl ?_
  refine g_istore_n X dX2_landless_1 (Nat.le_of_ble_eq_true rfl) ?_
  refine g_iconst (v := 0) X dX2_landless_2 rfl ?_
  refine g_istore_n X dX2_landless_3 (Nat.le_of_ble_eq_true rfl) ?_
  refine g_loop (σ := Nat) (fun (i : Nat) => S) (fun (i : Nat) => ([some (.ref (E.2.2.1 3)), some (.int (frA (fun c => S.1 400 (17 + 2 * ix c) = -1) i)), some (.int (nI i))] : List (Option Value))) (fun (i : Nat) => i ≤ nf) (fun (i : Nat) => nf - i) (0) ?_ (rfl) (le_1 rfl (le_1 rfl (le_1 rfl le_n))) ?_
  · exact Nat.zero_le _
  intro i hI ih
  try dsimp only at hI ih ⊢
  refine g_iload_n X dX2_landless_4 rfl ?_
  refine g_aload_n X dX2_landless_5 rfl ?_
  refine g_get (C := RX2) (T := TX2) (N := 35) X 0 in_X2 dX2_landless_6 q1405 (rd3 ho) rfl (Nat.le_of_ble_eq_true rfl) (fun _ h9 => h9) rfl ?_
  refine g_iconst (v := 0) X dX2_landless_9 rfl ?_
  refine g_iald (j := 0) X dX2_landless_10 (rdi ho (400) (rfl)) rfl (by decide) (by decide) ?_
  refine g_icmp_ge (tgt := 39) X dX2_landless_11 rfl (fun c11 => ?_) (fun c11 => ?_)
  · refine g_iload_n X dX2_landless_39 rfl ?_
    exact g_iret X hr dX2_landless_40 (Nat.le_of_ble_eq_true rfl) (Nat.le_of_ble_eq_true rfl) (⟨by rw [out_of (by omega) hI (by rw [← h0]; exact c11)], rfl⟩)
  · have hi : i < nf := in_of (by omega) hI (by rw [← h0]; exact c11)
    refine g_iload_n X dX2_landless_14 rfl ?_
    refine g_aload_n X dX2_landless_15 rfl ?_
    refine g_iload_n X dX2_landless_16 rfl ?_
    refine g_callV (C := RX2) (T := TX2) (N := 35) X (k_X2_fieldOf ho rfl (by omega)) (lw_V q1841 q1843 qs113 q139 q1844) hd_X2_fieldOf dX2_landless_17 (rd3 ho) rfl rfl ⟨Nat.le_of_ble_eq_true rfl, Nat.le_of_ble_eq_true rfl⟩ ⟨Nat.le_of_ble_eq_true rfl, Nat.le_of_ble_eq_true rfl⟩ (Nat.le_of_ble_eq_true rfl) ?_
    rintro _ S1 ⟨rfl, hS1⟩
    obtain rfl := hS1.symm
    refine g_iconst (v := (-1)) X dX2_landless_20 rfl ?_
    refine g_icmp_ne (tgt := 30) X dX2_landless_21 rfl (fun c21 => ?_) (fun c21 => ?_)
    · refine g_iconst (v := 0) X dX2_landless_30 rfl ?_
      refine g_ior X dX2_landless_31 ?_
      refine g_istore_n X dX2_landless_32 (Nat.le_of_ble_eq_true rfl) ?_
      refine g_iinc (v := 1) X dX2_landless_33 rfl rfl (Nat.le_of_ble_eq_true rfl) ?_
      refine g_goto (tgt := 4) X dX2_landless_36 rfl ?_
      refine g_sub (le_1 rfl (le_1 (ei (frA_f (P := (fun c => S.1 400 (17 + 2 * ix c) = -1)) (fun z => c21 (by rw [ix_n (by omega)] at z; exact z)))) (le_1 e_1 le_n))) (ih (i + 1) ?_ ?_)
      · try dsimp only
        omega
      · try dsimp only
        omega
    · refine g_iconst (v := 1) X dX2_landless_24 rfl ?_
      refine g_iload_n X dX2_landless_25 rfl ?_
      refine g_ishl X dX2_landless_26 ?_
      refine g_goto (tgt := 31) X dX2_landless_27 rfl ?_
      refine g_ior X dX2_landless_31 ?_
      refine g_istore_n X dX2_landless_32 (Nat.le_of_ble_eq_true rfl) ?_
      refine g_iinc (v := 1) X dX2_landless_33 rfl rfl (Nat.le_of_ble_eq_true rfl) ?_
      refine g_goto (tgt := 4) X dX2_landless_36 rfl ?_
      refine g_sub (le_1 rfl (le_1 (ei (frA_t (P := (fun c => S.1 400 (17 + 2 * ix c) = -1)) (by rw [ix_n (by omega)]; exact c21))) (le_1 e_1 le_n))) (ih (i + 1) ?_ ?_)
      · try dsimp only
        omega
      · try dsimp only
        omega
abbrev wiP (g : Nat → Int32) (k : Nat) (b : Int32) : Prop := b = -1 ∨ g k < g (ix b)
def wis (g : Nat → Int32) (i : Nat) : Int32 := itr (fun k b => if wiP g k b then nI k else b) i (-1)
theorem wis_t {g : Nat → Int32} {i : Nat} (h : wiP g i (wis g i)) : nI i = wis g (i + 1) := (if_pos h).symm
theorem wis_f {g : Nat → Int32} {i : Nat} (h : ¬ wiP g i (wis g i)) : wis g i = wis g (i + 1) := (if_neg h).symm
theorem wis_in {g : Nat → Int32} (i : Nat) : wis g i = -1 ∨ ∃ v, v < i ∧ wis g i = nI v := by
  induction i with
  | zero => exact Or.inl rfl
  | succ i ih =>
    by_cases h : wiP g i (wis g i)
    · exact Or.inr ⟨i, by omega, (wis_t h).symm⟩
    · rw [← wis_f h]
      exact ih.imp id (fun ⟨v, h1, h2⟩ => ⟨v, by omega, h2⟩)
set_option maxHeartbeats 600000 in
theorem k_X0_wisest {l : Launch} {E : gk_E} (ho : E.2.2.2.2 = true) {S : gk_S}  {nf : Nat} (h0 : S.1 10 0 = nI nf) (h1 : nf ≤ 5) : gk_T l E yX0_wisest cX0_wisest 3 ((some .int)) 1 20 0 0 [.ref (E.2.2.1 0)] S (fun r S' => r = some (.int (wis (fun k => S.1 11 (16 + k)) nf)) ∧ S' = S) := by
  refine gk_T.of [some (.ref (E.2.2.1 0)), none, none] (by decide) (Nat.le_of_ble_eq_true rfl) (le_1 rfl (le_p (le_p le_n))) ?_
  intro p_ e_ R_ s_ m_ args_ below_ meth_ c_ hR X hr hin
  subst hR
  refine g_iconst (v := (-1)) X dX0_wisest_0 rfl ?_
  refine g_istore_n X dX0_wisest_1 (Nat.le_of_ble_eq_true rfl) ?_
  refine g_iconst (v := 0) X dX0_wisest_2 rfl ?_
  refine g_istore_n X dX0_wisest_3 (Nat.le_of_ble_eq_true rfl) ?_
  refine g_loop (σ := Nat) (fun (i : Nat) => S) (fun (i : Nat) => ([some (.ref (E.2.2.1 0)), some (.int (wis (fun k => S.1 11 (16 + k)) i)), some (.int (nI i))] : List (Option Value))) (fun (i : Nat) => i ≤ nf) (fun (i : Nat) => nf - i) (0) ?_ (rfl) (le_1 rfl (le_1 rfl (le_1 rfl le_n))) ?_
  · exact Nat.zero_le _
  intro i hI ih
  try dsimp only at hI ih ⊢
  refine g_iload_n X dX0_wisest_4 rfl ?_
  refine g_aload_n X dX0_wisest_5 rfl ?_
  refine g_callV (C := RX0) (T := TX0) (N := 13) X (k_X0_farmers ho) (lw_V q287 q289 qs0 q135 q290) hd_X0_farmers dX0_wisest_6 (rd0 ho) rfl rfl ⟨Nat.le_of_ble_eq_true rfl, Nat.le_of_ble_eq_true rfl⟩ ⟨Nat.le_of_ble_eq_true rfl, Nat.le_of_ble_eq_true rfl⟩ (Nat.le_of_ble_eq_true rfl) ?_
  rintro _ S1 ⟨rfl, hS1⟩
  obtain rfl := hS1.symm
  refine g_icmp_ge (tgt := 52) X dX0_wisest_9 rfl (fun c9 => ?_) (fun c9 => ?_)
  · refine g_iload_n X dX0_wisest_52 rfl ?_
    exact g_iret X hr dX0_wisest_53 (Nat.le_of_ble_eq_true rfl) (Nat.le_of_ble_eq_true rfl) (⟨by rw [out_of (by omega) hI (by rw [← h0]; exact c9)], rfl⟩)
  · have hi : i < nf := in_of (by omega) hI (by rw [← h0]; exact c9)
    refine g_iload_n X dX0_wisest_12 rfl ?_
    refine g_iconst (v := (-1)) X dX0_wisest_13 rfl ?_
    refine g_icmp_eq (tgt := 44) X dX0_wisest_14 rfl (fun c14 => ?_) (fun c14 => ?_)
    · refine g_iload_n X dX0_wisest_44 rfl ?_
      refine g_istore_n X dX0_wisest_45 (Nat.le_of_ble_eq_true rfl) ?_
      refine g_iinc (v := 1) X dX0_wisest_46 rfl rfl (Nat.le_of_ble_eq_true rfl) ?_
      refine g_goto (tgt := 4) X dX0_wisest_49 rfl ?_
      refine g_sub (le_1 rfl (le_1 (ei (wis_t (g := (fun k => S.1 11 (16 + k))) (Or.inl c14))) (le_1 e_1 le_n))) (ih (i + 1) ?_ ?_)
      · try dsimp only
        omega
      · try dsimp only
        omega
    · obtain ⟨v, hv1, hv2⟩ := (wis_in (g := (fun k => S.1 11 (16 + k))) i).resolve_left c14
      refine g_aload_n X dX0_wisest_17 rfl ?_
      refine g_get (C := RX0) (T := TX0) (N := 13) X 0 in_X0 dX0_wisest_18 q241 (rd0 ho) rfl (Nat.le_of_ble_eq_true rfl) (fun _ h9 => h9) rfl ?_
      refine g_getN (C := RX1) (T := TX1) (N := 8) X 1 in_X1 dX0_wisest_21 q197 (rd1 ho) rfl (Nat.le_of_ble_eq_true rfl) (fun _ h9 => h9) rfl ?_
      refine g_bipush (v := 16) X dX0_wisest_24 rfl ?_
      refine g_iload_n X dX0_wisest_26 rfl ?_
      refine g_iadd X dX0_wisest_27 ?_
      refine g_iald (j := 16 + i) X dX0_wisest_28 (rdi ho (11) (rfl)) (nI_add 16 i) (by omega) (by decide) ?_
      refine g_aload_n X dX0_wisest_29 rfl ?_
      refine g_get (C := RX0) (T := TX0) (N := 13) X 0 in_X0 dX0_wisest_30 q241 (rd0 ho) rfl (Nat.le_of_ble_eq_true rfl) (fun _ h9 => h9) rfl ?_
      refine g_getN (C := RX1) (T := TX1) (N := 8) X 1 in_X1 dX0_wisest_33 q197 (rd1 ho) rfl (Nat.le_of_ble_eq_true rfl) (fun _ h9 => h9) rfl ?_
      refine g_bipush (v := 16) X dX0_wisest_36 rfl ?_
      refine g_iload_n X dX0_wisest_38 rfl ?_
      refine g_iadd X dX0_wisest_39 ?_
      refine g_iald (j := 16 + v) X dX0_wisest_40 (rdi ho (11) (rfl)) (by rw [hv2]; exact nI_add 16 v) (by omega) (by decide) ?_
      refine g_icmp_ge (tgt := 46) X dX0_wisest_41 rfl (fun c41 => ?_) (fun c41 => ?_)
      · refine g_iinc (v := 1) X dX0_wisest_46 rfl rfl (Nat.le_of_ble_eq_true rfl) ?_
        refine g_goto (tgt := 4) X dX0_wisest_49 rfl ?_
        refine g_sub (le_1 rfl (le_1 (ei (wis_f (g := (fun k => S.1 11 (16 + k))) (fun z => z.elim c14 (fun y => absurd (by rw [hv2, ix_n (by omega)] at y; exact y) (Int32.not_lt.mpr c41))))) (le_1 e_1 le_n))) (ih (i + 1) ?_ ?_)
        · try dsimp only
          omega
        · try dsimp only
          omega
      · refine g_iload_n X dX0_wisest_44 rfl ?_
        refine g_istore_n X dX0_wisest_45 (Nat.le_of_ble_eq_true rfl) ?_
        refine g_iinc (v := 1) X dX0_wisest_46 rfl rfl (Nat.le_of_ble_eq_true rfl) ?_
        refine g_goto (tgt := 4) X dX0_wisest_49 rfl ?_
        refine g_sub (le_1 rfl (le_1 (ei (wis_t (g := (fun k => S.1 11 (16 + k))) (Or.inr (by rw [hv2, ix_n (by omega)]; exact Int32.not_le.mp c41)))) (le_1 e_1 le_n))) (ih (i + 1) ?_ ?_)
        · try dsimp only
          omega
        · try dsimp only
          omega
set_option maxHeartbeats 600000 in
theorem k_X2_wisest {l : Launch} {E : gk_E} (ho : E.2.2.2.2 = true) {S : gk_S}  {nf : Nat} (h0 : S.1 400 0 = nI nf) (h1 : nf ≤ 5) : gk_T l E yX2_wisest cX2_wisest 3 ((some .int)) 0 0 0 0 [.ref (E.2.2.1 3)] S (fun r S' => r = some (.int (wis (fun k => S.1 400 (17 + 2 * k + 1)) nf)) ∧ S' = S) := by
  refine gk_T.of [some (.ref (E.2.2.1 3)), none, none] (by decide) (Nat.le_of_ble_eq_true rfl) (le_1 rfl (le_p (le_p le_n))) ?_
  intro p_ e_ R_ s_ m_ args_ below_ meth_ c_ hR X hr hin
  subst hR
  refine g_iconst (v := (-1)) X dX2_wisest_0 rfl ?_
  refine g_istore_n X dX2_wisest_1 (Nat.le_of_ble_eq_true rfl) ?_
  refine g_iconst (v := 0) X dX2_wisest_2 rfl ?_
  refine g_istore_n X dX2_wisest_3 (Nat.le_of_ble_eq_true rfl) ?_
  refine g_loop (σ := Nat) (fun (i : Nat) => S) (fun (i : Nat) => ([some (.ref (E.2.2.1 3)), some (.int (wis (fun k => S.1 400 (17 + 2 * k + 1)) i)), some (.int (nI i))] : List (Option Value))) (fun (i : Nat) => i ≤ nf) (fun (i : Nat) => nf - i) (0) ?_ (rfl) (le_1 rfl (le_1 rfl (le_1 rfl le_n))) ?_
  · exact Nat.zero_le _
  intro i hI ih
  try dsimp only at hI ih ⊢
  refine g_iload_n X dX2_wisest_4 rfl ?_
  refine g_aload_n X dX2_wisest_5 rfl ?_
  refine g_get (C := RX2) (T := TX2) (N := 35) X 0 in_X2 dX2_wisest_6 q1405 (rd3 ho) rfl (Nat.le_of_ble_eq_true rfl) (fun _ h9 => h9) rfl ?_
  refine g_iconst (v := 0) X dX2_wisest_9 rfl ?_
  refine g_iald (j := 0) X dX2_wisest_10 (rdi ho (400) (rfl)) rfl (by decide) (by decide) ?_
  refine g_icmp_ge (tgt := 56) X dX2_wisest_11 rfl (fun c11 => ?_) (fun c11 => ?_)
  · refine g_iload_n X dX2_wisest_56 rfl ?_
    exact g_iret X hr dX2_wisest_57 (Nat.le_of_ble_eq_true rfl) (Nat.le_of_ble_eq_true rfl) (⟨by rw [out_of (by omega) hI (by rw [← h0]; exact c11)], rfl⟩)
  · have hi : i < nf := in_of (by omega) hI (by rw [← h0]; exact c11)
    refine g_iload_n X dX2_wisest_14 rfl ?_
    refine g_iconst (v := (-1)) X dX2_wisest_15 rfl ?_
    refine g_icmp_eq (tgt := 48) X dX2_wisest_16 rfl (fun c16 => ?_) (fun c16 => ?_)
    · refine g_iload_n X dX2_wisest_48 rfl ?_
      refine g_istore_n X dX2_wisest_49 (Nat.le_of_ble_eq_true rfl) ?_
      refine g_iinc (v := 1) X dX2_wisest_50 rfl rfl (Nat.le_of_ble_eq_true rfl) ?_
      refine g_goto (tgt := 4) X dX2_wisest_53 rfl ?_
      refine g_sub (le_1 rfl (le_1 (ei (wis_t (g := (fun k => S.1 400 (17 + 2 * k + 1))) (Or.inl c16))) (le_1 e_1 le_n))) (ih (i + 1) ?_ ?_)
      · try dsimp only
        omega
      · try dsimp only
        omega
    · obtain ⟨v, hv1, hv2⟩ := (wis_in (g := (fun k => S.1 400 (17 + 2 * k + 1))) i).resolve_left c16
      refine g_aload_n X dX2_wisest_19 rfl ?_
      refine g_get (C := RX2) (T := TX2) (N := 35) X 0 in_X2 dX2_wisest_20 q1405 (rd3 ho) rfl (Nat.le_of_ble_eq_true rfl) (fun _ h9 => h9) rfl ?_
      refine g_bipush (v := 17) X dX2_wisest_23 rfl ?_
      refine g_iconst (v := 2) X dX2_wisest_25 rfl ?_
      refine g_iload_n X dX2_wisest_26 rfl ?_
      refine g_imul X dX2_wisest_27 ?_
      refine g_iadd X dX2_wisest_28 ?_
      refine g_iconst (v := 1) X dX2_wisest_29 rfl ?_
      refine g_iadd X dX2_wisest_30 ?_
      refine g_iald (j := 17 + 2 * i + 1) X dX2_wisest_31 (rdi ho (400) (rfl)) (by show nI 17 + nI 2 * nI i + nI 1 = _; rw [pk_mul, nI_add, nI_add]) (by omega) (by decide) ?_
      refine g_aload_n X dX2_wisest_32 rfl ?_
      refine g_get (C := RX2) (T := TX2) (N := 35) X 0 in_X2 dX2_wisest_33 q1405 (rd3 ho) rfl (Nat.le_of_ble_eq_true rfl) (fun _ h9 => h9) rfl ?_
      refine g_bipush (v := 17) X dX2_wisest_36 rfl ?_
      refine g_iconst (v := 2) X dX2_wisest_38 rfl ?_
      refine g_iload_n X dX2_wisest_39 rfl ?_
      refine g_imul X dX2_wisest_40 ?_
      refine g_iadd X dX2_wisest_41 ?_
      refine g_iconst (v := 1) X dX2_wisest_42 rfl ?_
      refine g_iadd X dX2_wisest_43 ?_
      refine g_iald (j := 17 + 2 * v + 1) X dX2_wisest_44 (rdi ho (400) (rfl)) (by rw [hv2]; show nI 17 + nI 2 * nI v + nI 1 = _; rw [pk_mul, nI_add, nI_add]) (by omega) (by decide) ?_
      refine g_icmp_ge (tgt := 50) X dX2_wisest_45 rfl (fun c45 => ?_) (fun c45 => ?_)
      · refine g_iinc (v := 1) X dX2_wisest_50 rfl rfl (Nat.le_of_ble_eq_true rfl) ?_
        refine g_goto (tgt := 4) X dX2_wisest_53 rfl ?_
        refine g_sub (le_1 rfl (le_1 (ei (wis_f (g := (fun k => S.1 400 (17 + 2 * k + 1))) (fun z => z.elim c16 (fun y => absurd (by rw [hv2, ix_n (by omega)] at y; exact y) (Int32.not_lt.mpr c45))))) (le_1 e_1 le_n))) (ih (i + 1) ?_ ?_)
        · try dsimp only
          omega
        · try dsimp only
          omega
      · refine g_iload_n X dX2_wisest_48 rfl ?_
        refine g_istore_n X dX2_wisest_49 (Nat.le_of_ble_eq_true rfl) ?_
        refine g_iinc (v := 1) X dX2_wisest_50 rfl rfl (Nat.le_of_ble_eq_true rfl) ?_
        refine g_goto (tgt := 4) X dX2_wisest_53 rfl ?_
        refine g_sub (le_1 rfl (le_1 (ei (wis_t (g := (fun k => S.1 400 (17 + 2 * k + 1))) (Or.inr (by rw [hv2, ix_n (by omega)]; exact Int32.not_le.mp c45)))) (le_1 e_1 le_n))) (ih (i + 1) ?_ ?_)
        · try dsimp only
          omega
        · try dsimp only
          omega
