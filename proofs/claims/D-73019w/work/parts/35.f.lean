abbrev idP (n : Nat) (f : Nat → Int32) (b : Int32) (i : Nat) : Prop := hs b (nI i) ∧ wo n f (b &&& (one (nI i) ^^^ -1)) &&& (f i ^^^ -1) = 0
def idA (n : Nat) (f : Nat → Int32) (b : Int32) (i : Nat) : Int32 := itr (fun c a => a ||| (if idP n f b c then one (nI c) else 0)) i 0
theorem idA_t {n i : Nat} {f : Nat → Int32} {b : Int32} (h : idP n f b i) : idA n f b i ||| one (nI i) = idA n f b (i + 1) := (congrArg (fun z => idA n f b i ||| z) (if_pos h)).symm
theorem idA_f {n i : Nat} {f : Nat → Int32} {b : Int32} (h : ¬ idP n f b i) : idA n f b i ||| 0 = idA n f b (i + 1) := (congrArg (fun z => idA n f b i ||| z) (if_neg h)).symm
theorem ei {x y : Int32} (h : x = y) : some (Value.int x) = some (Value.int y) := by rw [h]
set_option maxHeartbeats 600000 in
theorem k_X0_idle {l : Launch} {E : gk_E} (ho : E.2.2.2.2 = true) {S : gk_S} {b : Int32} {a n : Nat} {f : Nat → Int32} (hu : RU E S a n f) : gk_T l E yX0_idle cX0_idle 4 ((some .int)) 4 85 0 0 [.ref (E.2.2.1 0), .int b] S (fun r S' => r = some (.int (if 0 ≤ b ∧ b ≤ alC n then idA n f b n else -1)) ∧ S' = S) := by
  refine gk_T.of [some (.ref (E.2.2.1 0)), some (.int b), none, none] (by decide) (Nat.le_of_ble_eq_true rfl) (le_1 rfl (le_1 rfl (le_p (le_p le_n)))) ?_
  intro p_ e_ R_ s_ m_ args_ below_ meth_ c_ hR X hr hin
  subst hR
  have hn8 : n ≤ 8 := hu.1
  refine g_aload_n X dX0_idle_0 rfl ?_
  refine g_iload_n X dX0_idle_1 rfl ?_
  refine g_callV (C := RX0) (T := TX0) (N := 13) X (k_X0_areClaims ho hu) (lw_V q1193 q1195 qs44 q135 q1196) hd_X0_areClaims dX0_idle_2 (rd0 ho) rfl rfl ⟨Nat.le_of_ble_eq_true rfl, Nat.le_of_ble_eq_true rfl⟩ ⟨Nat.le_of_ble_eq_true rfl, Nat.le_of_ble_eq_true rfl⟩ (Nat.le_of_ble_eq_true rfl) ?_
  rintro _ S1 ⟨rfl, hS1⟩
  obtain rfl := hS1.symm
  refine g_ifp_ne (tgt := 10) X dX0_idle_5 rfl (fun c5 => ?_) (fun c5 => ?_)
  · refine g_iconst (v := 0) X dX0_idle_10 rfl ?_
    refine g_istore_n X dX0_idle_11 (Nat.le_of_ble_eq_true rfl) ?_
    refine g_iconst (v := 0) X dX0_idle_12 rfl ?_
    refine g_istore_n X dX0_idle_13 (Nat.le_of_ble_eq_true rfl) ?_
    refine g_loop (σ := Nat) (fun (i : Nat) => S) (fun (i : Nat) => ([some (.ref (E.2.2.1 0)), some (.int b), some (.int (idA n f b i)), some (.int (nI i))] : List (Option Value))) (fun (i : Nat) => i ≤ n) (fun (i : Nat) => n - i) (0) ?_ (rfl) (le_1 rfl (le_1 rfl (le_1 rfl (le_1 rfl le_n)))) ?_
    · exact Nat.zero_le _
    intro i hI ih
    try dsimp only at hI ih ⊢
    refine g_iload_n X dX0_idle_14 rfl ?_
    refine g_aload_n X dX0_idle_15 rfl ?_
    refine g_callV (C := RX0) (T := TX0) (N := 13) X (k_X0_claims ho hu) (lw_V q1015 q1017 qs27 q135 q1018) hd_X0_claims dX0_idle_16 (rd0 ho) rfl rfl ⟨Nat.le_of_ble_eq_true rfl, Nat.le_of_ble_eq_true rfl⟩ ⟨Nat.le_of_ble_eq_true rfl, Nat.le_of_ble_eq_true rfl⟩ (Nat.le_of_ble_eq_true rfl) ?_
    rintro _ S1 ⟨rfl, hS1⟩
    obtain rfl := hS1.symm
    refine g_icmp_ge (tgt := 61) X dX0_idle_19 rfl (fun c19 => ?_) (fun c19 => ?_)
    · refine g_iload_n X dX0_idle_61 rfl ?_
      exact g_iret X hr dX0_idle_62 (Nat.le_of_ble_eq_true rfl) (Nat.le_of_ble_eq_true rfl) (⟨by rw [if_pos c5, out_of (by omega) hI c19], rfl⟩)
    · have hi : i < n := in_of (by omega) hI c19
      refine g_iload_n X dX0_idle_22 rfl ?_
      refine g_iload_n X dX0_idle_23 rfl ?_
      refine g_iload_n X dX0_idle_24 rfl ?_
      refine g_callS X (k_X0_has ho) (lw_S q1028 q1029 q135 q1030) hd_X0_has dX0_idle_25 rfl ⟨Nat.le_of_ble_eq_true rfl, Nat.le_of_ble_eq_true rfl⟩ ⟨Nat.le_of_ble_eq_true rfl, Nat.le_of_ble_eq_true rfl⟩ (Nat.le_of_ble_eq_true rfl) ?_
      rintro _ S1 ⟨rfl, hS1⟩
      obtain rfl := hS1.symm
      refine g_ifp_eq (tgt := 52) X dX0_idle_28 rfl (fun c28 => ?_) (fun c28 => ?_)
      · refine g_iconst (v := 0) X dX0_idle_52 rfl ?_
        refine g_ior X dX0_idle_53 ?_
        refine g_istore_n X dX0_idle_54 (Nat.le_of_ble_eq_true rfl) ?_
        refine g_iinc (v := 1) X dX0_idle_55 rfl rfl (Nat.le_of_ble_eq_true rfl) ?_
        refine g_goto (tgt := 14) X dX0_idle_58 rfl ?_
        refine g_sub (le_1 rfl (le_1 rfl (le_1 (ei (idA_f (fun z => c28 z.1))) (le_1 e_1 le_n)))) (ih (i + 1) ?_ ?_)
        · omega
        · omega
      · refine g_aload_n X dX0_idle_31 rfl ?_
        refine g_iload_n X dX0_idle_32 rfl ?_
        refine g_iconst (v := 1) X dX0_idle_33 rfl ?_
        refine g_iload_n X dX0_idle_34 rfl ?_
        refine g_ishl X dX0_idle_35 ?_
        refine g_iconst (v := (-1)) X dX0_idle_36 rfl ?_
        refine g_ixor X dX0_idle_37 ?_
        refine g_iand X dX0_idle_38 ?_
        refine g_iload_n X dX0_idle_39 rfl ?_
        refine g_callV (C := RX0) (T := TX0) (N := 13) X (k_X0_isFollowing ho hu rfl hi) (lw_V q1205 q1207 qs45 q135 q1208) hd_X0_isFollowing dX0_idle_40 (rd0 ho) rfl rfl ⟨Nat.le_of_ble_eq_true rfl, Nat.le_of_ble_eq_true rfl⟩ ⟨Nat.le_of_ble_eq_true rfl, Nat.le_of_ble_eq_true rfl⟩ (Nat.le_of_ble_eq_true rfl) ?_
        rintro _ S1 ⟨rfl, hS1⟩
        obtain rfl := hS1.symm
        refine g_ifp_eq (tgt := 52) X dX0_idle_43 rfl (fun c43 => ?_) (fun c43 => ?_)
        · refine g_iconst (v := 0) X dX0_idle_52 rfl ?_
          refine g_ior X dX0_idle_53 ?_
          refine g_istore_n X dX0_idle_54 (Nat.le_of_ble_eq_true rfl) ?_
          refine g_iinc (v := 1) X dX0_idle_55 rfl rfl (Nat.le_of_ble_eq_true rfl) ?_
          refine g_goto (tgt := 14) X dX0_idle_58 rfl ?_
          refine g_sub (le_1 rfl (le_1 rfl (le_1 (ei (idA_f (fun z => c43 z.2))) (le_1 e_1 le_n)))) (ih (i + 1) ?_ ?_)
          · omega
          · omega
        · refine g_iconst (v := 1) X dX0_idle_46 rfl ?_
          refine g_iload_n X dX0_idle_47 rfl ?_
          refine g_ishl X dX0_idle_48 ?_
          refine g_goto (tgt := 53) X dX0_idle_49 rfl ?_
          refine g_ior X dX0_idle_53 ?_
          refine g_istore_n X dX0_idle_54 (Nat.le_of_ble_eq_true rfl) ?_
          refine g_iinc (v := 1) X dX0_idle_55 rfl rfl (Nat.le_of_ble_eq_true rfl) ?_
          refine g_goto (tgt := 14) X dX0_idle_58 rfl ?_
          refine g_sub (le_1 rfl (le_1 rfl (le_1 (ei (idA_t ⟨c28, c43⟩)) (le_1 e_1 le_n)))) (ih (i + 1) ?_ ?_)
          · omega
          · omega
  · refine g_iconst (v := (-1)) X dX0_idle_8 rfl ?_
    exact g_iret X hr dX0_idle_9 (Nat.le_of_ble_eq_true rfl) (Nat.le_of_ble_eq_true rfl) (⟨by rw [if_neg c5], rfl⟩)
set_option maxHeartbeats 600000 in
theorem k_X2_idle {l : Launch} {E : gk_E} (ho : E.2.2.2.2 = true) {S : gk_S} {b : Int32} {n : Nat} {f : Nat → Int32} (hu : MU S n f) : gk_T l E yX2_idle cX2_idle 4 ((some .int)) 3 61 0 0 [.ref (E.2.2.1 3), .int b] S (fun r S' => r = some (.int (if 0 ≤ b ∧ b ≤ alC n then idA n f b n else -1)) ∧ S' = S) := by
  refine gk_T.of [some (.ref (E.2.2.1 3)), some (.int b), none, none] (by decide) (Nat.le_of_ble_eq_true rfl) (le_1 rfl (le_1 rfl (le_p (le_p le_n)))) ?_
  intro p_ e_ R_ s_ m_ args_ below_ meth_ c_ hR X hr hin
  subst hR
  have hn8 : n ≤ 8 := hu.1
  refine g_aload_n X dX2_idle_0 rfl ?_
  refine g_iload_n X dX2_idle_1 rfl ?_
  refine g_callV (C := RX2) (T := TX2) (N := 35) X (k_X2_areClaims ho hu) (lw_V q1939 q1941 qs121 q139 q1942) hd_X2_areClaims dX2_idle_2 (rd3 ho) rfl rfl ⟨Nat.le_of_ble_eq_true rfl, Nat.le_of_ble_eq_true rfl⟩ ⟨Nat.le_of_ble_eq_true rfl, Nat.le_of_ble_eq_true rfl⟩ (Nat.le_of_ble_eq_true rfl) ?_
  rintro _ S1 ⟨rfl, hS1⟩
  obtain rfl := hS1.symm
  refine g_ifp_ne (tgt := 10) X dX2_idle_5 rfl (fun c5 => ?_) (fun c5 => ?_)
  · refine g_iconst (v := 0) X dX2_idle_10 rfl ?_
    refine g_istore_n X dX2_idle_11 (Nat.le_of_ble_eq_true rfl) ?_
    refine g_iconst (v := 0) X dX2_idle_12 rfl ?_
    refine g_istore_n X dX2_idle_13 (Nat.le_of_ble_eq_true rfl) ?_
    refine g_loop (σ := Nat) (fun (i : Nat) => S) (fun (i : Nat) => ([some (.ref (E.2.2.1 3)), some (.int b), some (.int (idA n f b i)), some (.int (nI i))] : List (Option Value))) (fun (i : Nat) => i ≤ n) (fun (i : Nat) => n - i) (0) ?_ (rfl) (le_1 rfl (le_1 rfl (le_1 rfl (le_1 rfl le_n)))) ?_
    · exact Nat.zero_le _
    intro i hI ih
    try dsimp only at hI ih ⊢
    refine g_iload_n X dX2_idle_14 rfl ?_
    refine g_aload_n X dX2_idle_15 rfl ?_
    refine g_callV (C := RX2) (T := TX2) (N := 35) X (k_X2_claims ho hu) (lw_V q1707 q1709 qs94 q139 q1710) hd_X2_claims dX2_idle_16 (rd3 ho) rfl rfl ⟨Nat.le_of_ble_eq_true rfl, Nat.le_of_ble_eq_true rfl⟩ ⟨Nat.le_of_ble_eq_true rfl, Nat.le_of_ble_eq_true rfl⟩ (Nat.le_of_ble_eq_true rfl) ?_
    rintro _ S1 ⟨rfl, hS1⟩
    obtain rfl := hS1.symm
    refine g_icmp_ge (tgt := 68) X dX2_idle_19 rfl (fun c19 => ?_) (fun c19 => ?_)
    · refine g_iload_n X dX2_idle_68 rfl ?_
      exact g_iret X hr dX2_idle_69 (Nat.le_of_ble_eq_true rfl) (Nat.le_of_ble_eq_true rfl) (⟨by rw [if_pos c5, out_of (by omega) hI c19], rfl⟩)
    · have hi : i < n := in_of (by omega) hI c19
      refine g_iload_n X dX2_idle_22 rfl ?_
      refine g_iload_n X dX2_idle_23 rfl ?_
      refine g_iload_n X dX2_idle_24 rfl ?_
      refine g_callS X (k_X2_has ho) (lw_S q1711 q1712 q139 q1713) hd_X2_has dX2_idle_25 rfl ⟨Nat.le_of_ble_eq_true rfl, Nat.le_of_ble_eq_true rfl⟩ ⟨Nat.le_of_ble_eq_true rfl, Nat.le_of_ble_eq_true rfl⟩ (Nat.le_of_ble_eq_true rfl) ?_
      rintro _ S1 ⟨rfl, hS1⟩
      obtain rfl := hS1.symm
      refine g_ifp_eq (tgt := 59) X dX2_idle_28 rfl (fun c28 => ?_) (fun c28 => ?_)
      · refine g_iconst (v := 0) X dX2_idle_59 rfl ?_
        refine g_ior X dX2_idle_60 ?_
        refine g_istore_n X dX2_idle_61 (Nat.le_of_ble_eq_true rfl) ?_
        refine g_iinc (v := 1) X dX2_idle_62 rfl rfl (Nat.le_of_ble_eq_true rfl) ?_
        refine g_goto (tgt := 14) X dX2_idle_65 rfl ?_
        refine g_sub (le_1 rfl (le_1 rfl (le_1 (ei (idA_f (fun z => c28 z.1))) (le_1 e_1 le_n)))) (ih (i + 1) ?_ ?_)
        · omega
        · omega
      · refine g_aload_n X dX2_idle_31 rfl ?_
        refine g_iload_n X dX2_idle_32 rfl ?_
        refine g_iconst (v := 1) X dX2_idle_33 rfl ?_
        refine g_iload_n X dX2_idle_34 rfl ?_
        refine g_ishl X dX2_idle_35 ?_
        refine g_iconst (v := (-1)) X dX2_idle_36 rfl ?_
        refine g_ixor X dX2_idle_37 ?_
        refine g_iand X dX2_idle_38 ?_
        refine g_callV (C := RX2) (T := TX2) (N := 35) X (k_X2_worldsOf ho hu) (lw_V q1763 q1765 qs99 q139 q1766) hd_X2_worldsOf dX2_idle_39 (rd3 ho) rfl rfl ⟨Nat.le_of_ble_eq_true rfl, Nat.le_of_ble_eq_true rfl⟩ ⟨Nat.le_of_ble_eq_true rfl, Nat.le_of_ble_eq_true rfl⟩ (Nat.le_of_ble_eq_true rfl) ?_
        rintro _ S1 ⟨rfl, hS1⟩
        obtain rfl := hS1.symm
        refine g_aload_n X dX2_idle_42 rfl ?_
        refine g_iload_n X dX2_idle_43 rfl ?_
        refine g_callV (C := RX2) (T := TX2) (N := 35) X (k_X2_tableOf ho hu rfl hi) (lw_V q1768 q1770 qs100 q139 q1771) hd_X2_tableOf dX2_idle_44 (rd3 ho) rfl rfl ⟨Nat.le_of_ble_eq_true rfl, Nat.le_of_ble_eq_true rfl⟩ ⟨Nat.le_of_ble_eq_true rfl, Nat.le_of_ble_eq_true rfl⟩ (Nat.le_of_ble_eq_true rfl) ?_
        rintro _ S1 ⟨rfl, hS1⟩
        obtain rfl := hS1.symm
        refine g_iconst (v := (-1)) X dX2_idle_47 rfl ?_
        refine g_ixor X dX2_idle_48 ?_
        refine g_iand X dX2_idle_49 ?_
        refine g_if_ne (tgt := 59) X dX2_idle_50 rfl (fun c50 => ?_) (fun c50 => ?_)
        · refine g_iconst (v := 0) X dX2_idle_59 rfl ?_
          refine g_ior X dX2_idle_60 ?_
          refine g_istore_n X dX2_idle_61 (Nat.le_of_ble_eq_true rfl) ?_
          refine g_iinc (v := 1) X dX2_idle_62 rfl rfl (Nat.le_of_ble_eq_true rfl) ?_
          refine g_goto (tgt := 14) X dX2_idle_65 rfl ?_
          refine g_sub (le_1 rfl (le_1 rfl (le_1 (ei (idA_f (fun z => c50 z.2))) (le_1 e_1 le_n)))) (ih (i + 1) ?_ ?_)
          · omega
          · omega
        · refine g_iconst (v := 1) X dX2_idle_53 rfl ?_
          refine g_iload_n X dX2_idle_54 rfl ?_
          refine g_ishl X dX2_idle_55 ?_
          refine g_goto (tgt := 60) X dX2_idle_56 rfl ?_
          refine g_ior X dX2_idle_60 ?_
          refine g_istore_n X dX2_idle_61 (Nat.le_of_ble_eq_true rfl) ?_
          refine g_iinc (v := 1) X dX2_idle_62 rfl rfl (Nat.le_of_ble_eq_true rfl) ?_
          refine g_goto (tgt := 14) X dX2_idle_65 rfl ?_
          refine g_sub (le_1 rfl (le_1 rfl (le_1 (ei (idA_t ⟨c28, c50⟩)) (le_1 e_1 le_n)))) (ih (i + 1) ?_ ?_)
          · omega
          · omega
  · refine g_iconst (v := (-1)) X dX2_idle_8 rfl ?_
    exact g_iret X hr dX2_idle_9 (Nat.le_of_ble_eq_true rfl) (Nat.le_of_ble_eq_true rfl) (⟨by rw [if_neg c5], rfl⟩)
abbrev agP (n : Nat) (f : Nat → Int32) (c : Int32) (i : Nat) : Prop := wo n f (one c ||| one (nI i)) ≠ 0
def agC (n : Nat) (f : Nat → Int32) (c : Int32) (i : Nat) : Int32 := itr (fun k a => a ||| (if agP n f c k then 0 else one (nI k))) i 0
theorem agC_t {n i : Nat} {f : Nat → Int32} {b : Int32} (h : agP n f b i) : agC n f b i ||| 0 = agC n f b (i + 1) := (congrArg (fun z => agC n f b i ||| z) (if_pos h)).symm
theorem agC_f {n i : Nat} {f : Nat → Int32} {b : Int32} (h : ¬ agP n f b i) : agC n f b i ||| one (nI i) = agC n f b (i + 1) := (congrArg (fun z => agC n f b i ||| z) (if_neg h)).symm
def agM (f : Nat → Int32) (k : Nat) (i : Nat) : Int32 := itr (fun j a => a ||| (if f j &&& f k = 0 then one (nI j) else 0)) i 0
theorem agM_t {i k : Nat} {f : Nat → Int32} (h : f i &&& f k = 0) : agM f k i ||| one (nI i) = agM f k (i + 1) := (congrArg (fun z => agM f k i ||| z) (if_pos h)).symm
theorem agM_f {i k : Nat} {f : Nat → Int32} (h : ¬ f i &&& f k = 0) : agM f k i ||| 0 = agM f k (i + 1) := (congrArg (fun z => agM f k i ||| z) (if_neg h)).symm
set_option maxHeartbeats 600000 in
theorem k_X0_against {l : Launch} {E : gk_E} (ho : E.2.2.2.2 = true) {S : gk_S} {c : Int32} {a n : Nat} {f : Nat → Int32} (hu : RU E S a n f) : gk_T l E yX0_against cX0_against 4 ((some .int)) 4 84 0 0 [.ref (E.2.2.1 0), .int c] S (fun r S' => r = some (.int (if 0 ≤ c ∧ c ≤ nI n - 1 then agC n f c n else -1)) ∧ S' = S) := by
  refine gk_T.of [some (.ref (E.2.2.1 0)), some (.int c), none, none] (by decide) (Nat.le_of_ble_eq_true rfl) (le_1 rfl (le_1 rfl (le_p (le_p le_n)))) ?_
  intro p_ e_ R_ s_ m_ args_ below_ meth_ c_ hR X hr hin
  subst hR
  have hn8 : n ≤ 8 := hu.1
  refine g_aload_n X dX0_against_0 rfl ?_
  refine g_iload_n X dX0_against_1 rfl ?_
  refine g_callV (C := RX0) (T := TX0) (N := 13) X (k_X0_isClaim ho hu) (lw_V q1082 q1084 qs36 q135 q1085) hd_X0_isClaim dX0_against_2 (rd0 ho) rfl rfl ⟨Nat.le_of_ble_eq_true rfl, Nat.le_of_ble_eq_true rfl⟩ ⟨Nat.le_of_ble_eq_true rfl, Nat.le_of_ble_eq_true rfl⟩ (Nat.le_of_ble_eq_true rfl) ?_
  rintro _ S1 ⟨rfl, hS1⟩
  obtain rfl := hS1.symm
  refine g_ifp_ne (tgt := 10) X dX0_against_5 rfl (fun c5 => ?_) (fun c5 => ?_)
  · refine g_iconst (v := 0) X dX0_against_10 rfl ?_
    refine g_istore_n X dX0_against_11 (Nat.le_of_ble_eq_true rfl) ?_
    refine g_iconst (v := 0) X dX0_against_12 rfl ?_
    refine g_istore_n X dX0_against_13 (Nat.le_of_ble_eq_true rfl) ?_
    refine g_loop (σ := Nat) (fun (i : Nat) => S) (fun (i : Nat) => ([some (.ref (E.2.2.1 0)), some (.int c), some (.int (agC n f c i)), some (.int (nI i))] : List (Option Value))) (fun (i : Nat) => i ≤ n) (fun (i : Nat) => n - i) (0) ?_ (rfl) (le_1 rfl (le_1 rfl (le_1 rfl (le_1 rfl le_n)))) ?_
    · exact Nat.zero_le _
    intro i hI ih
    try dsimp only at hI ih ⊢
    refine g_iload_n X dX0_against_14 rfl ?_
    refine g_aload_n X dX0_against_15 rfl ?_
    refine g_callV (C := RX0) (T := TX0) (N := 13) X (k_X0_claims ho hu) (lw_V q1015 q1017 qs27 q135 q1018) hd_X0_claims dX0_against_16 (rd0 ho) rfl rfl ⟨Nat.le_of_ble_eq_true rfl, Nat.le_of_ble_eq_true rfl⟩ ⟨Nat.le_of_ble_eq_true rfl, Nat.le_of_ble_eq_true rfl⟩ (Nat.le_of_ble_eq_true rfl) ?_
    rintro _ S1 ⟨rfl, hS1⟩
    obtain rfl := hS1.symm
    refine g_icmp_ge (tgt := 52) X dX0_against_19 rfl (fun c19 => ?_) (fun c19 => ?_)
    · refine g_iload_n X dX0_against_52 rfl ?_
      exact g_iret X hr dX0_against_53 (Nat.le_of_ble_eq_true rfl) (Nat.le_of_ble_eq_true rfl) (⟨by rw [if_pos c5, out_of (by omega) hI c19], rfl⟩)
    · have hi : i < n := in_of (by omega) hI c19
      refine g_iload_n X dX0_against_22 rfl ?_
      refine g_aload_n X dX0_against_23 rfl ?_
      refine g_iconst (v := 1) X dX0_against_24 rfl ?_
      refine g_iload_n X dX0_against_25 rfl ?_
      refine g_ishl X dX0_against_26 ?_
      refine g_iconst (v := 1) X dX0_against_27 rfl ?_
      refine g_iload_n X dX0_against_28 rfl ?_
      refine g_ishl X dX0_against_29 ?_
      refine g_ior X dX0_against_30 ?_
      refine g_callV (C := RX0) (T := TX0) (N := 13) X (k_X0_isTogether ho hu) (lw_V q1221 q1223 qs46 q135 q1224) hd_X0_isTogether dX0_against_31 (rd0 ho) rfl rfl ⟨Nat.le_of_ble_eq_true rfl, Nat.le_of_ble_eq_true rfl⟩ ⟨Nat.le_of_ble_eq_true rfl, Nat.le_of_ble_eq_true rfl⟩ (Nat.le_of_ble_eq_true rfl) ?_
      rintro _ S1 ⟨rfl, hS1⟩
      obtain rfl := hS1.symm
      refine g_ifp_eq (tgt := 41) X dX0_against_34 rfl (fun c34 => ?_) (fun c34 => ?_)
      · refine g_iconst (v := 1) X dX0_against_41 rfl ?_
        refine g_iload_n X dX0_against_42 rfl ?_
        refine g_ishl X dX0_against_43 ?_
        refine g_ior X dX0_against_44 ?_
        refine g_istore_n X dX0_against_45 (Nat.le_of_ble_eq_true rfl) ?_
        refine g_iinc (v := 1) X dX0_against_46 rfl rfl (Nat.le_of_ble_eq_true rfl) ?_
        refine g_goto (tgt := 14) X dX0_against_49 rfl ?_
        refine g_sub (le_1 rfl (le_1 rfl (le_1 (ei (agC_f c34)) (le_1 e_1 le_n)))) (ih (i + 1) ?_ ?_)
        · omega
        · omega
      · refine g_iconst (v := 0) X dX0_against_37 rfl ?_
        refine g_goto (tgt := 44) X dX0_against_38 rfl ?_
        refine g_ior X dX0_against_44 ?_
        refine g_istore_n X dX0_against_45 (Nat.le_of_ble_eq_true rfl) ?_
        refine g_iinc (v := 1) X dX0_against_46 rfl rfl (Nat.le_of_ble_eq_true rfl) ?_
        refine g_goto (tgt := 14) X dX0_against_49 rfl ?_
        refine g_sub (le_1 rfl (le_1 rfl (le_1 (ei (agC_t c34)) (le_1 e_1 le_n)))) (ih (i + 1) ?_ ?_)
        · omega
        · omega
  · refine g_iconst (v := (-1)) X dX0_against_8 rfl ?_
    exact g_iret X hr dX0_against_9 (Nat.le_of_ble_eq_true rfl) (Nat.le_of_ble_eq_true rfl) (⟨by rw [if_neg c5], rfl⟩)
set_option maxHeartbeats 600000 in
theorem k_X2_against {l : Launch} {E : gk_E} (ho : E.2.2.2.2 = true) {S : gk_S} {c : Int32} {n : Nat} {f : Nat → Int32} (hu : MU S n f) : gk_T l E yX2_against cX2_against 4 ((some .int)) 2 43 0 0 [.ref (E.2.2.1 3), .int c] S (fun r S' => r = some (.int (if 0 ≤ c ∧ c ≤ nI n - 1 then agM f (ix c) n else -1)) ∧ S' = S) := by
  refine gk_T.of [some (.ref (E.2.2.1 3)), some (.int c), none, none] (by decide) (Nat.le_of_ble_eq_true rfl) (le_1 rfl (le_1 rfl (le_p (le_p le_n)))) ?_
  intro p_ e_ R_ s_ m_ args_ below_ meth_ c_ hR X hr hin
  subst hR
  have hn8 : n ≤ 8 := hu.1
  refine g_aload_n X dX2_against_0 rfl ?_
  refine g_iload_n X dX2_against_1 rfl ?_
  refine g_callV (C := RX2) (T := TX2) (N := 35) X (k_X2_isClaim ho hu) (lw_V q1751 q1753 qs96 q139 q1754) hd_X2_isClaim dX2_against_2 (rd3 ho) rfl rfl ⟨Nat.le_of_ble_eq_true rfl, Nat.le_of_ble_eq_true rfl⟩ ⟨Nat.le_of_ble_eq_true rfl, Nat.le_of_ble_eq_true rfl⟩ (Nat.le_of_ble_eq_true rfl) ?_
  rintro _ S1 ⟨rfl, hS1⟩
  obtain rfl := hS1.symm
  refine g_ifp_ne (tgt := 10) X dX2_against_5 rfl (fun c5 => ?_) (fun c5 => ?_)
  · refine g_iconst (v := 0) X dX2_against_10 rfl ?_
    refine g_istore_n X dX2_against_11 (Nat.le_of_ble_eq_true rfl) ?_
    refine g_iconst (v := 0) X dX2_against_12 rfl ?_
    refine g_istore_n X dX2_against_13 (Nat.le_of_ble_eq_true rfl) ?_
    refine g_loop (σ := Nat) (fun (i : Nat) => S) (fun (i : Nat) => ([some (.ref (E.2.2.1 3)), some (.int c), some (.int (agM f (ix c) i)), some (.int (nI i))] : List (Option Value))) (fun (i : Nat) => i ≤ n) (fun (i : Nat) => n - i) (0) ?_ (rfl) (le_1 rfl (le_1 rfl (le_1 rfl (le_1 rfl le_n)))) ?_
    · exact Nat.zero_le _
    intro i hI ih
    try dsimp only at hI ih ⊢
    refine g_iload_n X dX2_against_14 rfl ?_
    refine g_aload_n X dX2_against_15 rfl ?_
    refine g_callV (C := RX2) (T := TX2) (N := 35) X (k_X2_claims ho hu) (lw_V q1707 q1709 qs94 q139 q1710) hd_X2_claims dX2_against_16 (rd3 ho) rfl rfl ⟨Nat.le_of_ble_eq_true rfl, Nat.le_of_ble_eq_true rfl⟩ ⟨Nat.le_of_ble_eq_true rfl, Nat.le_of_ble_eq_true rfl⟩ (Nat.le_of_ble_eq_true rfl) ?_
    rintro _ S1 ⟨rfl, hS1⟩
    obtain rfl := hS1.symm
    refine g_icmp_ge (tgt := 52) X dX2_against_19 rfl (fun c19 => ?_) (fun c19 => ?_)
    · refine g_iload_n X dX2_against_52 rfl ?_
      exact g_iret X hr dX2_against_53 (Nat.le_of_ble_eq_true rfl) (Nat.le_of_ble_eq_true rfl) (⟨by rw [if_pos c5, out_of (by omega) hI c19], rfl⟩)
    · have hi : i < n := in_of (by omega) hI c19
      refine g_iload_n X dX2_against_22 rfl ?_
      refine g_aload_n X dX2_against_23 rfl ?_
      refine g_iload_n X dX2_against_24 rfl ?_
      refine g_callV (C := RX2) (T := TX2) (N := 35) X (k_X2_tableOf ho hu rfl hi) (lw_V q1768 q1770 qs100 q139 q1771) hd_X2_tableOf dX2_against_25 (rd3 ho) rfl rfl ⟨Nat.le_of_ble_eq_true rfl, Nat.le_of_ble_eq_true rfl⟩ ⟨Nat.le_of_ble_eq_true rfl, Nat.le_of_ble_eq_true rfl⟩ (Nat.le_of_ble_eq_true rfl) ?_
      rintro _ S1 ⟨rfl, hS1⟩
      obtain rfl := hS1.symm
      refine g_aload_n X dX2_against_28 rfl ?_
      refine g_iload_n X dX2_against_29 rfl ?_
      refine g_callV (C := RX2) (T := TX2) (N := 35) X (k_X2_tableOf ho hu (ix_i c5.1) (cl_lt hn8 c5)) (lw_V q1768 q1770 qs100 q139 q1771) hd_X2_tableOf dX2_against_30 (rd3 ho) rfl rfl ⟨Nat.le_of_ble_eq_true rfl, Nat.le_of_ble_eq_true rfl⟩ ⟨Nat.le_of_ble_eq_true rfl, Nat.le_of_ble_eq_true rfl⟩ (Nat.le_of_ble_eq_true rfl) ?_
      rintro _ S1 ⟨rfl, hS1⟩
      obtain rfl := hS1.symm
      refine g_iand X dX2_against_33 ?_
      refine g_if_ne (tgt := 43) X dX2_against_34 rfl (fun c34 => ?_) (fun c34 => ?_)
      · refine g_iconst (v := 0) X dX2_against_43 rfl ?_
        refine g_ior X dX2_against_44 ?_
        refine g_istore_n X dX2_against_45 (Nat.le_of_ble_eq_true rfl) ?_
        refine g_iinc (v := 1) X dX2_against_46 rfl rfl (Nat.le_of_ble_eq_true rfl) ?_
        refine g_goto (tgt := 14) X dX2_against_49 rfl ?_
        refine g_sub (le_1 rfl (le_1 rfl (le_1 (ei (agM_f c34)) (le_1 e_1 le_n)))) (ih (i + 1) ?_ ?_)
        · omega
        · omega
      · refine g_iconst (v := 1) X dX2_against_37 rfl ?_
        refine g_iload_n X dX2_against_38 rfl ?_
        refine g_ishl X dX2_against_39 ?_
        refine g_goto (tgt := 44) X dX2_against_40 rfl ?_
        refine g_ior X dX2_against_44 ?_
        refine g_istore_n X dX2_against_45 (Nat.le_of_ble_eq_true rfl) ?_
        refine g_iinc (v := 1) X dX2_against_46 rfl rfl (Nat.le_of_ble_eq_true rfl) ?_
        refine g_goto (tgt := 14) X dX2_against_49 rfl ?_
        refine g_sub (le_1 rfl (le_1 rfl (le_1 (ei (agM_t c34)) (le_1 e_1 le_n)))) (ih (i + 1) ?_ ?_)
        · omega
        · omega
  · refine g_iconst (v := (-1)) X dX2_against_8 rfl ?_
    exact g_iret X hr dX2_against_9 (Nat.le_of_ble_eq_true rfl) (Nat.le_of_ble_eq_true rfl) (⟨by rw [if_neg c5], rfl⟩)
def ceA (w : Int32) (so : Int32) (i : Nat) : Int32 := itr (fun k a => if hs w (nI k) then a &&& (if so = 0 then nI k ^^^ -1 else nI k) else a) i 15
theorem ceA_n {i : Nat} {w so : Int32} (h : ¬ hs w (nI i)) : ceA w so i = ceA w so (i + 1) := (if_neg h).symm
theorem ceA_f {i : Nat} {w so : Int32} (h : hs w (nI i)) (h2 : so = 0) : ceA w so i &&& (nI i ^^^ -1) = ceA w so (i + 1) := by
  rw [show ceA w so (i + 1) = _ from if_pos h, if_pos h2]
  rfl
theorem ceA_t {i : Nat} {w so : Int32} (h : hs w (nI i)) (h2 : ¬ so = 0) : ceA w so i &&& nI i = ceA w so (i + 1) := by
  rw [show ceA w so (i + 1) = _ from if_pos h, if_neg h2]
  rfl
set_option maxHeartbeats 600000 in
theorem k_X0_certain {l : Launch} {E : gk_E} (ho : E.2.2.2.2 = true) {S : gk_S} {b : Int32} {so : Int32} {a n : Nat} {f : Nat → Int32} (hu : RU E S a n f) : gk_T l E yX0_certain cX0_certain 5 ((some .int)) 4 84 0 0 [.ref (E.2.2.1 0), .int b, .int so] S (fun r S' => r = some (.int (if (0 ≤ b ∧ b ≤ alC n) ∧ wo n f b ≠ 0 then ceA (wo n f b) so 16 else -1)) ∧ S' = S) := by
  refine gk_T.of [some (.ref (E.2.2.1 0)), some (.int b), some (.int so), none, none] (by decide) (Nat.le_of_ble_eq_true rfl) (le_1 rfl (le_1 rfl (le_1 rfl (le_p (le_p le_n))))) ?_
  intro p_ e_ R_ s_ m_ args_ below_ meth_ c_ hR X hr hin
  subst hR
  refine g_aload_n X dX0_certain_0 rfl ?_
  refine g_iload_n X dX0_certain_1 rfl ?_
  refine g_callV (C := RX0) (T := TX0) (N := 13) X (k_X0_areClaims ho hu) (lw_V q1193 q1195 qs44 q135 q1196) hd_X0_areClaims dX0_certain_2 (rd0 ho) rfl rfl ⟨Nat.le_of_ble_eq_true rfl, Nat.le_of_ble_eq_true rfl⟩ ⟨Nat.le_of_ble_eq_true rfl, Nat.le_of_ble_eq_true rfl⟩ (Nat.le_of_ble_eq_true rfl) ?_
  rintro _ S1 ⟨rfl, hS1⟩
  obtain rfl := hS1.symm
  refine g_ifp_eq (tgt := 16) X dX0_certain_5 rfl (fun c5 => ?_) (fun c5 => ?_)
  · refine g_iconst (v := (-1)) X dX0_certain_16 rfl ?_
    exact g_iret X hr dX0_certain_17 (Nat.le_of_ble_eq_true rfl) (Nat.le_of_ble_eq_true rfl) (⟨by rw [if_neg (fun z => c5 z.1)], rfl⟩)
  · refine g_aload_n X dX0_certain_8 rfl ?_
    refine g_iload_n X dX0_certain_9 rfl ?_
    refine g_callV (C := RX0) (T := TX0) (N := 13) X (k_X0_isTogether ho hu) (lw_V q1221 q1223 qs46 q135 q1224) hd_X0_isTogether dX0_certain_10 (rd0 ho) rfl rfl ⟨Nat.le_of_ble_eq_true rfl, Nat.le_of_ble_eq_true rfl⟩ ⟨Nat.le_of_ble_eq_true rfl, Nat.le_of_ble_eq_true rfl⟩ (Nat.le_of_ble_eq_true rfl) ?_
    rintro _ S1 ⟨rfl, hS1⟩
    obtain rfl := hS1.symm
    refine g_ifp_ne (tgt := 18) X dX0_certain_13 rfl (fun c13 => ?_) (fun c13 => ?_)
    · refine g_bipush (v := 15) X dX0_certain_18 rfl ?_
      refine g_istore_n X dX0_certain_20 (Nat.le_of_ble_eq_true rfl) ?_
      refine g_iconst (v := 0) X dX0_certain_21 rfl ?_
      refine g_istore X dX0_certain_22 (Nat.le_of_ble_eq_true rfl) ?_
      refine g_loop (σ := Nat) (fun (i : Nat) => S) (fun (i : Nat) => ([some (.ref (E.2.2.1 0)), some (.int b), some (.int so), some (.int (ceA (wo n f b) so i)), some (.int (nI i))] : List (Option Value))) (fun (i : Nat) => i ≤ 16) (fun (i : Nat) => 16 - i) (0) ?_ (rfl) (le_1 rfl (le_1 rfl (le_1 rfl (le_1 rfl (le_1 rfl le_n))))) ?_
      · omega
      intro i hI ih
      try dsimp only at hI ih ⊢
      refine g_iload X dX0_certain_24 rfl ?_
      refine g_bipush (v := 16) X dX0_certain_26 rfl ?_
      refine g_icmp_ge (tgt := 66) X dX0_certain_28 rfl (fun c28 => ?_) (fun c28 => ?_)
      · refine g_iload_n X dX0_certain_66 rfl ?_
        exact g_iret X hr dX0_certain_67 (Nat.le_of_ble_eq_true rfl) (Nat.le_of_ble_eq_true rfl) (⟨by rw [if_pos ⟨c5, c13⟩, out_of (by omega) hI c28], rfl⟩)
      · have hi : i < 16 := in_of (by omega) hI c28
        refine g_aload_n X dX0_certain_31 rfl ?_
        refine g_iload_n X dX0_certain_32 rfl ?_
        refine g_callV (C := RX0) (T := TX0) (N := 13) X (k_X0_worldsOf ho hu) (lw_V q1043 q1045 qs32 q135 q1046) hd_X0_worldsOf dX0_certain_33 (rd0 ho) rfl rfl ⟨Nat.le_of_ble_eq_true rfl, Nat.le_of_ble_eq_true rfl⟩ ⟨Nat.le_of_ble_eq_true rfl, Nat.le_of_ble_eq_true rfl⟩ (Nat.le_of_ble_eq_true rfl) ?_
        rintro _ S1 ⟨rfl, hS1⟩
        obtain rfl := hS1.symm
        refine g_iload X dX0_certain_36 rfl ?_
        refine g_callS X (k_X0_has ho) (lw_S q1028 q1029 q135 q1030) hd_X0_has dX0_certain_38 rfl ⟨Nat.le_of_ble_eq_true rfl, Nat.le_of_ble_eq_true rfl⟩ ⟨Nat.le_of_ble_eq_true rfl, Nat.le_of_ble_eq_true rfl⟩ (Nat.le_of_ble_eq_true rfl) ?_
        rintro _ S1 ⟨rfl, hS1⟩
        obtain rfl := hS1.symm
        refine g_ifp_eq (tgt := 60) X dX0_certain_41 rfl (fun c41 => ?_) (fun c41 => ?_)
        · refine g_iinc (v := 1) X dX0_certain_60 rfl rfl (Nat.le_of_ble_eq_true rfl) ?_
          refine g_goto (tgt := 24) X dX0_certain_63 rfl ?_
          refine g_sub (le_1 rfl (le_1 rfl (le_1 rfl (le_1 (ei (ceA_n c41)) (le_1 e_1 le_n))))) (ih (i + 1) ?_ ?_)
          · omega
          · omega
        · refine g_iload_n X dX0_certain_44 rfl ?_
          refine g_iload_n X dX0_certain_45 rfl ?_
          refine g_if_eq (tgt := 54) X dX0_certain_46 rfl (fun c46 => ?_) (fun c46 => ?_)
          · refine g_iload X dX0_certain_54 rfl ?_
            refine g_iconst (v := (-1)) X dX0_certain_56 rfl ?_
            refine g_ixor X dX0_certain_57 ?_
            refine g_iand X dX0_certain_58 ?_
            refine g_istore_n X dX0_certain_59 (Nat.le_of_ble_eq_true rfl) ?_
            refine g_iinc (v := 1) X dX0_certain_60 rfl rfl (Nat.le_of_ble_eq_true rfl) ?_
            refine g_goto (tgt := 24) X dX0_certain_63 rfl ?_
            refine g_sub (le_1 rfl (le_1 rfl (le_1 rfl (le_1 (ei (ceA_f c41 c46)) (le_1 e_1 le_n))))) (ih (i + 1) ?_ ?_)
            · omega
            · omega
          · refine g_iload X dX0_certain_49 rfl ?_
            refine g_goto (tgt := 58) X dX0_certain_51 rfl ?_
            refine g_iand X dX0_certain_58 ?_
            refine g_istore_n X dX0_certain_59 (Nat.le_of_ble_eq_true rfl) ?_
            refine g_iinc (v := 1) X dX0_certain_60 rfl rfl (Nat.le_of_ble_eq_true rfl) ?_
            refine g_goto (tgt := 24) X dX0_certain_63 rfl ?_
            refine g_sub (le_1 rfl (le_1 rfl (le_1 rfl (le_1 (ei (ceA_t c41 c46)) (le_1 e_1 le_n))))) (ih (i + 1) ?_ ?_)
            · omega
            · omega
    · refine g_iconst (v := (-1)) X dX0_certain_16 rfl ?_
      exact g_iret X hr dX0_certain_17 (Nat.le_of_ble_eq_true rfl) (Nat.le_of_ble_eq_true rfl) (⟨by rw [if_neg (fun z => c13 z.2)], rfl⟩)
set_option maxHeartbeats 600000 in
theorem k_X2_certain {l : Launch} {E : gk_E} (ho : E.2.2.2.2 = true) {S : gk_S} {b : Int32} {so : Int32} {n : Nat} {f : Nat → Int32} (hu : MU S n f) : gk_T l E yX2_certain cX2_certain 5 ((some .int)) 3 61 0 0 [.ref (E.2.2.1 3), .int b, .int so] S (fun r S' => r = some (.int (if (0 ≤ b ∧ b ≤ alC n) ∧ wo n f b ≠ 0 then ceA (wo n f b) so 16 else -1)) ∧ S' = S) := by
  refine gk_T.of [some (.ref (E.2.2.1 3)), some (.int b), some (.int so), none, none] (by decide) (Nat.le_of_ble_eq_true rfl) (le_1 rfl (le_1 rfl (le_1 rfl (le_p (le_p le_n))))) ?_
  intro p_ e_ R_ s_ m_ args_ below_ meth_ c_ hR X hr hin
  subst hR
  refine g_aload_n X dX2_certain_0 rfl ?_
  refine g_iload_n X dX2_certain_1 rfl ?_
  refine g_callV (C := RX2) (T := TX2) (N := 35) X (k_X2_areClaims ho hu) (lw_V q1939 q1941 qs121 q139 q1942) hd_X2_areClaims dX2_certain_2 (rd3 ho) rfl rfl ⟨Nat.le_of_ble_eq_true rfl, Nat.le_of_ble_eq_true rfl⟩ ⟨Nat.le_of_ble_eq_true rfl, Nat.le_of_ble_eq_true rfl⟩ (Nat.le_of_ble_eq_true rfl) ?_
  rintro _ S1 ⟨rfl, hS1⟩
  obtain rfl := hS1.symm
  refine g_ifp_eq (tgt := 16) X dX2_certain_5 rfl (fun c5 => ?_) (fun c5 => ?_)
  · refine g_iconst (v := (-1)) X dX2_certain_16 rfl ?_
    exact g_iret X hr dX2_certain_17 (Nat.le_of_ble_eq_true rfl) (Nat.le_of_ble_eq_true rfl) (⟨by rw [if_neg (fun z => c5 z.1)], rfl⟩)
  · refine g_aload_n X dX2_certain_8 rfl ?_
    refine g_iload_n X dX2_certain_9 rfl ?_
    refine g_callV (C := RX2) (T := TX2) (N := 35) X (k_X2_worldsOf ho hu) (lw_V q1763 q1765 qs99 q139 q1766) hd_X2_worldsOf dX2_certain_10 (rd3 ho) rfl rfl ⟨Nat.le_of_ble_eq_true rfl, Nat.le_of_ble_eq_true rfl⟩ ⟨Nat.le_of_ble_eq_true rfl, Nat.le_of_ble_eq_true rfl⟩ (Nat.le_of_ble_eq_true rfl) ?_
    rintro _ S1 ⟨rfl, hS1⟩
    obtain rfl := hS1.symm
    refine g_if_ne (tgt := 18) X dX2_certain_13 rfl (fun c13 => ?_) (fun c13 => ?_)
    · refine g_bipush (v := 15) X dX2_certain_18 rfl ?_
      refine g_istore_n X dX2_certain_20 (Nat.le_of_ble_eq_true rfl) ?_
      refine g_iconst (v := 0) X dX2_certain_21 rfl ?_
      refine g_istore X dX2_certain_22 (Nat.le_of_ble_eq_true rfl) ?_
      refine g_loop (σ := Nat) (fun (i : Nat) => S) (fun (i : Nat) => ([some (.ref (E.2.2.1 3)), some (.int b), some (.int so), some (.int (ceA (wo n f b) so i)), some (.int (nI i))] : List (Option Value))) (fun (i : Nat) => i ≤ 16) (fun (i : Nat) => 16 - i) (0) ?_ (rfl) (le_1 rfl (le_1 rfl (le_1 rfl (le_1 rfl (le_1 rfl le_n))))) ?_
      · omega
      intro i hI ih
      try dsimp only at hI ih ⊢
      refine g_iload X dX2_certain_24 rfl ?_
      refine g_bipush (v := 16) X dX2_certain_26 rfl ?_
      refine g_icmp_ge (tgt := 66) X dX2_certain_28 rfl (fun c28 => ?_) (fun c28 => ?_)
      · refine g_iload_n X dX2_certain_66 rfl ?_
        exact g_iret X hr dX2_certain_67 (Nat.le_of_ble_eq_true rfl) (Nat.le_of_ble_eq_true rfl) (⟨by rw [if_pos ⟨c5, c13⟩, out_of (by omega) hI c28], rfl⟩)
      · have hi : i < 16 := in_of (by omega) hI c28
        refine g_aload_n X dX2_certain_31 rfl ?_
        refine g_iload_n X dX2_certain_32 rfl ?_
        refine g_callV (C := RX2) (T := TX2) (N := 35) X (k_X2_worldsOf ho hu) (lw_V q1763 q1765 qs99 q139 q1766) hd_X2_worldsOf dX2_certain_33 (rd3 ho) rfl rfl ⟨Nat.le_of_ble_eq_true rfl, Nat.le_of_ble_eq_true rfl⟩ ⟨Nat.le_of_ble_eq_true rfl, Nat.le_of_ble_eq_true rfl⟩ (Nat.le_of_ble_eq_true rfl) ?_
        rintro _ S1 ⟨rfl, hS1⟩
        obtain rfl := hS1.symm
        refine g_iload X dX2_certain_36 rfl ?_
        refine g_callS X (k_X2_has ho) (lw_S q1711 q1712 q139 q1713) hd_X2_has dX2_certain_38 rfl ⟨Nat.le_of_ble_eq_true rfl, Nat.le_of_ble_eq_true rfl⟩ ⟨Nat.le_of_ble_eq_true rfl, Nat.le_of_ble_eq_true rfl⟩ (Nat.le_of_ble_eq_true rfl) ?_
        rintro _ S1 ⟨rfl, hS1⟩
        obtain rfl := hS1.symm
        refine g_ifp_eq (tgt := 60) X dX2_certain_41 rfl (fun c41 => ?_) (fun c41 => ?_)
        · refine g_iinc (v := 1) X dX2_certain_60 rfl rfl (Nat.le_of_ble_eq_true rfl) ?_
          refine g_goto (tgt := 24) X dX2_certain_63 rfl ?_
          refine g_sub (le_1 rfl (le_1 rfl (le_1 rfl (le_1 (ei (ceA_n c41)) (le_1 e_1 le_n))))) (ih (i + 1) ?_ ?_)
          · omega
          · omega
        · refine g_iload_n X dX2_certain_44 rfl ?_
          refine g_iload_n X dX2_certain_45 rfl ?_
          refine g_if_eq (tgt := 54) X dX2_certain_46 rfl (fun c46 => ?_) (fun c46 => ?_)
          · refine g_iload X dX2_certain_54 rfl ?_
            refine g_iconst (v := (-1)) X dX2_certain_56 rfl ?_
            refine g_ixor X dX2_certain_57 ?_
            refine g_iand X dX2_certain_58 ?_
            refine g_istore_n X dX2_certain_59 (Nat.le_of_ble_eq_true rfl) ?_
            refine g_iinc (v := 1) X dX2_certain_60 rfl rfl (Nat.le_of_ble_eq_true rfl) ?_
            refine g_goto (tgt := 24) X dX2_certain_63 rfl ?_
            refine g_sub (le_1 rfl (le_1 rfl (le_1 rfl (le_1 (ei (ceA_f c41 c46)) (le_1 e_1 le_n))))) (ih (i + 1) ?_ ?_)
            · omega
            · omega
          · refine g_iload X dX2_certain_49 rfl ?_
            refine g_goto (tgt := 58) X dX2_certain_51 rfl ?_
            refine g_iand X dX2_certain_58 ?_
            refine g_istore_n X dX2_certain_59 (Nat.le_of_ble_eq_true rfl) ?_
            refine g_iinc (v := 1) X dX2_certain_60 rfl rfl (Nat.le_of_ble_eq_true rfl) ?_
            refine g_goto (tgt := 24) X dX2_certain_63 rfl ?_
            refine g_sub (le_1 rfl (le_1 rfl (le_1 rfl (le_1 (ei (ceA_t c41 c46)) (le_1 e_1 le_n))))) (ih (i + 1) ?_ ?_)
            · omega
            · omega
    · refine g_iconst (v := (-1)) X dX2_certain_16 rfl ?_
      exact g_iret X hr dX2_certain_17 (Nat.le_of_ble_eq_true rfl) (Nat.le_of_ble_eq_true rfl) (⟨by rw [if_neg (fun z => z.2 c13)], rfl⟩)
abbrev csP (n : Nat) (f : Nat → Int32) (h : Int32) (t : Nat → Int32) (c : Int32) : Prop := (0 ≤ c ∧ c ≤ nI n - 1) ∧ ¬ hs h c ∧ t (ix c) = 0 ∧ wo n f ((h &&& alC n) ||| one c) ≠ 0
theorem ad_3 {c : Int32} (h : 0 ≤ c) (k : Nat) : nI k + c = nI (k + ix c) := by
  conv => lhs; rw [ix_i h]
  rw [nI_add]
def frA (P : Int32 → Prop) [∀ c, Decidable (P c)] (i : Nat) : Int32 := itr (fun k a => a ||| (if P (nI k) then one (nI k) else 0)) i 0
theorem frA_t {P : Int32 → Prop} [∀ c, Decidable (P c)] {i : Nat} (h : P (nI i)) : frA P i ||| one (nI i) = frA P (i + 1) := (congrArg (fun z => frA P i ||| z) (if_pos h)).symm
theorem frA_f {P : Int32 → Prop} [∀ c, Decidable (P c)] {i : Nat} (h : ¬ P (nI i)) : frA P i ||| 0 = frA P (i + 1) := (congrArg (fun z => frA P i ||| z) (if_neg h)).symm
set_option maxHeartbeats 600000 in
theorem k_X0_canSay {l : Launch} {E : gk_E} (ho : E.2.2.2.2 = true) {S : gk_S} {c : Int32} {a n : Nat} {f : Nat → Int32} (hu : RU E S a n f) : gk_T l E yX0_canSay cX0_canSay 2 ((some .boolean)) 5 103 0 0 [.ref (E.2.2.1 0), .int c] S (fun r S' => r = some (.int (bP (csP n f (S.1 11 2) (fun k => S.1 11 (3 + k)) c))) ∧ S' = S) := by
  refine gk_T.of [some (.ref (E.2.2.1 0)), some (.int c)] (by decide) (Nat.le_of_ble_eq_true rfl) (fun _ _ h => h) ?_
  intro p_ e_ R_ s_ m_ args_ below_ meth_ c_ hR X hr hin
  subst hR
  have hn8 : n ≤ 8 := hu.1
  refine g_aload_n X dX0_canSay_0 rfl ?_
  refine g_iload_n X dX0_canSay_1 rfl ?_
  refine g_callV (C := RX0) (T := TX0) (N := 13) X (k_X0_isClaim ho hu) (lw_V q1082 q1084 qs36 q135 q1085) hd_X0_isClaim dX0_canSay_2 (rd0 ho) rfl rfl ⟨Nat.le_of_ble_eq_true rfl, Nat.le_of_ble_eq_true rfl⟩ ⟨Nat.le_of_ble_eq_true rfl, Nat.le_of_ble_eq_true rfl⟩ (Nat.le_of_ble_eq_true rfl) ?_
  rintro _ S1 ⟨rfl, hS1⟩
  obtain rfl := hS1.symm
  refine g_ifp_eq (tgt := 57) X dX0_canSay_5 rfl (fun c5 => ?_) (fun c5 => ?_)
  · refine g_iconst (v := 0) X dX0_canSay_57 rfl ?_
    refine g_zret X hr dX0_canSay_58 ?_ (Nat.le_of_ble_eq_true rfl) (Nat.le_of_ble_eq_true rfl) ?_
    · first | rfl | exact nb_bP
    · exact ⟨lb_0 (by grind), rfl⟩
  · refine g_aload_n X dX0_canSay_8 rfl ?_
    refine g_get (C := RX0) (T := TX0) (N := 13) X 0 in_X0 dX0_canSay_9 q241 (rd0 ho) rfl (Nat.le_of_ble_eq_true rfl) (fun _ h9 => h9) rfl ?_
    refine g_getN (C := RX1) (T := TX1) (N := 8) X 1 in_X1 dX0_canSay_12 q197 (rd1 ho) rfl (Nat.le_of_ble_eq_true rfl) (fun _ h9 => h9) rfl ?_
    refine g_iconst (v := 2) X dX0_canSay_15 rfl ?_
    refine g_iald (j := 2) X dX0_canSay_16 (rdi ho (11) (rfl)) rfl (by decide) (by decide) ?_
    refine g_iload_n X dX0_canSay_17 rfl ?_
    refine g_callS X (k_X0_has ho) (lw_S q1028 q1029 q135 q1030) hd_X0_has dX0_canSay_18 rfl ⟨Nat.le_of_ble_eq_true rfl, Nat.le_of_ble_eq_true rfl⟩ ⟨Nat.le_of_ble_eq_true rfl, Nat.le_of_ble_eq_true rfl⟩ (Nat.le_of_ble_eq_true rfl) ?_
    rintro _ S1 ⟨rfl, hS1⟩
    obtain rfl := hS1.symm
    refine g_ifp_ne (tgt := 57) X dX0_canSay_21 rfl (fun c21 => ?_) (fun c21 => ?_)
    · refine g_iconst (v := 0) X dX0_canSay_57 rfl ?_
      refine g_zret X hr dX0_canSay_58 ?_ (Nat.le_of_ble_eq_true rfl) (Nat.le_of_ble_eq_true rfl) ?_
      · first | rfl | exact nb_bP
      · exact ⟨lb_0 (by grind), rfl⟩
    · have hc : ix c < 8 := Nat.lt_of_lt_of_le (cl_lt hn8 c5) hn8
      refine g_aload_n X dX0_canSay_24 rfl ?_
      refine g_get (C := RX0) (T := TX0) (N := 13) X 0 in_X0 dX0_canSay_25 q241 (rd0 ho) rfl (Nat.le_of_ble_eq_true rfl) (fun _ h9 => h9) rfl ?_
      refine g_getN (C := RX1) (T := TX1) (N := 8) X 1 in_X1 dX0_canSay_28 q197 (rd1 ho) rfl (Nat.le_of_ble_eq_true rfl) (fun _ h9 => h9) rfl ?_
      refine g_iconst (v := 3) X dX0_canSay_31 rfl ?_
      refine g_iload_n X dX0_canSay_32 rfl ?_
      refine g_iadd X dX0_canSay_33 ?_
      refine g_iald (j := 3 + ix c) X dX0_canSay_34 (rdi ho (11) (rfl)) (ad_3 c5.1 3) (by omega) (by decide) ?_
      refine g_if_ne (tgt := 57) X dX0_canSay_35 rfl (fun c35 => ?_) (fun c35 => ?_)
      · refine g_iconst (v := 0) X dX0_canSay_57 rfl ?_
        refine g_zret X hr dX0_canSay_58 ?_ (Nat.le_of_ble_eq_true rfl) (Nat.le_of_ble_eq_true rfl) ?_
        · first | rfl | exact nb_bP
        · exact ⟨lb_0 (by grind), rfl⟩
      · refine g_aload_n X dX0_canSay_38 rfl ?_
        refine g_aload_n X dX0_canSay_39 rfl ?_
        refine g_get (C := RX0) (T := TX0) (N := 13) X 0 in_X0 dX0_canSay_40 q241 (rd0 ho) rfl (Nat.le_of_ble_eq_true rfl) (fun _ h9 => h9) rfl ?_
        refine g_getN (C := RX1) (T := TX1) (N := 8) X 1 in_X1 dX0_canSay_43 q197 (rd1 ho) rfl (Nat.le_of_ble_eq_true rfl) (fun _ h9 => h9) rfl ?_
        refine g_iload_n X dX0_canSay_46 rfl ?_
        refine g_callV (C := RX0) (T := TX0) (N := 13) X (k_X0_mayHold ho (q := 11) rfl hu) (lw_V q1031 q1033 qs29 q135 q1034) hd_X0_mayHold dX0_canSay_47 (rd0 ho) rfl rfl ⟨Nat.le_of_ble_eq_true rfl, Nat.le_of_ble_eq_true rfl⟩ ⟨Nat.le_of_ble_eq_true rfl, Nat.le_of_ble_eq_true rfl⟩ (Nat.le_of_ble_eq_true rfl) ?_
        rintro _ S1 ⟨rfl, hS1⟩
        obtain rfl := hS1.symm
        refine g_ifp_eq (tgt := 57) X dX0_canSay_50 rfl (fun c50 => ?_) (fun c50 => ?_)
        · refine g_iconst (v := 0) X dX0_canSay_57 rfl ?_
          refine g_zret X hr dX0_canSay_58 ?_ (Nat.le_of_ble_eq_true rfl) (Nat.le_of_ble_eq_true rfl) ?_
          · first | rfl | exact nb_bP
          · exact ⟨lb_0 (by grind), rfl⟩
        · refine g_iconst (v := 1) X dX0_canSay_53 rfl ?_
          refine g_goto (tgt := 58) X dX0_canSay_54 rfl ?_
          refine g_zret X hr dX0_canSay_58 ?_ (Nat.le_of_ble_eq_true rfl) (Nat.le_of_ble_eq_true rfl) ?_
          · first | rfl | exact nb_bP
          · exact ⟨lb_1 ⟨c5, c21, c35, c50⟩, rfl⟩
set_option maxHeartbeats 600000 in
theorem k_X2_canSay {l : Launch} {E : gk_E} (ho : E.2.2.2.2 = true) {S : gk_S} {c : Int32} {n : Nat} {f : Nat → Int32} (hu : MU S n f) : gk_T l E yX2_canSay cX2_canSay 2 ((some .boolean)) 3 60 0 0 [.ref (E.2.2.1 3), .int c] S (fun r S' => r = some (.int (bP (csP n f (S.1 400 7) (fun k => S.1 400 (9 + k)) c))) ∧ S' = S) := by
  refine gk_T.of [some (.ref (E.2.2.1 3)), some (.int c)] (by decide) (Nat.le_of_ble_eq_true rfl) (fun _ _ h => h) ?_
  intro p_ e_ R_ s_ m_ args_ below_ meth_ c_ hR X hr hin
  subst hR
  have hn8 : n ≤ 8 := hu.1
  refine g_aload_n X dX2_canSay_0 rfl ?_
  refine g_iload_n X dX2_canSay_1 rfl ?_
  refine g_callV (C := RX2) (T := TX2) (N := 35) X (k_X2_isClaim ho hu) (lw_V q1751 q1753 qs96 q139 q1754) hd_X2_isClaim dX2_canSay_2 (rd3 ho) rfl rfl ⟨Nat.le_of_ble_eq_true rfl, Nat.le_of_ble_eq_true rfl⟩ ⟨Nat.le_of_ble_eq_true rfl, Nat.le_of_ble_eq_true rfl⟩ (Nat.le_of_ble_eq_true rfl) ?_
  rintro _ S1 ⟨rfl, hS1⟩
  obtain rfl := hS1.symm
  refine g_ifp_eq (tgt := 53) X dX2_canSay_5 rfl (fun c5 => ?_) (fun c5 => ?_)
  · refine g_iconst (v := 0) X dX2_canSay_53 rfl ?_
    refine g_zret X hr dX2_canSay_54 ?_ (Nat.le_of_ble_eq_true rfl) (Nat.le_of_ble_eq_true rfl) ?_
    · first | rfl | exact nb_bP
    · exact ⟨lb_0 (by grind), rfl⟩
  · refine g_aload_n X dX2_canSay_8 rfl ?_
    refine g_get (C := RX2) (T := TX2) (N := 35) X 0 in_X2 dX2_canSay_9 q1405 (rd3 ho) rfl (Nat.le_of_ble_eq_true rfl) (fun _ h9 => h9) rfl ?_
    refine g_bipush (v := 7) X dX2_canSay_12 rfl ?_
    refine g_iald (j := 7) X dX2_canSay_14 (rdi ho (400) (rfl)) rfl (by decide) (by decide) ?_
    refine g_iload_n X dX2_canSay_15 rfl ?_
    refine g_callS X (k_X2_has ho) (lw_S q1711 q1712 q139 q1713) hd_X2_has dX2_canSay_16 rfl ⟨Nat.le_of_ble_eq_true rfl, Nat.le_of_ble_eq_true rfl⟩ ⟨Nat.le_of_ble_eq_true rfl, Nat.le_of_ble_eq_true rfl⟩ (Nat.le_of_ble_eq_true rfl) ?_
    rintro _ S1 ⟨rfl, hS1⟩
    obtain rfl := hS1.symm
    refine g_ifp_ne (tgt := 53) X dX2_canSay_19 rfl (fun c19 => ?_) (fun c19 => ?_)
    · refine g_iconst (v := 0) X dX2_canSay_53 rfl ?_
      refine g_zret X hr dX2_canSay_54 ?_ (Nat.le_of_ble_eq_true rfl) (Nat.le_of_ble_eq_true rfl) ?_
      · first | rfl | exact nb_bP
      · exact ⟨lb_0 (by grind), rfl⟩
    · have hc : ix c < 8 := Nat.lt_of_lt_of_le (cl_lt hn8 c5) hn8
      refine g_aload_n X dX2_canSay_22 rfl ?_
      refine g_get (C := RX2) (T := TX2) (N := 35) X 0 in_X2 dX2_canSay_23 q1405 (rd3 ho) rfl (Nat.le_of_ble_eq_true rfl) (fun _ h9 => h9) rfl ?_
      refine g_bipush (v := 9) X dX2_canSay_26 rfl ?_
      refine g_iload_n X dX2_canSay_28 rfl ?_
      refine g_iadd X dX2_canSay_29 ?_
      refine g_iald (j := 9 + ix c) X dX2_canSay_30 (rdi ho (400) (rfl)) (ad_3 c5.1 9) (by omega) (by decide) ?_
      refine g_if_ne (tgt := 53) X dX2_canSay_31 rfl (fun c31 => ?_) (fun c31 => ?_)
      · refine g_iconst (v := 0) X dX2_canSay_53 rfl ?_
        refine g_zret X hr dX2_canSay_54 ?_ (Nat.le_of_ble_eq_true rfl) (Nat.le_of_ble_eq_true rfl) ?_
        · first | rfl | exact nb_bP
        · exact ⟨lb_0 (by grind), rfl⟩
      · refine g_aload_n X dX2_canSay_34 rfl ?_
        refine g_aload_n X dX2_canSay_35 rfl ?_
        refine g_callV (C := RX2) (T := TX2) (N := 35) X (k_X2_heldNow ho hu) (lw_V q1755 q1757 qs97 q139 q1758) hd_X2_heldNow dX2_canSay_36 (rd3 ho) rfl rfl ⟨Nat.le_of_ble_eq_true rfl, Nat.le_of_ble_eq_true rfl⟩ ⟨Nat.le_of_ble_eq_true rfl, Nat.le_of_ble_eq_true rfl⟩ (Nat.le_of_ble_eq_true rfl) ?_
        rintro _ S1 ⟨rfl, hS1⟩
        obtain rfl := hS1.symm
        refine g_iconst (v := 1) X dX2_canSay_39 rfl ?_
        refine g_iload_n X dX2_canSay_40 rfl ?_
        refine g_ishl X dX2_canSay_41 ?_
        refine g_ior X dX2_canSay_42 ?_
        refine g_callV (C := RX2) (T := TX2) (N := 35) X (k_X2_worldsOf ho hu) (lw_V q1763 q1765 qs99 q139 q1766) hd_X2_worldsOf dX2_canSay_43 (rd3 ho) rfl rfl ⟨Nat.le_of_ble_eq_true rfl, Nat.le_of_ble_eq_true rfl⟩ ⟨Nat.le_of_ble_eq_true rfl, Nat.le_of_ble_eq_true rfl⟩ (Nat.le_of_ble_eq_true rfl) ?_
        rintro _ S1 ⟨rfl, hS1⟩
        obtain rfl := hS1.symm
        refine g_if_eq (tgt := 53) X dX2_canSay_46 rfl (fun c46 => ?_) (fun c46 => ?_)
        · refine g_iconst (v := 0) X dX2_canSay_53 rfl ?_
          refine g_zret X hr dX2_canSay_54 ?_ (Nat.le_of_ble_eq_true rfl) (Nat.le_of_ble_eq_true rfl) ?_
          · first | rfl | exact nb_bP
          · exact ⟨lb_0 (by grind), rfl⟩
        · refine g_iconst (v := 1) X dX2_canSay_49 rfl ?_
          refine g_goto (tgt := 54) X dX2_canSay_50 rfl ?_
          refine g_zret X hr dX2_canSay_54 ?_ (Nat.le_of_ble_eq_true rfl) (Nat.le_of_ble_eq_true rfl) ?_
          · first | rfl | exact nb_bP
          · exact ⟨lb_1 ⟨c5, c19, c31, c46⟩, rfl⟩
set_option maxHeartbeats 600000 in
theorem k_X0_canRetract {l : Launch} {E : gk_E} (ho : E.2.2.2.2 = true) {S : gk_S} {c : Int32} {a n : Nat} {f : Nat → Int32} (hu : RU E S a n f) : gk_T l E yX0_canRetract cX0_canRetract 2 ((some .boolean)) 3 61 0 0 [.ref (E.2.2.1 0), .int c] S (fun r S' => r = some (.int (bP ((0 ≤ c ∧ c ≤ nI n - 1) ∧ hs (S.1 11 2) c))) ∧ S' = S) := by
  refine gk_T.of [some (.ref (E.2.2.1 0)), some (.int c)] (by decide) (Nat.le_of_ble_eq_true rfl) (fun _ _ h => h) ?_
  intro p_ e_ R_ s_ m_ args_ below_ meth_ c_ hR X hr hin
  subst hR
  refine g_aload_n X dX0_canRetract_0 rfl ?_
  refine g_iload_n X dX0_canRetract_1 rfl ?_
  refine g_callV (C := RX0) (T := TX0) (N := 13) X (k_X0_isClaim ho hu) (lw_V q1082 q1084 qs36 q135 q1085) hd_X0_isClaim dX0_canRetract_2 (rd0 ho) rfl rfl ⟨Nat.le_of_ble_eq_true rfl, Nat.le_of_ble_eq_true rfl⟩ ⟨Nat.le_of_ble_eq_true rfl, Nat.le_of_ble_eq_true rfl⟩ (Nat.le_of_ble_eq_true rfl) ?_
  rintro _ S1 ⟨rfl, hS1⟩
  obtain rfl := hS1.symm
  refine g_ifp_eq (tgt := 28) X dX0_canRetract_5 rfl (fun c5 => ?_) (fun c5 => ?_)
  · refine g_iconst (v := 0) X dX0_canRetract_28 rfl ?_
    refine g_zret X hr dX0_canRetract_29 ?_ (Nat.le_of_ble_eq_true rfl) (Nat.le_of_ble_eq_true rfl) ?_
    · first | rfl | exact nb_bP
    · exact ⟨lb_0 (by grind), rfl⟩
  · refine g_aload_n X dX0_canRetract_8 rfl ?_
    refine g_get (C := RX0) (T := TX0) (N := 13) X 0 in_X0 dX0_canRetract_9 q241 (rd0 ho) rfl (Nat.le_of_ble_eq_true rfl) (fun _ h9 => h9) rfl ?_
    refine g_getN (C := RX1) (T := TX1) (N := 8) X 1 in_X1 dX0_canRetract_12 q197 (rd1 ho) rfl (Nat.le_of_ble_eq_true rfl) (fun _ h9 => h9) rfl ?_
    refine g_iconst (v := 2) X dX0_canRetract_15 rfl ?_
    refine g_iald (j := 2) X dX0_canRetract_16 (rdi ho (11) (rfl)) rfl (by decide) (by decide) ?_
    refine g_iload_n X dX0_canRetract_17 rfl ?_
    refine g_callS X (k_X0_has ho) (lw_S q1028 q1029 q135 q1030) hd_X0_has dX0_canRetract_18 rfl ⟨Nat.le_of_ble_eq_true rfl, Nat.le_of_ble_eq_true rfl⟩ ⟨Nat.le_of_ble_eq_true rfl, Nat.le_of_ble_eq_true rfl⟩ (Nat.le_of_ble_eq_true rfl) ?_
    rintro _ S1 ⟨rfl, hS1⟩
    obtain rfl := hS1.symm
    refine g_ifp_eq (tgt := 28) X dX0_canRetract_21 rfl (fun c21 => ?_) (fun c21 => ?_)
    · refine g_iconst (v := 0) X dX0_canRetract_28 rfl ?_
      refine g_zret X hr dX0_canRetract_29 ?_ (Nat.le_of_ble_eq_true rfl) (Nat.le_of_ble_eq_true rfl) ?_
      · first | rfl | exact nb_bP
      · exact ⟨lb_0 (by grind), rfl⟩
    · refine g_iconst (v := 1) X dX0_canRetract_24 rfl ?_
      refine g_goto (tgt := 29) X dX0_canRetract_25 rfl ?_
      refine g_zret X hr dX0_canRetract_29 ?_ (Nat.le_of_ble_eq_true rfl) (Nat.le_of_ble_eq_true rfl) ?_
      · first | rfl | exact nb_bP
      · exact ⟨lb_1 ⟨c5, c21⟩, rfl⟩
set_option maxHeartbeats 600000 in
theorem k_X2_canRetract {l : Launch} {E : gk_E} (ho : E.2.2.2.2 = true) {S : gk_S} {c : Int32} {n : Nat} {f : Nat → Int32} (hu : MU S n f) : gk_T l E yX2_canRetract cX2_canRetract 2 ((some .boolean)) 2 43 0 0 [.ref (E.2.2.1 3), .int c] S (fun r S' => r = some (.int (bP ((0 ≤ c ∧ c ≤ nI n - 1) ∧ hs (S.1 400 7) c))) ∧ S' = S) := by
  refine gk_T.of [some (.ref (E.2.2.1 3)), some (.int c)] (by decide) (Nat.le_of_ble_eq_true rfl) (fun _ _ h => h) ?_
  intro p_ e_ R_ s_ m_ args_ below_ meth_ c_ hR X hr hin
  subst hR
  refine g_aload_n X dX2_canRetract_0 rfl ?_
  refine g_iload_n X dX2_canRetract_1 rfl ?_
  refine g_callV (C := RX2) (T := TX2) (N := 35) X (k_X2_isClaim ho hu) (lw_V q1751 q1753 qs96 q139 q1754) hd_X2_isClaim dX2_canRetract_2 (rd3 ho) rfl rfl ⟨Nat.le_of_ble_eq_true rfl, Nat.le_of_ble_eq_true rfl⟩ ⟨Nat.le_of_ble_eq_true rfl, Nat.le_of_ble_eq_true rfl⟩ (Nat.le_of_ble_eq_true rfl) ?_
  rintro _ S1 ⟨rfl, hS1⟩
  obtain rfl := hS1.symm
  refine g_ifp_eq (tgt := 26) X dX2_canRetract_5 rfl (fun c5 => ?_) (fun c5 => ?_)
  · refine g_iconst (v := 0) X dX2_canRetract_26 rfl ?_
    refine g_zret X hr dX2_canRetract_27 ?_ (Nat.le_of_ble_eq_true rfl) (Nat.le_of_ble_eq_true rfl) ?_
    · first | rfl | exact nb_bP
    · exact ⟨lb_0 (by grind), rfl⟩
  · refine g_aload_n X dX2_canRetract_8 rfl ?_
    refine g_get (C := RX2) (T := TX2) (N := 35) X 0 in_X2 dX2_canRetract_9 q1405 (rd3 ho) rfl (Nat.le_of_ble_eq_true rfl) (fun _ h9 => h9) rfl ?_
    refine g_bipush (v := 7) X dX2_canRetract_12 rfl ?_
    refine g_iald (j := 7) X dX2_canRetract_14 (rdi ho (400) (rfl)) rfl (by decide) (by decide) ?_
    refine g_iload_n X dX2_canRetract_15 rfl ?_
    refine g_callS X (k_X2_has ho) (lw_S q1711 q1712 q139 q1713) hd_X2_has dX2_canRetract_16 rfl ⟨Nat.le_of_ble_eq_true rfl, Nat.le_of_ble_eq_true rfl⟩ ⟨Nat.le_of_ble_eq_true rfl, Nat.le_of_ble_eq_true rfl⟩ (Nat.le_of_ble_eq_true rfl) ?_
    rintro _ S1 ⟨rfl, hS1⟩
    obtain rfl := hS1.symm
    refine g_ifp_eq (tgt := 26) X dX2_canRetract_19 rfl (fun c19 => ?_) (fun c19 => ?_)
    · refine g_iconst (v := 0) X dX2_canRetract_26 rfl ?_
      refine g_zret X hr dX2_canRetract_27 ?_ (Nat.le_of_ble_eq_true rfl) (Nat.le_of_ble_eq_true rfl) ?_
      · first | rfl | exact nb_bP
      · exact ⟨lb_0 (by grind), rfl⟩
    · refine g_iconst (v := 1) X dX2_canRetract_22 rfl ?_
      refine g_goto (tgt := 27) X dX2_canRetract_23 rfl ?_
      refine g_zret X hr dX2_canRetract_27 ?_ (Nat.le_of_ble_eq_true rfl) (Nat.le_of_ble_eq_true rfl) ?_
      · first | rfl | exact nb_bP
      · exact ⟨lb_1 ⟨c5, c19⟩, rfl⟩
set_option maxHeartbeats 600000 in
theorem k_X0_canPardon {l : Launch} {E : gk_E} (ho : E.2.2.2.2 = true) {S : gk_S} {c : Int32} {a n : Nat} {f : Nat → Int32} (hu : RU E S a n f) : gk_T l E yX0_canPardon cX0_canPardon 2 ((some .boolean)) 3 61 0 0 [.ref (E.2.2.1 0), .int c] S (fun r S' => r = some (.int (bP ((0 ≤ c ∧ c ≤ nI n - 1) ∧ ¬ S.1 11 (3 + ix c) ≤ 0))) ∧ S' = S) := by
  refine gk_T.of [some (.ref (E.2.2.1 0)), some (.int c)] (by decide) (Nat.le_of_ble_eq_true rfl) (fun _ _ h => h) ?_
  intro p_ e_ R_ s_ m_ args_ below_ meth_ c_ hR X hr hin
  subst hR
  have hn8 : n ≤ 8 := hu.1
  refine g_aload_n X dX0_canPardon_0 rfl ?_
  refine g_iload_n X dX0_canPardon_1 rfl ?_
  refine g_callV (C := RX0) (T := TX0) (N := 13) X (k_X0_isClaim ho hu) (lw_V q1082 q1084 qs36 q135 q1085) hd_X0_isClaim dX0_canPardon_2 (rd0 ho) rfl rfl ⟨Nat.le_of_ble_eq_true rfl, Nat.le_of_ble_eq_true rfl⟩ ⟨Nat.le_of_ble_eq_true rfl, Nat.le_of_ble_eq_true rfl⟩ (Nat.le_of_ble_eq_true rfl) ?_
  rintro _ S1 ⟨rfl, hS1⟩
  obtain rfl := hS1.symm
  refine g_ifp_eq (tgt := 26) X dX0_canPardon_5 rfl (fun c5 => ?_) (fun c5 => ?_)
  · refine g_iconst (v := 0) X dX0_canPardon_26 rfl ?_
    refine g_zret X hr dX0_canPardon_27 ?_ (Nat.le_of_ble_eq_true rfl) (Nat.le_of_ble_eq_true rfl) ?_
    · first | rfl | exact nb_bP
    · exact ⟨lb_0 (by grind), rfl⟩
  · have hc : ix c < 8 := Nat.lt_of_lt_of_le (cl_lt hn8 c5) hn8
    refine g_aload_n X dX0_canPardon_8 rfl ?_
    refine g_get (C := RX0) (T := TX0) (N := 13) X 0 in_X0 dX0_canPardon_9 q241 (rd0 ho) rfl (Nat.le_of_ble_eq_true rfl) (fun _ h9 => h9) rfl ?_
    refine g_getN (C := RX1) (T := TX1) (N := 8) X 1 in_X1 dX0_canPardon_12 q197 (rd1 ho) rfl (Nat.le_of_ble_eq_true rfl) (fun _ h9 => h9) rfl ?_
    refine g_iconst (v := 3) X dX0_canPardon_15 rfl ?_
    refine g_iload_n X dX0_canPardon_16 rfl ?_
    refine g_iadd X dX0_canPardon_17 ?_
    refine g_iald (j := 3 + ix c) X dX0_canPardon_18 (rdi ho (11) (rfl)) (ad_3 c5.1 3) (by omega) (by decide) ?_
    refine g_if_le (tgt := 26) X dX0_canPardon_19 rfl (fun c19 => ?_) (fun c19 => ?_)
    · refine g_iconst (v := 0) X dX0_canPardon_26 rfl ?_
      refine g_zret X hr dX0_canPardon_27 ?_ (Nat.le_of_ble_eq_true rfl) (Nat.le_of_ble_eq_true rfl) ?_
      · first | rfl | exact nb_bP
      · exact ⟨lb_0 (by grind), rfl⟩
    · refine g_iconst (v := 1) X dX0_canPardon_22 rfl ?_
      refine g_goto (tgt := 27) X dX0_canPardon_23 rfl ?_
      refine g_zret X hr dX0_canPardon_27 ?_ (Nat.le_of_ble_eq_true rfl) (Nat.le_of_ble_eq_true rfl) ?_
      · first | rfl | exact nb_bP
      · exact ⟨lb_1 ⟨c5, c19⟩, rfl⟩
set_option maxHeartbeats 600000 in
theorem k_X2_canPardon {l : Launch} {E : gk_E} (ho : E.2.2.2.2 = true) {S : gk_S} {c : Int32} {n : Nat} {f : Nat → Int32} (hu : MU S n f) : gk_T l E yX2_canPardon cX2_canPardon 2 ((some .boolean)) 2 43 0 0 [.ref (E.2.2.1 3), .int c] S (fun r S' => r = some (.int (bP ((0 ≤ c ∧ c ≤ nI n - 1) ∧ ¬ S.1 400 (9 + ix c) = 0))) ∧ S' = S) := by
  refine gk_T.of [some (.ref (E.2.2.1 3)), some (.int c)] (by decide) (Nat.le_of_ble_eq_true rfl) (fun _ _ h => h) ?_
  intro p_ e_ R_ s_ m_ args_ below_ meth_ c_ hR X hr hin
  subst hR
  have hn8 : n ≤ 8 := hu.1
  refine g_aload_n X dX2_canPardon_0 rfl ?_
  refine g_iload_n X dX2_canPardon_1 rfl ?_
  refine g_callV (C := RX2) (T := TX2) (N := 35) X (k_X2_isClaim ho hu) (lw_V q1751 q1753 qs96 q139 q1754) hd_X2_isClaim dX2_canPardon_2 (rd3 ho) rfl rfl ⟨Nat.le_of_ble_eq_true rfl, Nat.le_of_ble_eq_true rfl⟩ ⟨Nat.le_of_ble_eq_true rfl, Nat.le_of_ble_eq_true rfl⟩ (Nat.le_of_ble_eq_true rfl) ?_
  rintro _ S1 ⟨rfl, hS1⟩
  obtain rfl := hS1.symm
  refine g_ifp_eq (tgt := 24) X dX2_canPardon_5 rfl (fun c5 => ?_) (fun c5 => ?_)
  · refine g_iconst (v := 0) X dX2_canPardon_24 rfl ?_
    refine g_zret X hr dX2_canPardon_25 ?_ (Nat.le_of_ble_eq_true rfl) (Nat.le_of_ble_eq_true rfl) ?_
    · first | rfl | exact nb_bP
    · exact ⟨lb_0 (by grind), rfl⟩
  · have hc : ix c < 8 := Nat.lt_of_lt_of_le (cl_lt hn8 c5) hn8
    refine g_aload_n X dX2_canPardon_8 rfl ?_
    refine g_get (C := RX2) (T := TX2) (N := 35) X 0 in_X2 dX2_canPardon_9 q1405 (rd3 ho) rfl (Nat.le_of_ble_eq_true rfl) (fun _ h9 => h9) rfl ?_
    refine g_bipush (v := 9) X dX2_canPardon_12 rfl ?_
    refine g_iload_n X dX2_canPardon_14 rfl ?_
    refine g_iadd X dX2_canPardon_15 ?_
    refine g_iald (j := 9 + ix c) X dX2_canPardon_16 (rdi ho (400) (rfl)) (ad_3 c5.1 9) (by omega) (by decide) ?_
    refine g_if_eq (tgt := 24) X dX2_canPardon_17 rfl (fun c17 => ?_) (fun c17 => ?_)
    · refine g_iconst (v := 0) X dX2_canPardon_24 rfl ?_
      refine g_zret X hr dX2_canPardon_25 ?_ (Nat.le_of_ble_eq_true rfl) (Nat.le_of_ble_eq_true rfl) ?_
      · first | rfl | exact nb_bP
      · exact ⟨lb_0 (by grind), rfl⟩
    · refine g_iconst (v := 1) X dX2_canPardon_20 rfl ?_
      refine g_goto (tgt := 25) X dX2_canPardon_21 rfl ?_
      refine g_zret X hr dX2_canPardon_25 ?_ (Nat.le_of_ble_eq_true rfl) (Nat.le_of_ble_eq_true rfl) ?_
      · first | rfl | exact nb_bP
      · exact ⟨lb_1 ⟨c5, c17⟩, rfl⟩
set_option maxHeartbeats 600000 in
theorem k_X0_free {l : Launch} {E : gk_E} (ho : E.2.2.2.2 = true) {S : gk_S}  {a n : Nat} {f : Nat → Int32} (hu : RU E S a n f) : gk_T l E yX0_free cX0_free 3 ((some .int)) 6 124 0 0 [.ref (E.2.2.1 0)] S (fun r S' => r = some (.int (frA (fun c => csP n f (S.1 11 2) (fun k => S.1 11 (3 + k)) c) n)) ∧ S' = S) := by
  refine gk_T.of [some (.ref (E.2.2.1 0)), none, none] (by decide) (Nat.le_of_ble_eq_true rfl) (le_1 rfl (le_p (le_p le_n))) ?_
  intro p_ e_ R_ s_ m_ args_ below_ meth_ c_ hR X hr hin
  subst hR
  have hn8 : n ≤ 8 := hu.1
  refine g_iconst (v := 0) X dX0_free_0 rfl ?_
  refine g_istore_n X dX0_free_1 (Nat.le_of_ble_eq_true rfl) ?_
  refine g_iconst (v := 0) X dX0_free_2 rfl ?_
  refine g_istore_n X dX0_free_3 (Nat.le_of_ble_eq_true rfl) ?_
  refine g_loop (σ := Nat) (fun (i : Nat) => S) (fun (i : Nat) => ([some (.ref (E.2.2.1 0)), some (.int (frA (fun c => csP n f (S.1 11 2) (fun k => S.1 11 (3 + k)) c) i)), some (.int (nI i))] : List (Option Value))) (fun (i : Nat) => i ≤ n) (fun (i : Nat) => n - i) (0) ?_ (rfl) (le_1 rfl (le_1 rfl (le_1 rfl le_n))) ?_
  · exact Nat.zero_le _
  intro i hI ih
  try dsimp only at hI ih ⊢
  refine g_iload_n X dX0_free_4 rfl ?_
  refine g_aload_n X dX0_free_5 rfl ?_
  refine g_callV (C := RX0) (T := TX0) (N := 13) X (k_X0_claims ho hu) (lw_V q1015 q1017 qs27 q135 q1018) hd_X0_claims dX0_free_6 (rd0 ho) rfl rfl ⟨Nat.le_of_ble_eq_true rfl, Nat.le_of_ble_eq_true rfl⟩ ⟨Nat.le_of_ble_eq_true rfl, Nat.le_of_ble_eq_true rfl⟩ (Nat.le_of_ble_eq_true rfl) ?_
  rintro _ S1 ⟨rfl, hS1⟩
  obtain rfl := hS1.symm
  refine g_icmp_ge (tgt := 36) X dX0_free_9 rfl (fun c9 => ?_) (fun c9 => ?_)
  · refine g_iload_n X dX0_free_36 rfl ?_
    exact g_iret X hr dX0_free_37 (Nat.le_of_ble_eq_true rfl) (Nat.le_of_ble_eq_true rfl) (⟨by rw [out_of (by omega) hI c9], rfl⟩)
  · have hi : i < n := in_of (by omega) hI c9
    refine g_iload_n X dX0_free_12 rfl ?_
    refine g_aload_n X dX0_free_13 rfl ?_
    refine g_iload_n X dX0_free_14 rfl ?_
    refine g_callV (C := RX0) (T := TX0) (N := 13) X (k_X0_canSay ho hu) (lw_V q1078 q1080 qs35 q135 q1081) hd_X0_canSay dX0_free_15 (rd0 ho) rfl rfl ⟨Nat.le_of_ble_eq_true rfl, Nat.le_of_ble_eq_true rfl⟩ ⟨Nat.le_of_ble_eq_true rfl, Nat.le_of_ble_eq_true rfl⟩ (Nat.le_of_ble_eq_true rfl) ?_
    rintro _ S1 ⟨rfl, hS1⟩
    obtain rfl := hS1.symm
    refine g_ifp_eq (tgt := 27) X dX0_free_18 rfl (fun c18 => ?_) (fun c18 => ?_)
    · refine g_iconst (v := 0) X dX0_free_27 rfl ?_
      refine g_ior X dX0_free_28 ?_
      refine g_istore_n X dX0_free_29 (Nat.le_of_ble_eq_true rfl) ?_
      refine g_iinc (v := 1) X dX0_free_30 rfl rfl (Nat.le_of_ble_eq_true rfl) ?_
      refine g_goto (tgt := 4) X dX0_free_33 rfl ?_
      refine g_sub (le_1 rfl (le_1 (ei (frA_f (P := (fun c => csP n f (S.1 11 2) (fun k => S.1 11 (3 + k)) c)) c18)) (le_1 e_1 le_n))) (ih (i + 1) ?_ ?_)
      · omega
      · omega
    · refine g_iconst (v := 1) X dX0_free_21 rfl ?_
      refine g_iload_n X dX0_free_22 rfl ?_
      refine g_ishl X dX0_free_23 ?_
      refine g_goto (tgt := 28) X dX0_free_24 rfl ?_
      refine g_ior X dX0_free_28 ?_
      refine g_istore_n X dX0_free_29 (Nat.le_of_ble_eq_true rfl) ?_
      refine g_iinc (v := 1) X dX0_free_30 rfl rfl (Nat.le_of_ble_eq_true rfl) ?_
      refine g_goto (tgt := 4) X dX0_free_33 rfl ?_
      refine g_sub (le_1 rfl (le_1 (ei (frA_t (P := (fun c => csP n f (S.1 11 2) (fun k => S.1 11 (3 + k)) c)) c18)) (le_1 e_1 le_n))) (ih (i + 1) ?_ ?_)
      · omega
      · omega
set_option maxHeartbeats 600000 in
theorem k_X2_free {l : Launch} {E : gk_E} (ho : E.2.2.2.2 = true) {S : gk_S}  {n : Nat} {f : Nat → Int32} (hu : MU S n f) : gk_T l E yX2_free cX2_free 3 ((some .int)) 4 81 0 0 [.ref (E.2.2.1 3)] S (fun r S' => r = some (.int (frA (fun c => csP n f (S.1 400 7) (fun k => S.1 400 (9 + k)) c) n)) ∧ S' = S) := by
  refine gk_T.of [some (.ref (E.2.2.1 3)), none, none] (by decide) (Nat.le_of_ble_eq_true rfl) (le_1 rfl (le_p (le_p le_n))) ?_
  intro p_ e_ R_ s_ m_ args_ below_ meth_ c_ hR X hr hin
  subst hR
  have hn8 : n ≤ 8 := hu.1
  refine g_iconst (v := 0) X dX2_free_0 rfl ?_
  refine g_istore_n X dX2_free_1 (Nat.le_of_ble_eq_true rfl) ?_
  refine g_iconst (v := 0) X dX2_free_2 rfl ?_
  refine g_istore_n X dX2_free_3 (Nat.le_of_ble_eq_true rfl) ?_
  refine g_loop (σ := Nat) (fun (i : Nat) => S) (fun (i : Nat) => ([some (.ref (E.2.2.1 3)), some (.int (frA (fun c => csP n f (S.1 400 7) (fun k => S.1 400 (9 + k)) c) i)), some (.int (nI i))] : List (Option Value))) (fun (i : Nat) => i ≤ n) (fun (i : Nat) => n - i) (0) ?_ (rfl) (le_1 rfl (le_1 rfl (le_1 rfl le_n))) ?_
  · exact Nat.zero_le _
  intro i hI ih
  try dsimp only at hI ih ⊢
  refine g_iload_n X dX2_free_4 rfl ?_
  refine g_aload_n X dX2_free_5 rfl ?_
  refine g_callV (C := RX2) (T := TX2) (N := 35) X (k_X2_claims ho hu) (lw_V q1707 q1709 qs94 q139 q1710) hd_X2_claims dX2_free_6 (rd3 ho) rfl rfl ⟨Nat.le_of_ble_eq_true rfl, Nat.le_of_ble_eq_true rfl⟩ ⟨Nat.le_of_ble_eq_true rfl, Nat.le_of_ble_eq_true rfl⟩ (Nat.le_of_ble_eq_true rfl) ?_
  rintro _ S1 ⟨rfl, hS1⟩
  obtain rfl := hS1.symm
  refine g_icmp_ge (tgt := 36) X dX2_free_9 rfl (fun c9 => ?_) (fun c9 => ?_)
  · refine g_iload_n X dX2_free_36 rfl ?_
    exact g_iret X hr dX2_free_37 (Nat.le_of_ble_eq_true rfl) (Nat.le_of_ble_eq_true rfl) (⟨by rw [out_of (by omega) hI c9], rfl⟩)
  · have hi : i < n := in_of (by omega) hI c9
    refine g_iload_n X dX2_free_12 rfl ?_
    refine g_aload_n X dX2_free_13 rfl ?_
    refine g_iload_n X dX2_free_14 rfl ?_
    refine g_callV (C := RX2) (T := TX2) (N := 35) X (k_X2_canSay ho hu) (lw_V q1747 q1749 qs95 q139 q1750) hd_X2_canSay dX2_free_15 (rd3 ho) rfl rfl ⟨Nat.le_of_ble_eq_true rfl, Nat.le_of_ble_eq_true rfl⟩ ⟨Nat.le_of_ble_eq_true rfl, Nat.le_of_ble_eq_true rfl⟩ (Nat.le_of_ble_eq_true rfl) ?_
    rintro _ S1 ⟨rfl, hS1⟩
    obtain rfl := hS1.symm
    refine g_ifp_eq (tgt := 27) X dX2_free_18 rfl (fun c18 => ?_) (fun c18 => ?_)
    · refine g_iconst (v := 0) X dX2_free_27 rfl ?_
      refine g_ior X dX2_free_28 ?_
      refine g_istore_n X dX2_free_29 (Nat.le_of_ble_eq_true rfl) ?_
      refine g_iinc (v := 1) X dX2_free_30 rfl rfl (Nat.le_of_ble_eq_true rfl) ?_
      refine g_goto (tgt := 4) X dX2_free_33 rfl ?_
      refine g_sub (le_1 rfl (le_1 (ei (frA_f (P := (fun c => csP n f (S.1 400 7) (fun k => S.1 400 (9 + k)) c)) c18)) (le_1 e_1 le_n))) (ih (i + 1) ?_ ?_)
      · omega
      · omega
    · refine g_iconst (v := 1) X dX2_free_21 rfl ?_
      refine g_iload_n X dX2_free_22 rfl ?_
      refine g_ishl X dX2_free_23 ?_
      refine g_goto (tgt := 28) X dX2_free_24 rfl ?_
      refine g_ior X dX2_free_28 ?_
      refine g_istore_n X dX2_free_29 (Nat.le_of_ble_eq_true rfl) ?_
      refine g_iinc (v := 1) X dX2_free_30 rfl rfl (Nat.le_of_ble_eq_true rfl) ?_
      refine g_goto (tgt := 4) X dX2_free_33 rfl ?_
      refine g_sub (le_1 rfl (le_1 (ei (frA_t (P := (fun c => csP n f (S.1 400 7) (fun k => S.1 400 (9 + k)) c)) c18)) (le_1 e_1 le_n))) (ih (i + 1) ?_ ?_)
      · omega
      · omega
set_option maxHeartbeats 600000 in
theorem k_X0_barredNow {l : Launch} {E : gk_E} (ho : E.2.2.2.2 = true) {S : gk_S}  {a n : Nat} {f : Nat → Int32} (hu : RU E S a n f) : gk_T l E yX0_barredNow cX0_barredNow 3 ((some .int)) 2 40 0 0 [.ref (E.2.2.1 0)] S (fun r S' => r = some (.int (frA (fun c => ¬ S.1 11 (3 + ix c) ≤ 0) n)) ∧ S' = S) := by
  refine gk_T.of [some (.ref (E.2.2.1 0)), none, none] (by decide) (Nat.le_of_ble_eq_true rfl) (le_1 rfl (le_p (le_p le_n))) ?_
  intro p_ e_ R_ s_ m_ args_ below_ meth_ c_ hR X hr hin
  subst hR
  have hn8 : n ≤ 8 := hu.1
  refine g_iconst (v := 0) X dX0_barredNow_0 rfl ?_
  refine g_istore_n X dX0_barredNow_1 (Nat.le_of_ble_eq_true rfl) ?_
  refine g_iconst (v := 0) X dX0_barredNow_2 rfl ?_
  refine g_istore_n X dX0_barredNow_3 (Nat.le_of_ble_eq_true rfl) ?_
  refine g_loop (σ := Nat) (fun (i : Nat) => S) (fun (i : Nat) => ([some (.ref (E.2.2.1 0)), some (.int (frA (fun c => ¬ S.1 11 (3 + ix c) ≤ 0) i)), some (.int (nI i))] : List (Option Value))) (fun (i : Nat) => i ≤ n) (fun (i : Nat) => n - i) (0) ?_ (rfl) (le_1 rfl (le_1 rfl (le_1 rfl le_n))) ?_
  · exact Nat.zero_le _
  intro i hI ih
  try dsimp only at hI ih ⊢
  refine g_iload_n X dX0_barredNow_4 rfl ?_
  refine g_aload_n X dX0_barredNow_5 rfl ?_
  refine g_callV (C := RX0) (T := TX0) (N := 13) X (k_X0_claims ho hu) (lw_V q1015 q1017 qs27 q135 q1018) hd_X0_claims dX0_barredNow_6 (rd0 ho) rfl rfl ⟨Nat.le_of_ble_eq_true rfl, Nat.le_of_ble_eq_true rfl⟩ ⟨Nat.le_of_ble_eq_true rfl, Nat.le_of_ble_eq_true rfl⟩ (Nat.le_of_ble_eq_true rfl) ?_
  rintro _ S1 ⟨rfl, hS1⟩
  obtain rfl := hS1.symm
  refine g_icmp_ge (tgt := 42) X dX0_barredNow_9 rfl (fun c9 => ?_) (fun c9 => ?_)
  · refine g_iload_n X dX0_barredNow_42 rfl ?_
    exact g_iret X hr dX0_barredNow_43 (Nat.le_of_ble_eq_true rfl) (Nat.le_of_ble_eq_true rfl) (⟨by rw [out_of (by omega) hI c9], rfl⟩)
  · have hi : i < n := in_of (by omega) hI c9
    refine g_iload_n X dX0_barredNow_12 rfl ?_
    refine g_aload_n X dX0_barredNow_13 rfl ?_
    refine g_get (C := RX0) (T := TX0) (N := 13) X 0 in_X0 dX0_barredNow_14 q241 (rd0 ho) rfl (Nat.le_of_ble_eq_true rfl) (fun _ h9 => h9) rfl ?_
    refine g_getN (C := RX1) (T := TX1) (N := 8) X 1 in_X1 dX0_barredNow_17 q197 (rd1 ho) rfl (Nat.le_of_ble_eq_true rfl) (fun _ h9 => h9) rfl ?_
    refine g_iconst (v := 3) X dX0_barredNow_20 rfl ?_
    refine g_iload_n X dX0_barredNow_21 rfl ?_
    refine g_iadd X dX0_barredNow_22 ?_
    refine g_iald (j := 3 + i) X dX0_barredNow_23 (rdi ho (11) (rfl)) (nI_add 3 i) (by omega) (by decide) ?_
    refine g_if_le (tgt := 33) X dX0_barredNow_24 rfl (fun c24 => ?_) (fun c24 => ?_)
    · refine g_iconst (v := 0) X dX0_barredNow_33 rfl ?_
      refine g_ior X dX0_barredNow_34 ?_
      refine g_istore_n X dX0_barredNow_35 (Nat.le_of_ble_eq_true rfl) ?_
      refine g_iinc (v := 1) X dX0_barredNow_36 rfl rfl (Nat.le_of_ble_eq_true rfl) ?_
      refine g_goto (tgt := 4) X dX0_barredNow_39 rfl ?_
      refine g_sub (le_1 rfl (le_1 (ei (frA_f (P := (fun c => ¬ S.1 11 (3 + ix c) ≤ 0)) (fun z => z (by rw [ix_n (by omega)]; exact c24)))) (le_1 e_1 le_n))) (ih (i + 1) ?_ ?_)
      · omega
      · omega
    · refine g_iconst (v := 1) X dX0_barredNow_27 rfl ?_
      refine g_iload_n X dX0_barredNow_28 rfl ?_
      refine g_ishl X dX0_barredNow_29 ?_
      refine g_goto (tgt := 34) X dX0_barredNow_30 rfl ?_
      refine g_ior X dX0_barredNow_34 ?_
      refine g_istore_n X dX0_barredNow_35 (Nat.le_of_ble_eq_true rfl) ?_
      refine g_iinc (v := 1) X dX0_barredNow_36 rfl rfl (Nat.le_of_ble_eq_true rfl) ?_
      refine g_goto (tgt := 4) X dX0_barredNow_39 rfl ?_
      refine g_sub (le_1 rfl (le_1 (ei (frA_t (P := (fun c => ¬ S.1 11 (3 + ix c) ≤ 0)) (fun z => c24 (by rw [ix_n (by omega)] at z; exact z)))) (le_1 e_1 le_n))) (ih (i + 1) ?_ ?_)
      · omega
      · omega
set_option maxHeartbeats 600000 in
theorem k_X2_barredNow {l : Launch} {E : gk_E} (ho : E.2.2.2.2 = true) {S : gk_S}  {n : Nat} {f : Nat → Int32} (hu : MU S n f) : gk_T l E yX2_barredNow cX2_barredNow 3 ((some .int)) 1 20 0 0 [.ref (E.2.2.1 3)] S (fun r S' => r = some (.int (frA (fun c => ¬ S.1 400 (9 + ix c) = 0) n)) ∧ S' = S) := by
  refine gk_T.of [some (.ref (E.2.2.1 3)), none, none] (by decide) (Nat.le_of_ble_eq_true rfl) (le_1 rfl (le_p (le_p le_n))) ?_
  intro p_ e_ R_ s_ m_ args_ below_ meth_ c_ hR X hr hin
  subst hR
  have hn8 : n ≤ 8 := hu.1
  refine g_iconst (v := 0) X dX2_barredNow_0 rfl ?_
  refine g_istore_n X dX2_barredNow_1 (Nat.le_of_ble_eq_true rfl) ?_
  refine g_iconst (v := 0) X dX2_barredNow_2 rfl ?_
  refine g_istore_n X dX2_barredNow_3 (Nat.le_of_ble_eq_true rfl) ?_
  refine g_loop (σ := Nat) (fun (i : Nat) => S) (fun (i : Nat) => ([some (.ref (E.2.2.1 3)), some (.int (frA (fun c => ¬ S.1 400 (9 + ix c) = 0) i)), some (.int (nI i))] : List (Option Value))) (fun (i : Nat) => i ≤ n) (fun (i : Nat) => n - i) (0) ?_ (rfl) (le_1 rfl (le_1 rfl (le_1 rfl le_n))) ?_
  · exact Nat.zero_le _
  intro i hI ih
  try dsimp only at hI ih ⊢
  refine g_iload_n X dX2_barredNow_4 rfl ?_
  refine g_aload_n X dX2_barredNow_5 rfl ?_
  refine g_callV (C := RX2) (T := TX2) (N := 35) X (k_X2_claims ho hu) (lw_V q1707 q1709 qs94 q139 q1710) hd_X2_claims dX2_barredNow_6 (rd3 ho) rfl rfl ⟨Nat.le_of_ble_eq_true rfl, Nat.le_of_ble_eq_true rfl⟩ ⟨Nat.le_of_ble_eq_true rfl, Nat.le_of_ble_eq_true rfl⟩ (Nat.le_of_ble_eq_true rfl) ?_
  rintro _ S1 ⟨rfl, hS1⟩
  obtain rfl := hS1.symm
  refine g_icmp_ge (tgt := 40) X dX2_barredNow_9 rfl (fun c9 => ?_) (fun c9 => ?_)
  · refine g_iload_n X dX2_barredNow_40 rfl ?_
    exact g_iret X hr dX2_barredNow_41 (Nat.le_of_ble_eq_true rfl) (Nat.le_of_ble_eq_true rfl) (⟨by rw [out_of (by omega) hI c9], rfl⟩)
  · have hi : i < n := in_of (by omega) hI c9
    refine g_iload_n X dX2_barredNow_12 rfl ?_
    refine g_aload_n X dX2_barredNow_13 rfl ?_
    refine g_get (C := RX2) (T := TX2) (N := 35) X 0 in_X2 dX2_barredNow_14 q1405 (rd3 ho) rfl (Nat.le_of_ble_eq_true rfl) (fun _ h9 => h9) rfl ?_
    refine g_bipush (v := 9) X dX2_barredNow_17 rfl ?_
    refine g_iload_n X dX2_barredNow_19 rfl ?_
    refine g_iadd X dX2_barredNow_20 ?_
    refine g_iald (j := 9 + i) X dX2_barredNow_21 (rdi ho (400) (rfl)) (nI_add 9 i) (by omega) (by decide) ?_
    refine g_if_eq (tgt := 31) X dX2_barredNow_22 rfl (fun c22 => ?_) (fun c22 => ?_)
    · refine g_iconst (v := 0) X dX2_barredNow_31 rfl ?_
      refine g_ior X dX2_barredNow_32 ?_
      refine g_istore_n X dX2_barredNow_33 (Nat.le_of_ble_eq_true rfl) ?_
      refine g_iinc (v := 1) X dX2_barredNow_34 rfl rfl (Nat.le_of_ble_eq_true rfl) ?_
      refine g_goto (tgt := 4) X dX2_barredNow_37 rfl ?_
      refine g_sub (le_1 rfl (le_1 (ei (frA_f (P := (fun c => ¬ S.1 400 (9 + ix c) = 0)) (fun z => z (by rw [ix_n (by omega)]; exact c22)))) (le_1 e_1 le_n))) (ih (i + 1) ?_ ?_)
      · omega
      · omega
    · refine g_iconst (v := 1) X dX2_barredNow_25 rfl ?_
      refine g_iload_n X dX2_barredNow_26 rfl ?_
      refine g_ishl X dX2_barredNow_27 ?_
      refine g_goto (tgt := 32) X dX2_barredNow_28 rfl ?_
      refine g_ior X dX2_barredNow_32 ?_
      refine g_istore_n X dX2_barredNow_33 (Nat.le_of_ble_eq_true rfl) ?_
      refine g_iinc (v := 1) X dX2_barredNow_34 rfl rfl (Nat.le_of_ble_eq_true rfl) ?_
      refine g_goto (tgt := 4) X dX2_barredNow_37 rfl ?_
      refine g_sub (le_1 rfl (le_1 (ei (frA_t (P := (fun c => ¬ S.1 400 (9 + ix c) = 0)) (fun z => c22 (by rw [ix_n (by omega)] at z; exact z)))) (le_1 e_1 le_n))) (ih (i + 1) ?_ ?_)
      · omega
      · omega
