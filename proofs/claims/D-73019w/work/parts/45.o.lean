abbrev leP (t : Int32) (k w : Nat) : Prop := ¬ bP (hs t (nI w)) = bP (hs t (nI w ^^^ one (nI k)))
/-- the component's order: letters outside, worlds inside -/
def leI (t : Int32) (k : Nat) (a : Int32) (w : Nat) : Int32 := itr (fun w a => if leP t k w then a ||| one (nI k) else a) w a
def leC (t : Int32) (k : Nat) : Int32 := itr (fun k a => leI t k a 16) k 0
theorem leI_t {t a : Int32} {k w : Nat} (h : leP t k w) : leI t k a w ||| one (nI k) = leI t k a (w + 1) := (if_pos h).symm
theorem leI_f {t a : Int32} {k w : Nat} (h : ¬ leP t k w) : leI t k a w = leI t k a (w + 1) := (if_neg h).symm
/-- the model's: worlds outside -/
def lmI (t : Int32) (w : Nat) (a : Int32) (k : Nat) : Int32 := itr (fun k a => a ||| (if leP t k w then one (nI k) else 0)) k a
def leM (t : Int32) (w : Nat) : Int32 := itr (fun w a => lmI t w a 4) w 0
theorem lmI_t {t a : Int32} {k w : Nat} (h : leP t k w) : lmI t w a k ||| one (nI k) = lmI t w a (k + 1) := (congrArg (fun z => lmI t w a k ||| z) (if_pos h)).symm
theorem lmI_f {t a : Int32} {k w : Nat} (h : ¬ leP t k w) : lmI t w a k ||| 0 = lmI t w a (k + 1) := (congrArg (fun z => lmI t w a k ||| z) (if_neg h)).symm
set_option maxHeartbeats 600000 in
theorem k_X0_letters {l : Launch} {E : gk_E} (ho : E.2.2.2.2 = true) {S : gk_S} {c : Int32} {a n : Nat} {f : Nat → Int32} (hu : RU E S a n f) : gk_T l E yX0_letters cX0_letters 5 ((some .int)) 3 61 0 0 [.ref (E.2.2.1 0), .int c] S (fun r S' => r = some (.int (if 0 ≤ c ∧ c ≤ nI n - 1 then leC (f (ix c)) 4 else -1)) ∧ S' = S) := by
  refine gk_T.of [some (.ref (E.2.2.1 0)), some (.int c), none, none, none] (by decide) (Nat.le_of_ble_eq_true rfl) (le_1 rfl (le_1 rfl (le_p (le_p (le_p le_n))))) ?_
  intro p_ e_ R_ s_ m_ args_ below_ meth_ c_ hR X hr hin
  subst hR
  have hn8 : n ≤ 8 := hu.1
  obtain ⟨-, -, w0, tb, dl, cl, ht1, ht2⟩ := id hu
  refine g_aload_n X dX0_letters_0 rfl ?_
  refine g_iload_n X dX0_letters_1 rfl ?_
  refine g_callV (C := RX0) (T := TX0) (N := 13) X (k_X0_isClaim ho hu) (lw_V q1082 q1084 qs36 q135 q1085) hd_X0_isClaim dX0_letters_2 (rd0 ho) rfl rfl ⟨Nat.le_of_ble_eq_true rfl, Nat.le_of_ble_eq_true rfl⟩ ⟨Nat.le_of_ble_eq_true rfl, Nat.le_of_ble_eq_true rfl⟩ (Nat.le_of_ble_eq_true rfl) ?_
  rintro _ S1 ⟨rfl, hS1⟩
  obtain rfl := hS1.symm
  refine g_ifp_ne (tgt := 10) X dX0_letters_5 rfl (fun c5 => ?_) (fun c5 => ?_)
  · refine g_iconst (v := 0) X dX0_letters_10 rfl ?_
    refine g_istore_n X dX0_letters_11 (Nat.le_of_ble_eq_true rfl) ?_
    refine g_iconst (v := 0) X dX0_letters_12 rfl ?_
    refine g_istore_n X dX0_letters_13 (Nat.le_of_ble_eq_true rfl) ?_
    refine g_loop (σ := Nat) (fun (k : Nat) => S) (fun (k : Nat) => ([some (.ref (E.2.2.1 0)), some (.int c), some (.int (leC (f (ix c)) k)), some (.int (nI k)), none] : List (Option Value))) (fun (k : Nat) => k ≤ 4) (fun (k : Nat) => 4 - k) (0) ?_ (rfl) (le_1 rfl (le_1 rfl (le_1 rfl (le_1 rfl (le_0 le_n))))) ?_
    · omega
    intro k hI ih
    try dsimp only at hI ih ⊢
    refine g_iload_n X dX0_letters_14 rfl ?_
    refine g_iconst (v := 4) X dX0_letters_15 rfl ?_
    refine g_icmp_ge (tgt := 82) X dX0_letters_16 rfl (fun c16 => ?_) (fun c16 => ?_)
    · refine g_iload_n X dX0_letters_82 rfl ?_
      exact g_iret X hr dX0_letters_83 (Nat.le_of_ble_eq_true rfl) (Nat.le_of_ble_eq_true rfl) (⟨by rw [if_pos c5, out_of (by omega) hI c16], rfl⟩)
    · have hk : k < 4 := in_of (by omega) hI c16
      have hc : ix c < 8 := Nat.lt_of_lt_of_le (cl_lt hn8 c5) hn8
      refine g_iconst (v := 0) X dX0_letters_19 rfl ?_
      refine g_istore X dX0_letters_20 (Nat.le_of_ble_eq_true rfl) ?_
      refine g_loop (σ := Nat) (fun (w : Nat) => S) (fun (w : Nat) => ([some (.ref (E.2.2.1 0)), some (.int c), some (.int (leI (f (ix c)) k (leC (f (ix c)) k) w)), some (.int (nI k)), some (.int (nI w))] : List (Option Value))) (fun (w : Nat) => w ≤ 16) (fun (w : Nat) => 16 - w) (0) ?_ (rfl) (le_1 rfl (le_1 rfl (le_1 rfl (le_1 rfl (le_1 rfl le_n))))) ?_
      · omega
      intro w hI2 ih2
      try dsimp only at hI2 ih2 ⊢
      refine g_iload X dX0_letters_22 rfl ?_
      refine g_bipush (v := 16) X dX0_letters_24 rfl ?_
      refine g_icmp_ge (tgt := 76) X dX0_letters_26 rfl (fun c26 => ?_) (fun c26 => ?_)
      · have hw := out_of (by omega) hI2 c26
        subst hw
        refine g_iinc (v := 1) X dX0_letters_76 rfl rfl (Nat.le_of_ble_eq_true rfl) ?_
        refine g_goto (tgt := 14) X dX0_letters_79 rfl ?_
        refine g_sub (le_1 rfl (le_1 rfl (le_1 (ei rfl) (le_1 e_1 (le_0 le_n))))) (ih (k + 1) ?_ ?_)
        · try dsimp only
          omega
        · try dsimp only
          omega
      · have hw : w < 16 := in_of (by omega) hI2 c26
        refine g_aload_n X dX0_letters_29 rfl ?_
        refine g_callV (C := RX0) (T := TX0) (N := 13) X (k_X0_rules ho hu) (lw_V q1019 q1021 qs28 q135 q1022) hd_X0_rules dX0_letters_30 (rd0 ho) rfl rfl ⟨Nat.le_of_ble_eq_true rfl, Nat.le_of_ble_eq_true rfl⟩ ⟨Nat.le_of_ble_eq_true rfl, Nat.le_of_ble_eq_true rfl⟩ (Nat.le_of_ble_eq_true rfl) ?_
        rintro _ S1 ⟨rfl, hS1⟩
        obtain rfl := hS1.symm
        refine g_getN (C := RX4) (T := TX4) (N := 5) X 1 in_X4 dX0_letters_33 q393 (rd_dy ht1) rfl (Nat.le_of_ble_eq_true rfl) (fun _ h9 => h9) rfl ?_
        refine g_iload_n X dX0_letters_36 rfl ?_
        refine g_iald (j := ix c) X dX0_letters_37 (rd_dy ht2) (ix_i c5.1) hc (by decide) ?_
        refine g_iload X dX0_letters_38 rfl ?_
        refine g_callS X (k_X0_has ho) (lw_S q1028 q1029 q135 q1030) hd_X0_has dX0_letters_40 rfl ⟨Nat.le_of_ble_eq_true rfl, Nat.le_of_ble_eq_true rfl⟩ ⟨Nat.le_of_ble_eq_true rfl, Nat.le_of_ble_eq_true rfl⟩ (Nat.le_of_ble_eq_true rfl) ?_
        rintro _ S1 ⟨rfl, hS1⟩
        obtain rfl := hS1.symm
        refine g_aload_n X dX0_letters_43 rfl ?_
        refine g_callV (C := RX0) (T := TX0) (N := 13) X (k_X0_rules ho hu) (lw_V q1019 q1021 qs28 q135 q1022) hd_X0_rules dX0_letters_44 (rd0 ho) rfl rfl ⟨Nat.le_of_ble_eq_true rfl, Nat.le_of_ble_eq_true rfl⟩ ⟨Nat.le_of_ble_eq_true rfl, Nat.le_of_ble_eq_true rfl⟩ (Nat.le_of_ble_eq_true rfl) ?_
        rintro _ S1 ⟨rfl, hS1⟩
        obtain rfl := hS1.symm
        refine g_getN (C := RX4) (T := TX4) (N := 5) X 1 in_X4 dX0_letters_47 q393 (rd_dy ht1) rfl (Nat.le_of_ble_eq_true rfl) (fun _ h9 => h9) rfl ?_
        refine g_iload_n X dX0_letters_50 rfl ?_
        refine g_iald (j := ix c) X dX0_letters_51 (rd_dy ht2) (ix_i c5.1) hc (by decide) ?_
        refine g_iload X dX0_letters_52 rfl ?_
        refine g_iconst (v := 1) X dX0_letters_54 rfl ?_
        refine g_iload_n X dX0_letters_55 rfl ?_
        refine g_ishl X dX0_letters_56 ?_
        refine g_ixor X dX0_letters_57 ?_
        refine g_callS X (k_X0_has ho) (lw_S q1028 q1029 q135 q1030) hd_X0_has dX0_letters_58 rfl ⟨Nat.le_of_ble_eq_true rfl, Nat.le_of_ble_eq_true rfl⟩ ⟨Nat.le_of_ble_eq_true rfl, Nat.le_of_ble_eq_true rfl⟩ (Nat.le_of_ble_eq_true rfl) ?_
        rintro _ S1 ⟨rfl, hS1⟩
        obtain rfl := hS1.symm
        refine g_icmp_eq (tgt := 70) X dX0_letters_61 rfl (fun c61 => ?_) (fun c61 => ?_)
        · refine g_iinc (v := 1) X dX0_letters_70 rfl rfl (Nat.le_of_ble_eq_true rfl) ?_
          refine g_goto (tgt := 22) X dX0_letters_73 rfl ?_
          refine g_sub (le_1 rfl (le_1 rfl (le_1 (ei (leI_f (fun z => z c61))) (le_1 rfl (le_1 e_1 le_n))))) (ih2 (w + 1) ?_ ?_)
          · try dsimp only
            omega
          · try dsimp only
            omega
        · refine g_iload_n X dX0_letters_64 rfl ?_
          refine g_iconst (v := 1) X dX0_letters_65 rfl ?_
          refine g_iload_n X dX0_letters_66 rfl ?_
          refine g_ishl X dX0_letters_67 ?_
          refine g_ior X dX0_letters_68 ?_
          refine g_istore_n X dX0_letters_69 (Nat.le_of_ble_eq_true rfl) ?_
          refine g_iinc (v := 1) X dX0_letters_70 rfl rfl (Nat.le_of_ble_eq_true rfl) ?_
          refine g_goto (tgt := 22) X dX0_letters_73 rfl ?_
          refine g_sub (le_1 rfl (le_1 rfl (le_1 (ei (leI_t c61)) (le_1 rfl (le_1 e_1 le_n))))) (ih2 (w + 1) ?_ ?_)
          · try dsimp only
            omega
          · try dsimp only
            omega
  · refine g_iconst (v := (-1)) X dX0_letters_8 rfl ?_
    exact g_iret X hr dX0_letters_9 (Nat.le_of_ble_eq_true rfl) (Nat.le_of_ble_eq_true rfl) (⟨by rw [if_neg c5], rfl⟩)
set_option maxHeartbeats 600000 in
theorem k_X2_letters {l : Launch} {E : gk_E} (ho : E.2.2.2.2 = true) {S : gk_S} {c : Int32} {n : Nat} {f : Nat → Int32} (hu : MU S n f) : gk_T l E yX2_letters cX2_letters 5 ((some .int)) 2 43 0 0 [.ref (E.2.2.1 3), .int c] S (fun r S' => r = some (.int (if 0 ≤ c ∧ c ≤ nI n - 1 then leM (f (ix c)) 16 else -1)) ∧ S' = S) := by
  refine gk_T.of [some (.ref (E.2.2.1 3)), some (.int c), none, none, none] (by decide) (Nat.le_of_ble_eq_true rfl) (le_1 rfl (le_1 rfl (le_p (le_p (le_p le_n))))) ?_
  intro p_ e_ R_ s_ m_ args_ below_ meth_ c_ hR X hr hin
  subst hR
  have hn8 : n ≤ 8 := hu.1
  refine g_aload_n X dX2_letters_0 rfl ?_
  refine g_iload_n X dX2_letters_1 rfl ?_
  refine g_callV (C := RX2) (T := TX2) (N := 35) X (k_X2_isClaim ho hu) (lw_V q1751 q1753 qs96 q139 q1754) hd_X2_isClaim dX2_letters_2 (rd3 ho) rfl rfl ⟨Nat.le_of_ble_eq_true rfl, Nat.le_of_ble_eq_true rfl⟩ ⟨Nat.le_of_ble_eq_true rfl, Nat.le_of_ble_eq_true rfl⟩ (Nat.le_of_ble_eq_true rfl) ?_
  rintro _ S1 ⟨rfl, hS1⟩
  obtain rfl := hS1.symm
  refine g_ifp_ne (tgt := 10) X dX2_letters_5 rfl (fun c5 => ?_) (fun c5 => ?_)
  · refine g_iconst (v := 0) X dX2_letters_10 rfl ?_
    refine g_istore_n X dX2_letters_11 (Nat.le_of_ble_eq_true rfl) ?_
    refine g_iconst (v := 0) X dX2_letters_12 rfl ?_
    refine g_istore_n X dX2_letters_13 (Nat.le_of_ble_eq_true rfl) ?_
    refine g_loop (σ := Nat) (fun (w : Nat) => S) (fun (w : Nat) => ([some (.ref (E.2.2.1 3)), some (.int c), some (.int (leM (f (ix c)) w)), some (.int (nI w)), none] : List (Option Value))) (fun (w : Nat) => w ≤ 16) (fun (w : Nat) => 16 - w) (0) ?_ (rfl) (le_1 rfl (le_1 rfl (le_1 rfl (le_1 rfl (le_0 le_n))))) ?_
    · omega
    intro w hI ih
    try dsimp only at hI ih ⊢
    refine g_iload_n X dX2_letters_14 rfl ?_
    refine g_bipush (v := 16) X dX2_letters_15 rfl ?_
    refine g_icmp_ge (tgt := 78) X dX2_letters_17 rfl (fun c17 => ?_) (fun c17 => ?_)
    · refine g_iload_n X dX2_letters_78 rfl ?_
      exact g_iret X hr dX2_letters_79 (Nat.le_of_ble_eq_true rfl) (Nat.le_of_ble_eq_true rfl) (⟨by rw [if_pos c5, out_of (by omega) hI c17], rfl⟩)
    · have hw : w < 16 := in_of (by omega) hI c17
      refine g_iconst (v := 0) X dX2_letters_20 rfl ?_
      refine g_istore X dX2_letters_21 (Nat.le_of_ble_eq_true rfl) ?_
      refine g_loop (σ := Nat) (fun (k : Nat) => S) (fun (k : Nat) => ([some (.ref (E.2.2.1 3)), some (.int c), some (.int (lmI (f (ix c)) w (leM (f (ix c)) w) k)), some (.int (nI w)), some (.int (nI k))] : List (Option Value))) (fun (k : Nat) => k ≤ 4) (fun (k : Nat) => 4 - k) (0) ?_ (rfl) (le_1 rfl (le_1 rfl (le_1 rfl (le_1 rfl (le_1 rfl le_n))))) ?_
      · omega
      intro k hI2 ih2
      try dsimp only at hI2 ih2 ⊢
      refine g_iload X dX2_letters_23 rfl ?_
      refine g_iconst (v := 4) X dX2_letters_25 rfl ?_
      refine g_icmp_ge (tgt := 72) X dX2_letters_26 rfl (fun c26 => ?_) (fun c26 => ?_)
      · have hk := out_of (by omega) hI2 c26
        subst hk
        refine g_iinc (v := 1) X dX2_letters_72 rfl rfl (Nat.le_of_ble_eq_true rfl) ?_
        refine g_goto (tgt := 14) X dX2_letters_75 rfl ?_
        refine g_sub (le_1 rfl (le_1 rfl (le_1 (ei rfl) (le_1 e_1 (le_0 le_n))))) (ih (w + 1) ?_ ?_)
        · try dsimp only
          omega
        · try dsimp only
          omega
      · have hk : k < 4 := in_of (by omega) hI2 c26
        refine g_iload_n X dX2_letters_29 rfl ?_
        refine g_aload_n X dX2_letters_30 rfl ?_
        refine g_iload_n X dX2_letters_31 rfl ?_
        refine g_callV (C := RX2) (T := TX2) (N := 35) X (k_X2_tableOf ho hu (ix_i c5.1) (cl_lt hn8 c5)) (lw_V q1768 q1770 qs100 q139 q1771) hd_X2_tableOf dX2_letters_32 (rd3 ho) rfl rfl ⟨Nat.le_of_ble_eq_true rfl, Nat.le_of_ble_eq_true rfl⟩ ⟨Nat.le_of_ble_eq_true rfl, Nat.le_of_ble_eq_true rfl⟩ (Nat.le_of_ble_eq_true rfl) ?_
        rintro _ S1 ⟨rfl, hS1⟩
        obtain rfl := hS1.symm
        refine g_iload_n X dX2_letters_35 rfl ?_
        refine g_callS X (k_X2_has ho) (lw_S q1711 q1712 q139 q1713) hd_X2_has dX2_letters_36 rfl ⟨Nat.le_of_ble_eq_true rfl, Nat.le_of_ble_eq_true rfl⟩ ⟨Nat.le_of_ble_eq_true rfl, Nat.le_of_ble_eq_true rfl⟩ (Nat.le_of_ble_eq_true rfl) ?_
        rintro _ S1 ⟨rfl, hS1⟩
        obtain rfl := hS1.symm
        refine g_aload_n X dX2_letters_39 rfl ?_
        refine g_iload_n X dX2_letters_40 rfl ?_
        refine g_callV (C := RX2) (T := TX2) (N := 35) X (k_X2_tableOf ho hu (ix_i c5.1) (cl_lt hn8 c5)) (lw_V q1768 q1770 qs100 q139 q1771) hd_X2_tableOf dX2_letters_41 (rd3 ho) rfl rfl ⟨Nat.le_of_ble_eq_true rfl, Nat.le_of_ble_eq_true rfl⟩ ⟨Nat.le_of_ble_eq_true rfl, Nat.le_of_ble_eq_true rfl⟩ (Nat.le_of_ble_eq_true rfl) ?_
        rintro _ S1 ⟨rfl, hS1⟩
        obtain rfl := hS1.symm
        refine g_iload_n X dX2_letters_44 rfl ?_
        refine g_iconst (v := 1) X dX2_letters_45 rfl ?_
        refine g_iload X dX2_letters_46 rfl ?_
        refine g_ishl X dX2_letters_48 ?_
        refine g_ixor X dX2_letters_49 ?_
        refine g_callS X (k_X2_has ho) (lw_S q1711 q1712 q139 q1713) hd_X2_has dX2_letters_50 rfl ⟨Nat.le_of_ble_eq_true rfl, Nat.le_of_ble_eq_true rfl⟩ ⟨Nat.le_of_ble_eq_true rfl, Nat.le_of_ble_eq_true rfl⟩ (Nat.le_of_ble_eq_true rfl) ?_
        rintro _ S1 ⟨rfl, hS1⟩
        obtain rfl := hS1.symm
        refine g_icmp_eq (tgt := 63) X dX2_letters_53 rfl (fun c53 => ?_) (fun c53 => ?_)
        · refine g_iconst (v := 0) X dX2_letters_63 rfl ?_
          refine g_ior X dX2_letters_64 ?_
          refine g_istore_n X dX2_letters_65 (Nat.le_of_ble_eq_true rfl) ?_
          refine g_iinc (v := 1) X dX2_letters_66 rfl rfl (Nat.le_of_ble_eq_true rfl) ?_
          refine g_goto (tgt := 23) X dX2_letters_69 rfl ?_
          refine g_sub (le_1 rfl (le_1 rfl (le_1 (ei (lmI_f (fun z => z c53))) (le_1 rfl (le_1 e_1 le_n))))) (ih2 (k + 1) ?_ ?_)
          · try dsimp only
            omega
          · try dsimp only
            omega
        · refine g_iconst (v := 1) X dX2_letters_56 rfl ?_
          refine g_iload X dX2_letters_57 rfl ?_
          refine g_ishl X dX2_letters_59 ?_
          refine g_goto (tgt := 64) X dX2_letters_60 rfl ?_
          refine g_ior X dX2_letters_64 ?_
          refine g_istore_n X dX2_letters_65 (Nat.le_of_ble_eq_true rfl) ?_
          refine g_iinc (v := 1) X dX2_letters_66 rfl rfl (Nat.le_of_ble_eq_true rfl) ?_
          refine g_goto (tgt := 23) X dX2_letters_69 rfl ?_
          refine g_sub (le_1 rfl (le_1 rfl (le_1 (ei (lmI_t c53)) (le_1 rfl (le_1 e_1 le_n))))) (ih2 (k + 1) ?_ ?_)
          · try dsimp only
            omega
          · try dsimp only
            omega
  · refine g_iconst (v := (-1)) X dX2_letters_8 rfl ?_
    exact g_iret X hr dX2_letters_9 (Nat.le_of_ble_eq_true rfl) (Nat.le_of_ble_eq_true rfl) (⟨by rw [if_neg c5], rfl⟩)
def grS (g : Nat → Int32) (i : Nat) : Int32 := itr (fun k a => if g k = -1 then a else a ||| one (g k)) i 0
theorem grS_f {g : Nat → Int32} {i : Nat} (h : g i = -1) : grS g i = grS g (i + 1) := (if_pos h).symm
theorem grS_t {g : Nat → Int32} {i : Nat} (h : ¬ g i = -1) : grS g i ||| one (g i) = grS g (i + 1) := (if_neg h).symm
theorem or_0 (x : Int32) : x ||| 0 = x := by
  apply b_ext
  intro i hi
  rw [b_or, b_0, Bool.or_false]
def suS (b : Int32) (v : Nat → Int32) (i : Nat) : Int32 := itr (fun k a => a + (if hs b (nI k) then v k else 0)) i 0
theorem suS_t {b : Int32} {v : Nat → Int32} {i : Nat} (h : hs b (nI i)) : suS b v i + v i = suS b v (i + 1) := (congrArg (fun z => suS b v i + z) (if_pos h)).symm
theorem suS_f {b : Int32} {v : Nat → Int32} {i : Nat} (h : ¬ hs b (nI i)) : suS b v i + 0 = suS b v (i + 1) := (congrArg (fun z => suS b v i + z) (if_neg h)).symm
set_option maxHeartbeats 600000 in
theorem k_X0_ground {l : Launch} {E : gk_E} (ho : E.2.2.2.2 = true) {S : gk_S}  {nf : Nat} (h0 : S.1 10 0 = nI nf) (h1 : nf ≤ 5) : gk_T l E yX0_ground cX0_ground 4 ((some .int)) 1 21 0 0 [.ref (E.2.2.1 0)] S (fun r S' => r = some (.int (suS (grS (fun k => S.1 11 (11 + k)) nf) (S.1 13) 5)) ∧ S' = S) := by
  refine gk_T.of [some (.ref (E.2.2.1 0)), none, none, none] (by decide) (Nat.le_of_ble_eq_true rfl) (le_1 rfl (le_p (le_p (le_p le_n)))) ?_
  intro p_ e_ R_ s_ m_ args_ below_ meth_ c_ hR X hr hin
  subst hR
  refine g_iconst (v := 0) X dX0_ground_0 rfl ?_
  refine g_istore_n X dX0_ground_1 (Nat.le_of_ble_eq_true rfl) ?_
  refine g_iconst (v := 0) X dX0_ground_2 rfl ?_
  refine g_istore_n X dX0_ground_3 (Nat.le_of_ble_eq_true rfl) ?_
  refine g_iconst (v := 0) X dX0_ground_4 rfl ?_
  refine g_istore_n X dX0_ground_5 (Nat.le_of_ble_eq_true rfl) ?_
  refine g_loop (σ := Nat) (fun (i : Nat) => S) (fun (i : Nat) => ([some (.ref (E.2.2.1 0)), some (.int 0), some (.int (grS (fun k => S.1 11 (11 + k)) i)), some (.int (nI i))] : List (Option Value))) (fun (i : Nat) => i ≤ nf) (fun (i : Nat) => nf - i) (0) ?_ (rfl) (le_1 rfl (le_1 rfl (le_1 rfl (le_1 rfl le_n)))) ?_
  · exact Nat.zero_le _
  intro i hI ih
  try dsimp only at hI ih ⊢
  refine g_iload_n X dX0_ground_6 rfl ?_
  refine g_aload_n X dX0_ground_7 rfl ?_
  refine g_callV (C := RX0) (T := TX0) (N := 13) X (k_X0_farmers ho) (lw_V q287 q289 qs0 q135 q290) hd_X0_farmers dX0_ground_8 (rd0 ho) rfl rfl ⟨Nat.le_of_ble_eq_true rfl, Nat.le_of_ble_eq_true rfl⟩ ⟨Nat.le_of_ble_eq_true rfl, Nat.le_of_ble_eq_true rfl⟩ (Nat.le_of_ble_eq_true rfl) ?_
  rintro _ S1 ⟨rfl, hS1⟩
  obtain rfl := hS1.symm
  refine g_icmp_ge (tgt := 53) X dX0_ground_11 rfl (fun c11 => ?_) (fun c11 => ?_)
  · refine g_iconst (v := 0) X dX0_ground_53 rfl ?_
    refine g_istore_n X dX0_ground_54 (Nat.le_of_ble_eq_true rfl) ?_
    refine g_loop (σ := Nat) (fun (k : Nat) => S) (fun (k : Nat) => ([some (.ref (E.2.2.1 0)), some (.int (suS (grS (fun k => S.1 11 (11 + k)) nf) (S.1 13) k)), some (.int (grS (fun k => S.1 11 (11 + k)) nf)), some (.int (nI k))] : List (Option Value))) (fun (k : Nat) => k ≤ 5) (fun (k : Nat) => 5 - k) (0) ?_ (rfl) (le_1 rfl (le_1 rfl (le_1 (ei (by rw [out_of (by omega) hI (by rw [← h0]; exact c11)])) (le_1 rfl le_n)))) ?_
    · omega
    intro k hI ih
    try dsimp only at hI ih ⊢
    refine g_iload_n X dX0_ground_55 rfl ?_
    refine g_iconst (v := 5) X dX0_ground_56 rfl ?_
    refine g_icmp_ge (tgt := 90) X dX0_ground_57 rfl (fun c57 => ?_) (fun c57 => ?_)
    · refine g_iload_n X dX0_ground_90 rfl ?_
      exact g_iret X hr dX0_ground_91 (Nat.le_of_ble_eq_true rfl) (Nat.le_of_ble_eq_true rfl) (⟨by rw [out_of (by omega) hI c57], rfl⟩)
    · have hk : k < 5 := in_of (by omega) hI c57
      refine g_iload_n X dX0_ground_60 rfl ?_
      refine g_iload_n X dX0_ground_61 rfl ?_
      refine g_iload_n X dX0_ground_62 rfl ?_
      refine g_callS X (k_X0_has ho) (lw_S q1028 q1029 q135 q1030) hd_X0_has dX0_ground_63 rfl ⟨Nat.le_of_ble_eq_true rfl, Nat.le_of_ble_eq_true rfl⟩ ⟨Nat.le_of_ble_eq_true rfl, Nat.le_of_ble_eq_true rfl⟩ (Nat.le_of_ble_eq_true rfl) ?_
      rintro _ S1 ⟨rfl, hS1⟩
      obtain rfl := hS1.symm
      refine g_ifp_eq (tgt := 81) X dX0_ground_66 rfl (fun c66 => ?_) (fun c66 => ?_)
      · refine g_iconst (v := 0) X dX0_ground_81 rfl ?_
        refine g_iadd X dX0_ground_82 ?_
        refine g_istore_n X dX0_ground_83 (Nat.le_of_ble_eq_true rfl) ?_
        refine g_iinc (v := 1) X dX0_ground_84 rfl rfl (Nat.le_of_ble_eq_true rfl) ?_
        refine g_goto (tgt := 55) X dX0_ground_87 rfl ?_
        refine g_sub (le_1 rfl (le_1 (ei (suS_f c66)) (le_1 rfl (le_1 e_1 le_n)))) (ih (k + 1) ?_ ?_)
        · try dsimp only
          omega
        · try dsimp only
          omega
      · refine g_aload_n X dX0_ground_69 rfl ?_
        refine g_get (C := RX0) (T := TX0) (N := 13) X 0 in_X0 dX0_ground_70 q241 (rd0 ho) rfl (Nat.le_of_ble_eq_true rfl) (fun _ h9 => h9) rfl ?_
        refine g_getN (C := RX1) (T := TX1) (N := 8) X 3 in_X1 dX0_ground_73 q201 (rd1 ho) rfl (Nat.le_of_ble_eq_true rfl) (fun _ h9 => h9) rfl ?_
        refine g_iload_n X dX0_ground_76 rfl ?_
        refine g_iald (j := k) X dX0_ground_77 (rdi ho (13) (rfl)) rfl hk (by decide) ?_
        refine g_goto (tgt := 82) X dX0_ground_78 rfl ?_
        refine g_iadd X dX0_ground_82 ?_
        refine g_istore_n X dX0_ground_83 (Nat.le_of_ble_eq_true rfl) ?_
        refine g_iinc (v := 1) X dX0_ground_84 rfl rfl (Nat.le_of_ble_eq_true rfl) ?_
        refine g_goto (tgt := 55) X dX0_ground_87 rfl ?_
        refine g_sub (le_1 rfl (le_1 (ei (suS_t c66)) (le_1 rfl (le_1 e_1 le_n)))) (ih (k + 1) ?_ ?_)
        · try dsimp only
          omega
        · try dsimp only
          omega
  · have hi : i < nf := in_of (by omega) hI (by rw [← h0]; exact c11)
    refine g_aload_n X dX0_ground_14 rfl ?_
    refine g_get (C := RX0) (T := TX0) (N := 13) X 0 in_X0 dX0_ground_15 q241 (rd0 ho) rfl (Nat.le_of_ble_eq_true rfl) (fun _ h9 => h9) rfl ?_
    refine g_getN (C := RX1) (T := TX1) (N := 8) X 1 in_X1 dX0_ground_18 q197 (rd1 ho) rfl (Nat.le_of_ble_eq_true rfl) (fun _ h9 => h9) rfl ?_
    refine g_bipush (v := 11) X dX0_ground_21 rfl ?_
    refine g_iload_n X dX0_ground_23 rfl ?_
    refine g_iadd X dX0_ground_24 ?_
    refine g_iald (j := 11 + i) X dX0_ground_25 (rdi ho (11) (rfl)) (nI_add 11 i) (by omega) (by decide) ?_
    refine g_iconst (v := (-1)) X dX0_ground_26 rfl ?_
    refine g_icmp_eq (tgt := 47) X dX0_ground_27 rfl (fun c27 => ?_) (fun c27 => ?_)
    · refine g_iinc (v := 1) X dX0_ground_47 rfl rfl (Nat.le_of_ble_eq_true rfl) ?_
      refine g_goto (tgt := 6) X dX0_ground_50 rfl ?_
      refine g_sub (le_1 rfl (le_1 rfl (le_1 (ei (grS_f (g := (fun k => S.1 11 (11 + k))) c27)) (le_1 e_1 le_n)))) (ih (i + 1) ?_ ?_)
      · try dsimp only
        omega
      · try dsimp only
        omega
    · refine g_iload_n X dX0_ground_30 rfl ?_
      refine g_iconst (v := 1) X dX0_ground_31 rfl ?_
      refine g_aload_n X dX0_ground_32 rfl ?_
      refine g_get (C := RX0) (T := TX0) (N := 13) X 0 in_X0 dX0_ground_33 q241 (rd0 ho) rfl (Nat.le_of_ble_eq_true rfl) (fun _ h9 => h9) rfl ?_
      refine g_getN (C := RX1) (T := TX1) (N := 8) X 1 in_X1 dX0_ground_36 q197 (rd1 ho) rfl (Nat.le_of_ble_eq_true rfl) (fun _ h9 => h9) rfl ?_
      refine g_bipush (v := 11) X dX0_ground_39 rfl ?_
      refine g_iload_n X dX0_ground_41 rfl ?_
      refine g_iadd X dX0_ground_42 ?_
      refine g_iald (j := 11 + i) X dX0_ground_43 (rdi ho (11) (rfl)) (nI_add 11 i) (by omega) (by decide) ?_
      refine g_ishl X dX0_ground_44 ?_
      refine g_ior X dX0_ground_45 ?_
      refine g_istore_n X dX0_ground_46 (Nat.le_of_ble_eq_true rfl) ?_
      refine g_iinc (v := 1) X dX0_ground_47 rfl rfl (Nat.le_of_ble_eq_true rfl) ?_
      refine g_goto (tgt := 6) X dX0_ground_50 rfl ?_
      refine g_sub (le_1 rfl (le_1 rfl (le_1 (ei (grS_t (g := (fun k => S.1 11 (11 + k))) c27)) (le_1 e_1 le_n)))) (ih (i + 1) ?_ ?_)
      · try dsimp only
        omega
      · try dsimp only
        omega
set_option maxHeartbeats 600000 in
theorem k_X2_ground {l : Launch} {E : gk_E} (ho : E.2.2.2.2 = true) {S : gk_S}  {nf : Nat} (h0 : S.1 400 0 = nI nf) (h1 : nf ≤ 5) : gk_T l E yX2_ground cX2_ground 4 ((some .int)) 1 21 0 0 [.ref (E.2.2.1 3)] S (fun r S' => r = some (.int (suS (grS (fun k => S.1 400 (17 + 2 * k)) nf) (fun k => S.1 400 (32 + k)) 5)) ∧ S' = S) := by
  refine gk_T.of [some (.ref (E.2.2.1 3)), none, none, none] (by decide) (Nat.le_of_ble_eq_true rfl) (le_1 rfl (le_p (le_p (le_p le_n)))) ?_
  intro p_ e_ R_ s_ m_ args_ below_ meth_ c_ hR X hr hin
  subst hR
  refine g_iconst (v := 0) X dX2_ground_0 rfl ?_
  refine g_istore_n X dX2_ground_1 (Nat.le_of_ble_eq_true rfl) ?_
  refine g_iconst (v := 0) X dX2_ground_2 rfl ?_
  refine g_istore_n X dX2_ground_3 (Nat.le_of_ble_eq_true rfl) ?_
  refine g_loop (σ := Nat) (fun (i : Nat) => S) (fun (i : Nat) => ([some (.ref (E.2.2.1 3)), some (.int (grS (fun k => S.1 400 (17 + 2 * k)) i)), some (.int (nI i)), none] : List (Option Value))) (fun (i : Nat) => i ≤ nf) (fun (i : Nat) => nf - i) (0) ?_ (rfl) (le_1 rfl (le_1 rfl (le_1 rfl (le_0 le_n)))) ?_
  · exact Nat.zero_le _
  intro i hI ih
  try dsimp only at hI ih ⊢
  refine g_iload_n X dX2_ground_4 rfl ?_
  refine g_aload_n X dX2_ground_5 rfl ?_
  refine g_get (C := RX2) (T := TX2) (N := 35) X 0 in_X2 dX2_ground_6 q1405 (rd3 ho) rfl (Nat.le_of_ble_eq_true rfl) (fun _ h9 => h9) rfl ?_
  refine g_iconst (v := 0) X dX2_ground_9 rfl ?_
  refine g_iald (j := 0) X dX2_ground_10 (rdi ho (400) (rfl)) rfl (by decide) (by decide) ?_
  refine g_icmp_ge (tgt := 43) X dX2_ground_11 rfl (fun c11 => ?_) (fun c11 => ?_)
  · refine g_iconst (v := 0) X dX2_ground_43 rfl ?_
    refine g_istore_n X dX2_ground_44 (Nat.le_of_ble_eq_true rfl) ?_
    refine g_iconst (v := 0) X dX2_ground_45 rfl ?_
    refine g_istore_n X dX2_ground_46 (Nat.le_of_ble_eq_true rfl) ?_
    refine g_loop (σ := Nat) (fun (k : Nat) => S) (fun (k : Nat) => ([some (.ref (E.2.2.1 3)), some (.int (grS (fun k => S.1 400 (17 + 2 * k)) nf)), some (.int (suS (grS (fun k => S.1 400 (17 + 2 * k)) nf) (fun k => S.1 400 (32 + k)) k)), some (.int (nI k))] : List (Option Value))) (fun (k : Nat) => k ≤ 5) (fun (k : Nat) => 5 - k) (0) ?_ (rfl) (le_1 rfl (le_1 (ei (by rw [out_of (by omega) hI (by rw [← h0]; exact c11)])) (le_1 rfl (le_1 rfl le_n)))) ?_
    · omega
    intro k hI ih
    try dsimp only at hI ih ⊢
    refine g_iload_n X dX2_ground_47 rfl ?_
    refine g_iconst (v := 5) X dX2_ground_48 rfl ?_
    refine g_icmp_ge (tgt := 82) X dX2_ground_49 rfl (fun c49 => ?_) (fun c49 => ?_)
    · refine g_iload_n X dX2_ground_82 rfl ?_
      exact g_iret X hr dX2_ground_83 (Nat.le_of_ble_eq_true rfl) (Nat.le_of_ble_eq_true rfl) (⟨by rw [out_of (by omega) hI c49], rfl⟩)
    · have hk : k < 5 := in_of (by omega) hI c49
      refine g_iload_n X dX2_ground_52 rfl ?_
      refine g_iload_n X dX2_ground_53 rfl ?_
      refine g_iload_n X dX2_ground_54 rfl ?_
      refine g_callS X (k_X2_has ho) (lw_S q1711 q1712 q139 q1713) hd_X2_has dX2_ground_55 rfl ⟨Nat.le_of_ble_eq_true rfl, Nat.le_of_ble_eq_true rfl⟩ ⟨Nat.le_of_ble_eq_true rfl, Nat.le_of_ble_eq_true rfl⟩ (Nat.le_of_ble_eq_true rfl) ?_
      rintro _ S1 ⟨rfl, hS1⟩
      obtain rfl := hS1.symm
      refine g_ifp_eq (tgt := 73) X dX2_ground_58 rfl (fun c58 => ?_) (fun c58 => ?_)
      · refine g_iconst (v := 0) X dX2_ground_73 rfl ?_
        refine g_iadd X dX2_ground_74 ?_
        refine g_istore_n X dX2_ground_75 (Nat.le_of_ble_eq_true rfl) ?_
        refine g_iinc (v := 1) X dX2_ground_76 rfl rfl (Nat.le_of_ble_eq_true rfl) ?_
        refine g_goto (tgt := 47) X dX2_ground_79 rfl ?_
        refine g_sub (le_1 rfl (le_1 rfl (le_1 (ei (suS_f c58)) (le_1 e_1 le_n)))) (ih (k + 1) ?_ ?_)
        · try dsimp only
          omega
        · try dsimp only
          omega
      · refine g_aload_n X dX2_ground_61 rfl ?_
        refine g_get (C := RX2) (T := TX2) (N := 35) X 0 in_X2 dX2_ground_62 q1405 (rd3 ho) rfl (Nat.le_of_ble_eq_true rfl) (fun _ h9 => h9) rfl ?_
        refine g_bipush (v := 32) X dX2_ground_65 rfl ?_
        refine g_iload_n X dX2_ground_67 rfl ?_
        refine g_iadd X dX2_ground_68 ?_
        refine g_iald (j := 32 + k) X dX2_ground_69 (rdi ho (400) (rfl)) (nI_add 32 k) (by omega) (by decide) ?_
        refine g_goto (tgt := 74) X dX2_ground_70 rfl ?_
        refine g_iadd X dX2_ground_74 ?_
        refine g_istore_n X dX2_ground_75 (Nat.le_of_ble_eq_true rfl) ?_
        refine g_iinc (v := 1) X dX2_ground_76 rfl rfl (Nat.le_of_ble_eq_true rfl) ?_
        refine g_goto (tgt := 47) X dX2_ground_79 rfl ?_
        refine g_sub (le_1 rfl (le_1 rfl (le_1 (ei (suS_t (v := (fun k => S.1 400 (32 + k))) c58)) (le_1 e_1 le_n)))) (ih (k + 1) ?_ ?_)
        · try dsimp only
          omega
        · try dsimp only
          omega
  · have hi : i < nf := in_of (by omega) hI (by rw [← h0]; exact c11)
    refine g_iload_n X dX2_ground_14 rfl ?_
    refine g_aload_n X dX2_ground_15 rfl ?_
    refine g_iload_n X dX2_ground_16 rfl ?_
    refine g_callV (C := RX2) (T := TX2) (N := 35) X (k_X2_fieldOf ho rfl (by omega)) (lw_V q1841 q1843 qs113 q139 q1844) hd_X2_fieldOf dX2_ground_17 (rd3 ho) rfl rfl ⟨Nat.le_of_ble_eq_true rfl, Nat.le_of_ble_eq_true rfl⟩ ⟨Nat.le_of_ble_eq_true rfl, Nat.le_of_ble_eq_true rfl⟩ (Nat.le_of_ble_eq_true rfl) ?_
    rintro _ S1 ⟨rfl, hS1⟩
    obtain rfl := hS1.symm
    refine g_iconst (v := (-1)) X dX2_ground_20 rfl ?_
    refine g_icmp_ne (tgt := 28) X dX2_ground_21 rfl (fun c21 => ?_) (fun c21 => ?_)
    · refine g_iconst (v := 1) X dX2_ground_28 rfl ?_
      refine g_aload_n X dX2_ground_29 rfl ?_
      refine g_iload_n X dX2_ground_30 rfl ?_
      refine g_callV (C := RX2) (T := TX2) (N := 35) X (k_X2_fieldOf ho rfl (by omega)) (lw_V q1841 q1843 qs113 q139 q1844) hd_X2_fieldOf dX2_ground_31 (rd3 ho) rfl rfl ⟨Nat.le_of_ble_eq_true rfl, Nat.le_of_ble_eq_true rfl⟩ ⟨Nat.le_of_ble_eq_true rfl, Nat.le_of_ble_eq_true rfl⟩ (Nat.le_of_ble_eq_true rfl) ?_
      rintro _ S1 ⟨rfl, hS1⟩
      obtain rfl := hS1.symm
      refine g_ishl X dX2_ground_34 ?_
      refine g_ior X dX2_ground_35 ?_
      refine g_istore_n X dX2_ground_36 (Nat.le_of_ble_eq_true rfl) ?_
      refine g_iinc (v := 1) X dX2_ground_37 rfl rfl (Nat.le_of_ble_eq_true rfl) ?_
      refine g_goto (tgt := 4) X dX2_ground_40 rfl ?_
      refine g_sub (le_1 rfl (le_1 (ei (grS_t (g := (fun k => S.1 400 (17 + 2 * k))) c21)) (le_1 e_1 (le_0 le_n)))) (ih (i + 1) ?_ ?_)
      · try dsimp only
        omega
      · try dsimp only
        omega
    · refine g_iconst (v := 0) X dX2_ground_24 rfl ?_
      refine g_goto (tgt := 35) X dX2_ground_25 rfl ?_
      refine g_ior X dX2_ground_35 ?_
      refine g_istore_n X dX2_ground_36 (Nat.le_of_ble_eq_true rfl) ?_
      refine g_iinc (v := 1) X dX2_ground_37 rfl rfl (Nat.le_of_ble_eq_true rfl) ?_
      refine g_goto (tgt := 4) X dX2_ground_40 rfl ?_
      refine g_sub (le_1 rfl (le_1 (ei (by rw [or_0]; exact grS_f (g := (fun k => S.1 400 (17 + 2 * k))) c21)) (le_1 e_1 (le_0 le_n)))) (ih (i + 1) ?_ ?_)
      · try dsimp only
        omega
      · try dsimp only
        omega
/-- what a farmer thinks of a field, or of none -/
def wq (w : Nat → Nat → Int32) (i : Nat) (y : Int32) : Int32 := if y = -1 then 0 else w i (ix y)
def isF (y : Int32) : Prop := y = -1 ∨ ∃ k, k < 5 ∧ y = nI k
abbrev enP (w : Nat → Nat → Int32) (g : Nat → Int32) (i j : Nat) : Prop := wq w i (g i) < wq w i (g j)
def enI (w : Nat → Nat → Int32) (g : Nat → Int32) (i : Nat) (a : Int32) (j : Nat) : Int32 := itr (fun j a => a + (if enP w g i j then 1 else 0)) j a
def enA (w : Nat → Nat → Int32) (g : Nat → Int32) (nf i : Nat) : Int32 := itr (fun i a => enI w g i a nf) i 0
theorem enI_t {w : Nat → Nat → Int32} {g : Nat → Int32} {i j : Nat} {a : Int32} (h : enP w g i j) : enI w g i a j + 1 = enI w g i a (j + 1) := (congrArg (fun z => enI w g i a j + z) (if_pos h)).symm
theorem enI_f {w : Nat → Nat → Int32} {g : Nat → Int32} {i j : Nat} {a : Int32} (h : ¬ enP w g i j) : enI w g i a j + 0 = enI w g i a (j + 1) := (congrArg (fun z => enI w g i a j + z) (if_neg h)).symm
set_option maxHeartbeats 600000 in
theorem k_X0_wantOfOwn {l : Launch} {E : gk_E} (ho : E.2.2.2.2 = true) {S : gk_S} {x : Int32} {y : Int32} {i : Nat} (hx : x = nI i) (hi : i < 5) (hy : isF y) : gk_T l E yX0_wantOfOwn cX0_wantOfOwn 3 ((some .int)) 0 0 0 0 [.ref (E.2.2.1 0), .int x, .int y] S (fun r S' => r = some (.int (wq (fun i k => S.1 (20 + i) k) i y)) ∧ S' = S) := by
  refine gk_T.of [some (.ref (E.2.2.1 0)), some (.int x), some (.int y)] (by decide) (Nat.le_of_ble_eq_true rfl) (fun _ _ h => h) ?_
  intro p_ e_ R_ s_ m_ args_ below_ meth_ c_ hR X hr hin
  subst hR
  refine g_iload_n X dX0_wantOfOwn_0 rfl ?_
  refine g_iconst (v := (-1)) X dX0_wantOfOwn_1 rfl ?_
  refine g_icmp_ne (tgt := 9) X dX0_wantOfOwn_2 rfl (fun c2 => ?_) (fun c2 => ?_)
  · obtain ⟨k, hk, hk2⟩ := hy.resolve_left c2
    refine g_aload_n X dX0_wantOfOwn_9 rfl ?_
    refine g_get (C := RX0) (T := TX0) (N := 13) X 0 in_X0 dX0_wantOfOwn_10 q241 (rd0 ho) rfl (Nat.le_of_ble_eq_true rfl) (fun _ h9 => h9) rfl ?_
    refine g_getN (C := RX1) (T := TX1) (N := 8) X 4 in_X1 dX0_wantOfOwn_13 q203 (rd1 ho) rfl (Nat.le_of_ble_eq_true rfl) (fun _ h9 => h9) rfl ?_
    refine g_iload_n X dX0_wantOfOwn_16 rfl ?_
    refine g_aald (t := 4) (j := i) X dX0_wantOfOwn_17 (rd14 ho) rfl rfl hx hi (by decide) rfl ?_
    refine g_iload_n X dX0_wantOfOwn_18 rfl ?_
    refine g_iald (j := k) X dX0_wantOfOwn_19 (rdi ho (20 + (i)) (kd_want hi)) hk2 hk (by decide) ?_
    exact g_iret X hr dX0_wantOfOwn_20 (Nat.le_of_ble_eq_true rfl) (Nat.le_of_ble_eq_true rfl) (⟨by unfold wq; rw [if_neg c2, hk2, ix_n (by omega)], rfl⟩)
  · refine g_iconst (v := 0) X dX0_wantOfOwn_5 rfl ?_
    refine g_goto (tgt := 20) X dX0_wantOfOwn_6 rfl ?_
    exact g_iret X hr dX0_wantOfOwn_20 (Nat.le_of_ble_eq_true rfl) (Nat.le_of_ble_eq_true rfl) (⟨by unfold wq; rw [if_pos c2], rfl⟩)
set_option maxHeartbeats 600000 in
theorem k_X2_wantsOwn {l : Launch} {E : gk_E} (ho : E.2.2.2.2 = true) {S : gk_S} {x : Int32} {z : Int32} {i j : Nat} (hx : x = nI i) (hi : i < 5) (hz : z = nI j) (hj : j < 5) (hy : isF (S.1 400 (17 + 2 * j))) : gk_T l E yX2_wantsOwn cX2_wantsOwn 3 ((some .int)) 1 22 0 0 [.ref (E.2.2.1 3), .int x, .int z] S (fun r S' => r = some (.int (wq (fun i k => S.1 400 (37 + 5 * i + k)) i (S.1 400 (17 + 2 * j)))) ∧ S' = S) := by
  refine gk_T.of [some (.ref (E.2.2.1 3)), some (.int x), some (.int z)] (by decide) (Nat.le_of_ble_eq_true rfl) (fun _ _ h => h) ?_
  intro p_ e_ R_ s_ m_ args_ below_ meth_ c_ hR X hr hin
  subst hR
  refine g_aload_n X dX2_wantsOwn_0 rfl ?_
  refine g_iload_n X dX2_wantsOwn_1 rfl ?_
  refine g_callV (C := RX2) (T := TX2) (N := 35) X (k_X2_fieldOf ho hz hj) (lw_V q1841 q1843 qs113 q139 q1844) hd_X2_fieldOf dX2_wantsOwn_2 (rd3 ho) rfl rfl ⟨Nat.le_of_ble_eq_true rfl, Nat.le_of_ble_eq_true rfl⟩ ⟨Nat.le_of_ble_eq_true rfl, Nat.le_of_ble_eq_true rfl⟩ (Nat.le_of_ble_eq_true rfl) ?_
  rintro _ S1 ⟨rfl, hS1⟩
  obtain rfl := hS1.symm
  refine g_iconst (v := (-1)) X dX2_wantsOwn_5 rfl ?_
  refine g_icmp_ne (tgt := 13) X dX2_wantsOwn_6 rfl (fun c6 => ?_) (fun c6 => ?_)
  · obtain ⟨k, hk, hk2⟩ := hy.resolve_left c6
    refine g_aload_n X dX2_wantsOwn_13 rfl ?_
    refine g_iload_n X dX2_wantsOwn_14 rfl ?_
    refine g_aload_n X dX2_wantsOwn_15 rfl ?_
    refine g_iload_n X dX2_wantsOwn_16 rfl ?_
    refine g_callV (C := RX2) (T := TX2) (N := 35) X (k_X2_fieldOf ho hz hj) (lw_V q1841 q1843 qs113 q139 q1844) hd_X2_fieldOf dX2_wantsOwn_17 (rd3 ho) rfl rfl ⟨Nat.le_of_ble_eq_true rfl, Nat.le_of_ble_eq_true rfl⟩ ⟨Nat.le_of_ble_eq_true rfl, Nat.le_of_ble_eq_true rfl⟩ (Nat.le_of_ble_eq_true rfl) ?_
    rintro _ S1 ⟨rfl, hS1⟩
    obtain rfl := hS1.symm
    refine g_callV (C := RX2) (T := TX2) (N := 35) X (k_X2_wantOf ho hx hi hk2 hk) (lw_V q1833 q1835 qs111 q139 q1836) hd_X2_wantOf dX2_wantsOwn_20 (rd3 ho) rfl rfl ⟨Nat.le_of_ble_eq_true rfl, Nat.le_of_ble_eq_true rfl⟩ ⟨Nat.le_of_ble_eq_true rfl, Nat.le_of_ble_eq_true rfl⟩ (Nat.le_of_ble_eq_true rfl) ?_
    rintro _ S1 ⟨rfl, hS1⟩
    obtain rfl := hS1.symm
    exact g_iret X hr dX2_wantsOwn_23 (Nat.le_of_ble_eq_true rfl) (Nat.le_of_ble_eq_true rfl) (⟨by unfold wq; rw [if_neg c6, hk2, ix_n (by omega)], rfl⟩)
  · refine g_iconst (v := 0) X dX2_wantsOwn_9 rfl ?_
    refine g_goto (tgt := 23) X dX2_wantsOwn_10 rfl ?_
    exact g_iret X hr dX2_wantsOwn_23 (Nat.le_of_ble_eq_true rfl) (Nat.le_of_ble_eq_true rfl) (⟨by unfold wq; rw [if_pos c6], rfl⟩)
set_option maxHeartbeats 600000 in
theorem k_X0_envy {l : Launch} {E : gk_E} (ho : E.2.2.2.2 = true) {S : gk_S}  {nf : Nat} (h0 : S.1 10 0 = nI nf) (h1 : nf ≤ 5) (hg : ∀ k, k < 5 → isF (S.1 11 (11 + k))) : gk_T l E yX0_envy cX0_envy 4 ((some .int)) 1 22 0 0 [.ref (E.2.2.1 0)] S (fun r S' => r = some (.int (enA (fun i k => S.1 (20 + i) k) (fun k => S.1 11 (11 + k)) nf nf)) ∧ S' = S) := by
  refine gk_T.of [some (.ref (E.2.2.1 0)), none, none, none] (by decide) (Nat.le_of_ble_eq_true rfl) (le_1 rfl (le_p (le_p (le_p le_n)))) ?_
  intro p_ e_ R_ s_ m_ args_ below_ meth_ c_ hR X hr hin
  subst hR
  refine g_iconst (v := 0) X dX0_envy_0 rfl ?_
  refine g_istore_n X dX0_envy_1 (Nat.le_of_ble_eq_true rfl) ?_
  refine g_iconst (v := 0) X dX0_envy_2 rfl ?_
  refine g_istore_n X dX0_envy_3 (Nat.le_of_ble_eq_true rfl) ?_
  refine g_loop (σ := Nat) (fun (i : Nat) => S) (fun (i : Nat) => ([some (.ref (E.2.2.1 0)), some (.int (enA (fun i k => S.1 (20 + i) k) (fun k => S.1 11 (11 + k)) nf i)), some (.int (nI i)), none] : List (Option Value))) (fun (i : Nat) => i ≤ nf) (fun (i : Nat) => nf - i) (0) ?_ (rfl) (le_1 rfl (le_1 rfl (le_1 rfl (le_0 le_n)))) ?_
  · exact Nat.zero_le _
  intro i hI ih
  try dsimp only at hI ih ⊢
  refine g_iload_n X dX0_envy_4 rfl ?_
  refine g_aload_n X dX0_envy_5 rfl ?_
  refine g_callV (C := RX0) (T := TX0) (N := 13) X (k_X0_farmers ho) (lw_V q287 q289 qs0 q135 q290) hd_X0_farmers dX0_envy_6 (rd0 ho) rfl rfl ⟨Nat.le_of_ble_eq_true rfl, Nat.le_of_ble_eq_true rfl⟩ ⟨Nat.le_of_ble_eq_true rfl, Nat.le_of_ble_eq_true rfl⟩ (Nat.le_of_ble_eq_true rfl) ?_
  rintro _ S1 ⟨rfl, hS1⟩
  obtain rfl := hS1.symm
  refine g_icmp_ge (tgt := 84) X dX0_envy_9 rfl (fun c9 => ?_) (fun c9 => ?_)
  · refine g_iload_n X dX0_envy_84 rfl ?_
    exact g_iret X hr dX0_envy_85 (Nat.le_of_ble_eq_true rfl) (Nat.le_of_ble_eq_true rfl) (⟨by rw [out_of (by omega) hI (by rw [← h0]; exact c9)], rfl⟩)
  · have hi : i < nf := in_of (by omega) hI (by rw [← h0]; exact c9)
    refine g_iconst (v := 0) X dX0_envy_12 rfl ?_
    refine g_istore_n X dX0_envy_13 (Nat.le_of_ble_eq_true rfl) ?_
    refine g_loop (σ := Nat) (fun (j : Nat) => S) (fun (j : Nat) => ([some (.ref (E.2.2.1 0)), some (.int (enI (fun i k => S.1 (20 + i) k) (fun k => S.1 11 (11 + k)) i (enA (fun i k => S.1 (20 + i) k) (fun k => S.1 11 (11 + k)) nf i) j)), some (.int (nI i)), some (.int (nI j))] : List (Option Value))) (fun (j : Nat) => j ≤ nf) (fun (j : Nat) => nf - j) (0) ?_ (rfl) (le_1 rfl (le_1 rfl (le_1 rfl (le_1 rfl le_n)))) ?_
    · exact Nat.zero_le _
    intro j hI2 ih2
    try dsimp only at hI2 ih2 ⊢
    refine g_iload_n X dX0_envy_14 rfl ?_
    refine g_aload_n X dX0_envy_15 rfl ?_
    refine g_callV (C := RX0) (T := TX0) (N := 13) X (k_X0_farmers ho) (lw_V q287 q289 qs0 q135 q290) hd_X0_farmers dX0_envy_16 (rd0 ho) rfl rfl ⟨Nat.le_of_ble_eq_true rfl, Nat.le_of_ble_eq_true rfl⟩ ⟨Nat.le_of_ble_eq_true rfl, Nat.le_of_ble_eq_true rfl⟩ (Nat.le_of_ble_eq_true rfl) ?_
    rintro _ S1 ⟨rfl, hS1⟩
    obtain rfl := hS1.symm
    refine g_icmp_ge (tgt := 78) X dX0_envy_19 rfl (fun c19 => ?_) (fun c19 => ?_)
    · have hj := out_of (by omega) hI2 (by rw [← h0]; exact c19)
      subst hj
      refine g_iinc (v := 1) X dX0_envy_78 rfl rfl (Nat.le_of_ble_eq_true rfl) ?_
      refine g_goto (tgt := 4) X dX0_envy_81 rfl ?_
      refine g_sub (le_1 rfl (le_1 (ei rfl) (le_1 e_1 (le_0 le_n)))) (ih (i + 1) ?_ ?_)
      · try dsimp only
        omega
      · try dsimp only
        omega
    · have hj : j < nf := in_of (by omega) hI2 (by rw [← h0]; exact c19)
      refine g_iload_n X dX0_envy_22 rfl ?_
      refine g_iload_n X dX0_envy_23 rfl ?_
      refine g_iload_n X dX0_envy_24 rfl ?_
      refine g_icmp_eq (tgt := 69) X dX0_envy_25 rfl (fun c25 => ?_) (fun c25 => ?_)
      · refine g_iconst (v := 0) X dX0_envy_69 rfl ?_
        refine g_iadd X dX0_envy_70 ?_
        refine g_istore_n X dX0_envy_71 (Nat.le_of_ble_eq_true rfl) ?_
        refine g_iinc (v := 1) X dX0_envy_72 rfl rfl (Nat.le_of_ble_eq_true rfl) ?_
        refine g_goto (tgt := 14) X dX0_envy_75 rfl ?_
        refine g_sub (le_1 rfl (le_1 (ei (enI_f (w := (fun i k => S.1 (20 + i) k)) (g := (fun k => S.1 11 (11 + k))) (fun z => absurd ((nI_eq (by omega) (by omega)).mp c25) (fun q => by subst q; exact Int32.lt_irrefl z)))) (le_1 rfl (le_1 e_1 le_n)))) (ih2 (j + 1) ?_ ?_)
        · try dsimp only
          omega
        · try dsimp only
          omega
      · refine g_aload_n X dX0_envy_28 rfl ?_
        refine g_iload_n X dX0_envy_29 rfl ?_
        refine g_aload_n X dX0_envy_30 rfl ?_
        refine g_get (C := RX0) (T := TX0) (N := 13) X 0 in_X0 dX0_envy_31 q241 (rd0 ho) rfl (Nat.le_of_ble_eq_true rfl) (fun _ h9 => h9) rfl ?_
        refine g_getN (C := RX1) (T := TX1) (N := 8) X 1 in_X1 dX0_envy_34 q197 (rd1 ho) rfl (Nat.le_of_ble_eq_true rfl) (fun _ h9 => h9) rfl ?_
        refine g_bipush (v := 11) X dX0_envy_37 rfl ?_
        refine g_iload_n X dX0_envy_39 rfl ?_
        refine g_iadd X dX0_envy_40 ?_
        refine g_iald (j := 11 + j) X dX0_envy_41 (rdi ho (11) (rfl)) (nI_add 11 j) (by omega) (by decide) ?_
        refine g_callV (C := RX0) (T := TX0) (N := 13) X (k_X0_wantOfOwn ho rfl (by omega) (hg j (by omega))) (lw_V q1348 q1350 qs58 q135 q1351) hd_X0_wantOfOwn dX0_envy_42 (rd0 ho) rfl rfl ⟨Nat.le_of_ble_eq_true rfl, Nat.le_of_ble_eq_true rfl⟩ ⟨Nat.le_of_ble_eq_true rfl, Nat.le_of_ble_eq_true rfl⟩ (Nat.le_of_ble_eq_true rfl) ?_
        rintro _ S1 ⟨rfl, hS1⟩
        obtain rfl := hS1.symm
        refine g_aload_n X dX0_envy_45 rfl ?_
        refine g_iload_n X dX0_envy_46 rfl ?_
        refine g_aload_n X dX0_envy_47 rfl ?_
        refine g_get (C := RX0) (T := TX0) (N := 13) X 0 in_X0 dX0_envy_48 q241 (rd0 ho) rfl (Nat.le_of_ble_eq_true rfl) (fun _ h9 => h9) rfl ?_
        refine g_getN (C := RX1) (T := TX1) (N := 8) X 1 in_X1 dX0_envy_51 q197 (rd1 ho) rfl (Nat.le_of_ble_eq_true rfl) (fun _ h9 => h9) rfl ?_
        refine g_bipush (v := 11) X dX0_envy_54 rfl ?_
        refine g_iload_n X dX0_envy_56 rfl ?_
        refine g_iadd X dX0_envy_57 ?_
        refine g_iald (j := 11 + i) X dX0_envy_58 (rdi ho (11) (rfl)) (nI_add 11 i) (by omega) (by decide) ?_
        refine g_callV (C := RX0) (T := TX0) (N := 13) X (k_X0_wantOfOwn ho rfl (by omega) (hg i (by omega))) (lw_V q1348 q1350 qs58 q135 q1351) hd_X0_wantOfOwn dX0_envy_59 (rd0 ho) rfl rfl ⟨Nat.le_of_ble_eq_true rfl, Nat.le_of_ble_eq_true rfl⟩ ⟨Nat.le_of_ble_eq_true rfl, Nat.le_of_ble_eq_true rfl⟩ (Nat.le_of_ble_eq_true rfl) ?_
        rintro _ S1 ⟨rfl, hS1⟩
        obtain rfl := hS1.symm
        refine g_icmp_le (tgt := 69) X dX0_envy_62 rfl (fun c62 => ?_) (fun c62 => ?_)
        · refine g_iconst (v := 0) X dX0_envy_69 rfl ?_
          refine g_iadd X dX0_envy_70 ?_
          refine g_istore_n X dX0_envy_71 (Nat.le_of_ble_eq_true rfl) ?_
          refine g_iinc (v := 1) X dX0_envy_72 rfl rfl (Nat.le_of_ble_eq_true rfl) ?_
          refine g_goto (tgt := 14) X dX0_envy_75 rfl ?_
          refine g_sub (le_1 rfl (le_1 (ei (enI_f (w := (fun i k => S.1 (20 + i) k)) (g := (fun k => S.1 11 (11 + k))) (fun z => absurd c62 (Int32.not_le.mpr z)))) (le_1 rfl (le_1 e_1 le_n)))) (ih2 (j + 1) ?_ ?_)
          · try dsimp only
            omega
          · try dsimp only
            omega
        · refine g_iconst (v := 1) X dX0_envy_65 rfl ?_
          refine g_goto (tgt := 70) X dX0_envy_66 rfl ?_
          refine g_iadd X dX0_envy_70 ?_
          refine g_istore_n X dX0_envy_71 (Nat.le_of_ble_eq_true rfl) ?_
          refine g_iinc (v := 1) X dX0_envy_72 rfl rfl (Nat.le_of_ble_eq_true rfl) ?_
          refine g_goto (tgt := 14) X dX0_envy_75 rfl ?_
          refine g_sub (le_1 rfl (le_1 (ei (enI_t (w := (fun i k => S.1 (20 + i) k)) (g := (fun k => S.1 11 (11 + k))) (Int32.not_le.mp c62))) (le_1 rfl (le_1 e_1 le_n)))) (ih2 (j + 1) ?_ ?_)
          · try dsimp only
            omega
          · try dsimp only
            omega
set_option maxHeartbeats 600000 in
theorem k_X2_envy {l : Launch} {E : gk_E} (ho : E.2.2.2.2 = true) {S : gk_S}  {nf : Nat} (h0 : S.1 400 0 = nI nf) (h1 : nf ≤ 5) (hg : ∀ k, k < 5 → isF (S.1 400 (17 + 2 * k))) : gk_T l E yX2_envy cX2_envy 4 ((some .int)) 2 44 0 0 [.ref (E.2.2.1 3)] S (fun r S' => r = some (.int (enA (fun i k => S.1 400 (37 + 5 * i + k)) (fun k => S.1 400 (17 + 2 * k)) nf nf)) ∧ S' = S) := by
  refine gk_T.of [some (.ref (E.2.2.1 3)), none, none, none] (by decide) (Nat.le_of_ble_eq_true rfl) (le_1 rfl (le_p (le_p (le_p le_n)))) ?_
  intro p_ e_ R_ s_ m_ args_ below_ meth_ c_ hR X hr hin
  subst hR
  refine g_iconst (v := 0) X dX2_envy_0 rfl ?_
  refine g_istore_n X dX2_envy_1 (Nat.le_of_ble_eq_true rfl) ?_
  refine g_iconst (v := 0) X dX2_envy_2 rfl ?_
  refine g_istore_n X dX2_envy_3 (Nat.le_of_ble_eq_true rfl) ?_
  refine g_loop (σ := Nat) (fun (i : Nat) => S) (fun (i : Nat) => ([some (.ref (E.2.2.1 3)), some (.int (enA (fun i k => S.1 400 (37 + 5 * i + k)) (fun k => S.1 400 (17 + 2 * k)) nf i)), some (.int (nI i)), none] : List (Option Value))) (fun (i : Nat) => i ≤ nf) (fun (i : Nat) => nf - i) (0) ?_ (rfl) (le_1 rfl (le_1 rfl (le_1 rfl (le_0 le_n)))) ?_
  · exact Nat.zero_le _
  intro i hI ih
  try dsimp only at hI ih ⊢
  refine g_iload_n X dX2_envy_4 rfl ?_
  refine g_aload_n X dX2_envy_5 rfl ?_
  refine g_get (C := RX2) (T := TX2) (N := 35) X 0 in_X2 dX2_envy_6 q1405 (rd3 ho) rfl (Nat.le_of_ble_eq_true rfl) (fun _ h9 => h9) rfl ?_
  refine g_iconst (v := 0) X dX2_envy_9 rfl ?_
  refine g_iald (j := 0) X dX2_envy_10 (rdi ho (400) (rfl)) rfl (by decide) (by decide) ?_
  refine g_icmp_ge (tgt := 61) X dX2_envy_11 rfl (fun c11 => ?_) (fun c11 => ?_)
  · refine g_iload_n X dX2_envy_61 rfl ?_
    exact g_iret X hr dX2_envy_62 (Nat.le_of_ble_eq_true rfl) (Nat.le_of_ble_eq_true rfl) (⟨by rw [out_of (by omega) hI (by rw [← h0]; exact c11)], rfl⟩)
  · have hi : i < nf := in_of (by omega) hI (by rw [← h0]; exact c11)
    refine g_iconst (v := 0) X dX2_envy_14 rfl ?_
    refine g_istore_n X dX2_envy_15 (Nat.le_of_ble_eq_true rfl) ?_
    refine g_loop (σ := Nat) (fun (j : Nat) => S) (fun (j : Nat) => ([some (.ref (E.2.2.1 3)), some (.int (enI (fun i k => S.1 400 (37 + 5 * i + k)) (fun k => S.1 400 (17 + 2 * k)) i (enA (fun i k => S.1 400 (37 + 5 * i + k)) (fun k => S.1 400 (17 + 2 * k)) nf i) j)), some (.int (nI i)), some (.int (nI j))] : List (Option Value))) (fun (j : Nat) => j ≤ nf) (fun (j : Nat) => nf - j) (0) ?_ (rfl) (le_1 rfl (le_1 rfl (le_1 rfl (le_1 rfl le_n)))) ?_
    · exact Nat.zero_le _
    intro j hI2 ih2
    try dsimp only at hI2 ih2 ⊢
    refine g_iload_n X dX2_envy_16 rfl ?_
    refine g_aload_n X dX2_envy_17 rfl ?_
    refine g_get (C := RX2) (T := TX2) (N := 35) X 0 in_X2 dX2_envy_18 q1405 (rd3 ho) rfl (Nat.le_of_ble_eq_true rfl) (fun _ h9 => h9) rfl ?_
    refine g_iconst (v := 0) X dX2_envy_21 rfl ?_
    refine g_iald (j := 0) X dX2_envy_22 (rdi ho (400) (rfl)) rfl (by decide) (by decide) ?_
    refine g_icmp_ge (tgt := 55) X dX2_envy_23 rfl (fun c23 => ?_) (fun c23 => ?_)
    · have hj := out_of (by omega) hI2 (by rw [← h0]; exact c23)
      subst hj
      refine g_iinc (v := 1) X dX2_envy_55 rfl rfl (Nat.le_of_ble_eq_true rfl) ?_
      refine g_goto (tgt := 4) X dX2_envy_58 rfl ?_
      refine g_sub (le_1 rfl (le_1 (ei rfl) (le_1 e_1 (le_0 le_n)))) (ih (i + 1) ?_ ?_)
      · try dsimp only
        omega
      · try dsimp only
        omega
    · have hj : j < nf := in_of (by omega) hI2 (by rw [← h0]; exact c23)
      refine g_iload_n X dX2_envy_26 rfl ?_
      refine g_aload_n X dX2_envy_27 rfl ?_
      refine g_iload_n X dX2_envy_28 rfl ?_
      refine g_iload_n X dX2_envy_29 rfl ?_
      refine g_callV (C := RX2) (T := TX2) (N := 35) X (k_X2_wantsOwn ho rfl (by omega) rfl (by omega) (hg j (by omega))) (lw_V q2080 q2082 qs133 q139 q2083) hd_X2_wantsOwn dX2_envy_30 (rd3 ho) rfl rfl ⟨Nat.le_of_ble_eq_true rfl, Nat.le_of_ble_eq_true rfl⟩ ⟨Nat.le_of_ble_eq_true rfl, Nat.le_of_ble_eq_true rfl⟩ (Nat.le_of_ble_eq_true rfl) ?_
      rintro _ S1 ⟨rfl, hS1⟩
      obtain rfl := hS1.symm
      refine g_aload_n X dX2_envy_33 rfl ?_
      refine g_iload_n X dX2_envy_34 rfl ?_
      refine g_iload_n X dX2_envy_35 rfl ?_
      refine g_callV (C := RX2) (T := TX2) (N := 35) X (k_X2_wantsOwn ho rfl (by omega) rfl (by omega) (hg i (by omega))) (lw_V q2080 q2082 qs133 q139 q2083) hd_X2_wantsOwn dX2_envy_36 (rd3 ho) rfl rfl ⟨Nat.le_of_ble_eq_true rfl, Nat.le_of_ble_eq_true rfl⟩ ⟨Nat.le_of_ble_eq_true rfl, Nat.le_of_ble_eq_true rfl⟩ (Nat.le_of_ble_eq_true rfl) ?_
      rintro _ S1 ⟨rfl, hS1⟩
      obtain rfl := hS1.symm
      refine g_icmp_le (tgt := 46) X dX2_envy_39 rfl (fun c39 => ?_) (fun c39 => ?_)
      · refine g_iconst (v := 0) X dX2_envy_46 rfl ?_
        refine g_iadd X dX2_envy_47 ?_
        refine g_istore_n X dX2_envy_48 (Nat.le_of_ble_eq_true rfl) ?_
        refine g_iinc (v := 1) X dX2_envy_49 rfl rfl (Nat.le_of_ble_eq_true rfl) ?_
        refine g_goto (tgt := 16) X dX2_envy_52 rfl ?_
        refine g_sub (le_1 rfl (le_1 (ei (enI_f (w := (fun i k => S.1 400 (37 + 5 * i + k))) (g := (fun k => S.1 400 (17 + 2 * k))) (fun z => absurd c39 (Int32.not_le.mpr z)))) (le_1 rfl (le_1 e_1 le_n)))) (ih2 (j + 1) ?_ ?_)
        · try dsimp only
          omega
        · try dsimp only
          omega
      · refine g_iconst (v := 1) X dX2_envy_42 rfl ?_
        refine g_goto (tgt := 47) X dX2_envy_43 rfl ?_
        refine g_iadd X dX2_envy_47 ?_
        refine g_istore_n X dX2_envy_48 (Nat.le_of_ble_eq_true rfl) ?_
        refine g_iinc (v := 1) X dX2_envy_49 rfl rfl (Nat.le_of_ble_eq_true rfl) ?_
        refine g_goto (tgt := 16) X dX2_envy_52 rfl ?_
        refine g_sub (le_1 rfl (le_1 (ei (enI_t (w := (fun i k => S.1 400 (37 + 5 * i + k))) (g := (fun k => S.1 400 (17 + 2 * k))) (Int32.not_le.mp c39))) (le_1 rfl (le_1 e_1 le_n)))) (ih2 (j + 1) ?_ ?_)
        · try dsimp only
          omega
        · try dsimp only
          omega
