theorem alC_n : ∀ {n : Nat}, n ≤ 8 → alC n = nI (2 ^ n - 1) ∧ 2 ^ n - 1 ≤ 255 := by
  intro n hn
  exact (by decide +kernel : ∀ n : Nat, n ≤ 8 → alC n = nI (2 ^ n - 1) ∧ 2 ^ n - 1 ≤ 255) n hn
abbrev moP (n : Nat) (f : Nat → Int32) (k : Nat) (b : Int32) : Prop := wo n f (nI (k + 1)) ≠ 0 ∧ bcI b < bcI (nI (k + 1))
def mo (n : Nat) (f : Nat → Int32) (i : Nat) : Int32 := itr (fun k b => if moP n f k b then nI (k + 1) else b) i 0
theorem mo_t {n i : Nat} {f : Nat → Int32} (h : moP n f i (mo n f i)) : nI (i + 1) = mo n f (i + 1) := (if_pos h).symm
theorem mo_f {n i : Nat} {f : Nat → Int32} (h : ¬ moP n f i (mo n f i)) : mo n f i = mo n f (i + 1) := (if_neg h).symm
theorem mo_in {n : Nat} {f : Nat → Int32} (i : Nat) : ∃ v, v ≤ i ∧ mo n f i = nI v := by
  induction i with
  | zero => exact ⟨0, Nat.le_refl _, rfl⟩
  | succ i ih =>
    by_cases h : moP n f i (mo n f i)
    · exact ⟨i + 1, Nat.le_refl _, (mo_t h).symm⟩
    · obtain ⟨v, h1, h2⟩ := ih
      exact ⟨v, by omega, by rw [← mo_f h, h2]⟩
theorem out_gt {i N : Nat} (hi : i ≤ N) (hN : N ≤ 255) (c : nI N < nI (i + 1)) : i = N := by
  have := (nI_ltI (by omega) (by omega)).mp c
  omega
theorem in_gt {i N : Nat} (hi : i ≤ N) (hN : N ≤ 255) (c : ¬ nI N < nI (i + 1)) : i < N := by
  rcases Nat.lt_or_ge i N with q | q
  · exact q
  · exact absurd (nI_lt (by omega) (by omega)) c
set_option maxHeartbeats 600000 in
theorem k_X0_most {l : Launch} {E : gk_E} (ho : E.2.2.2.2 = true) {S : gk_S} {b : Int32} {a n : Nat} {f : Nat → Int32} (hu : RU E S a n f) : gk_T l E yX0_most cX0_most 4 ((some .int)) 4 84 0 0 [.ref (E.2.2.1 0), .int b] S (fun r S' => r = some (.int (if b = 0 then mo n f (2 ^ n - 1) else bcI (mo n f (2 ^ n - 1)))) ∧ S' = S) := by
  refine gk_T.of [some (.ref (E.2.2.1 0)), some (.int b), none, none] (by decide) (Nat.le_of_ble_eq_true rfl) (le_1 rfl (le_1 rfl (le_p (le_p le_n)))) ?_
  intro p_ e_ R_ s_ m_ args_ below_ meth_ c_ hR X hr hin
  subst hR
  have hn8 : n ≤ 8 := hu.1
  obtain ⟨hN, hN2⟩ := alC_n hn8
  refine g_iconst (v := 0) X dX0_most_0 rfl ?_
  refine g_istore_n X dX0_most_1 (Nat.le_of_ble_eq_true rfl) ?_
  refine g_iconst (v := 1) X dX0_most_2 rfl ?_
  refine g_istore_n X dX0_most_3 (Nat.le_of_ble_eq_true rfl) ?_
  refine g_loop (σ := Nat) (fun (i : Nat) => S) (fun (i : Nat) => ([some (.ref (E.2.2.1 0)), some (.int b), some (.int (mo n f i)), some (.int (nI (i + 1)))] : List (Option Value))) (fun (i : Nat) => i ≤ 2 ^ n - 1) (fun (i : Nat) => 2 ^ n - 1 - i) (0) ?_ (rfl) (le_1 rfl (le_1 rfl (le_1 rfl (le_1 rfl le_n)))) ?_
  · exact Nat.zero_le _
  intro i hI ih
  try dsimp only at hI ih ⊢
  refine g_iload_n X dX0_most_4 rfl ?_
  refine g_aload_n X dX0_most_5 rfl ?_
  refine g_callV (C := RX0) (T := TX0) (N := 13) X (k_X0_allClaims ho hu) (lw_V q1039 q1041 qs31 q135 q1042) hd_X0_allClaims dX0_most_6 (rd0 ho) rfl rfl ⟨Nat.le_of_ble_eq_true rfl, Nat.le_of_ble_eq_true rfl⟩ ⟨Nat.le_of_ble_eq_true rfl, Nat.le_of_ble_eq_true rfl⟩ (Nat.le_of_ble_eq_true rfl) ?_
  rintro _ S1 ⟨rfl, hS1⟩
  obtain rfl := hS1.symm
  refine g_icmp_gt (tgt := 39) X dX0_most_9 rfl (fun c9 => ?_) (fun c9 => ?_)
  · have hi : i = 2 ^ n - 1 := out_gt hI hN2 (by rw [← hN]; exact c9)
    refine g_iload_n X dX0_most_39 rfl ?_
    refine g_if_eq (tgt := 50) X dX0_most_40 rfl (fun c40 => ?_) (fun c40 => ?_)
    · refine g_iload_n X dX0_most_50 rfl ?_
      exact g_iret X hr dX0_most_51 (Nat.le_of_ble_eq_true rfl) (Nat.le_of_ble_eq_true rfl) (⟨by rw [if_pos c40, ← hi], rfl⟩)
    · refine g_iload_n X dX0_most_43 rfl ?_
      refine g_callS X (k_J13_bitCount ho) (lw_S q1068 q1069 q163 q1070) hd_J13_bitCount dX0_most_44 rfl ⟨Nat.le_of_ble_eq_true rfl, Nat.le_of_ble_eq_true rfl⟩ ⟨Nat.le_of_ble_eq_true rfl, Nat.le_of_ble_eq_true rfl⟩ (Nat.le_of_ble_eq_true rfl) ?_
      rintro _ S1 ⟨rfl, hS1⟩
      obtain rfl := hS1.symm
      refine g_goto (tgt := 51) X dX0_most_47 rfl ?_
      exact g_iret X hr dX0_most_51 (Nat.le_of_ble_eq_true rfl) (Nat.le_of_ble_eq_true rfl) (⟨by rw [if_neg c40, ← hi], rfl⟩)
  · have hi : i < 2 ^ n - 1 := in_gt hI hN2 (by rw [← hN]; exact c9)
    refine g_aload_n X dX0_most_12 rfl ?_
    refine g_iload_n X dX0_most_13 rfl ?_
    refine g_callV (C := RX0) (T := TX0) (N := 13) X (k_X0_isTogether ho hu) (lw_V q1221 q1223 qs46 q135 q1224) hd_X0_isTogether dX0_most_14 (rd0 ho) rfl rfl ⟨Nat.le_of_ble_eq_true rfl, Nat.le_of_ble_eq_true rfl⟩ ⟨Nat.le_of_ble_eq_true rfl, Nat.le_of_ble_eq_true rfl⟩ (Nat.le_of_ble_eq_true rfl) ?_
    rintro _ S1 ⟨rfl, hS1⟩
    obtain rfl := hS1.symm
    refine g_ifp_eq (tgt := 33) X dX0_most_17 rfl (fun c17 => ?_) (fun c17 => ?_)
    · refine g_iinc (v := 1) X dX0_most_33 rfl rfl (Nat.le_of_ble_eq_true rfl) ?_
      refine g_goto (tgt := 4) X dX0_most_36 rfl ?_
      refine g_sub (le_1 rfl (le_1 rfl (le_1 (ei (mo_f (fun z => c17 z.1))) (le_1 e_1 le_n)))) (ih (i + 1) ?_ ?_)
      · try dsimp only
        omega
      · try dsimp only
        omega
    · refine g_iload_n X dX0_most_20 rfl ?_
      refine g_callS X (k_J13_bitCount ho) (lw_S q1068 q1069 q163 q1070) hd_J13_bitCount dX0_most_21 rfl ⟨Nat.le_of_ble_eq_true rfl, Nat.le_of_ble_eq_true rfl⟩ ⟨Nat.le_of_ble_eq_true rfl, Nat.le_of_ble_eq_true rfl⟩ (Nat.le_of_ble_eq_true rfl) ?_
      rintro _ S1 ⟨rfl, hS1⟩
      obtain rfl := hS1.symm
      refine g_iload_n X dX0_most_24 rfl ?_
      refine g_callS X (k_J13_bitCount ho) (lw_S q1068 q1069 q163 q1070) hd_J13_bitCount dX0_most_25 rfl ⟨Nat.le_of_ble_eq_true rfl, Nat.le_of_ble_eq_true rfl⟩ ⟨Nat.le_of_ble_eq_true rfl, Nat.le_of_ble_eq_true rfl⟩ (Nat.le_of_ble_eq_true rfl) ?_
      rintro _ S1 ⟨rfl, hS1⟩
      obtain rfl := hS1.symm
      refine g_icmp_le (tgt := 33) X dX0_most_28 rfl (fun c28 => ?_) (fun c28 => ?_)
      · refine g_iinc (v := 1) X dX0_most_33 rfl rfl (Nat.le_of_ble_eq_true rfl) ?_
        refine g_goto (tgt := 4) X dX0_most_36 rfl ?_
        refine g_sub (le_1 rfl (le_1 rfl (le_1 (ei (mo_f (fun z => absurd c28 (Int32.not_le.mpr z.2)))) (le_1 e_1 le_n)))) (ih (i + 1) ?_ ?_)
        · try dsimp only
          omega
        · try dsimp only
          omega
      · refine g_iload_n X dX0_most_31 rfl ?_
        refine g_istore_n X dX0_most_32 (Nat.le_of_ble_eq_true rfl) ?_
        refine g_iinc (v := 1) X dX0_most_33 rfl rfl (Nat.le_of_ble_eq_true rfl) ?_
        refine g_goto (tgt := 4) X dX0_most_36 rfl ?_
        refine g_sub (le_1 rfl (le_1 rfl (le_1 (ei (mo_t ⟨c17, Int32.not_le.mp c28⟩)) (le_1 e_1 le_n)))) (ih (i + 1) ?_ ?_)
        · try dsimp only
          omega
        · try dsimp only
          omega
set_option maxHeartbeats 600000 in
theorem k_X2_most {l : Launch} {E : gk_E} (ho : E.2.2.2.2 = true) {S : gk_S} {b : Int32} {n : Nat} {f : Nat → Int32} (hu : MU S n f) : gk_T l E yX2_most cX2_most 4 ((some .int)) 2 44 0 0 [.ref (E.2.2.1 3), .int b] S (fun r S' => r = some (.int (if b = 0 then mo n f (2 ^ n - 1) else bcI (mo n f (2 ^ n - 1)))) ∧ S' = S) := by
  refine gk_T.of [some (.ref (E.2.2.1 3)), some (.int b), none, none] (by decide) (Nat.le_of_ble_eq_true rfl) (le_1 rfl (le_1 rfl (le_p (le_p le_n)))) ?_
  intro p_ e_ R_ s_ m_ args_ below_ meth_ c_ hR X hr hin
  subst hR
  have hn8 : n ≤ 8 := hu.1
  obtain ⟨hN, hN2⟩ := alC_n hn8
  refine g_iconst (v := 0) X dX2_most_0 rfl ?_
  refine g_istore_n X dX2_most_1 (Nat.le_of_ble_eq_true rfl) ?_
  refine g_iconst (v := 1) X dX2_most_2 rfl ?_
  refine g_istore_n X dX2_most_3 (Nat.le_of_ble_eq_true rfl) ?_
  refine g_loop (σ := Nat) (fun (i : Nat) => S) (fun (i : Nat) => ([some (.ref (E.2.2.1 3)), some (.int b), some (.int (mo n f i)), some (.int (nI (i + 1)))] : List (Option Value))) (fun (i : Nat) => i ≤ 2 ^ n - 1) (fun (i : Nat) => 2 ^ n - 1 - i) (0) ?_ (rfl) (le_1 rfl (le_1 rfl (le_1 rfl (le_1 rfl le_n)))) ?_
  · exact Nat.zero_le _
  intro i hI ih
  try dsimp only at hI ih ⊢
  refine g_iload_n X dX2_most_4 rfl ?_
  refine g_aload_n X dX2_most_5 rfl ?_
  refine g_callV (C := RX2) (T := TX2) (N := 35) X (k_X2_every ho hu) (lw_V q1759 q1761 qs98 q139 q1762) hd_X2_every dX2_most_6 (rd3 ho) rfl rfl ⟨Nat.le_of_ble_eq_true rfl, Nat.le_of_ble_eq_true rfl⟩ ⟨Nat.le_of_ble_eq_true rfl, Nat.le_of_ble_eq_true rfl⟩ (Nat.le_of_ble_eq_true rfl) ?_
  rintro _ S1 ⟨rfl, hS1⟩
  obtain rfl := hS1.symm
  refine g_icmp_gt (tgt := 39) X dX2_most_9 rfl (fun c9 => ?_) (fun c9 => ?_)
  · have hi : i = 2 ^ n - 1 := out_gt hI hN2 (by rw [← hN]; exact c9)
    refine g_iload_n X dX2_most_39 rfl ?_
    refine g_if_eq (tgt := 50) X dX2_most_40 rfl (fun c40 => ?_) (fun c40 => ?_)
    · refine g_iload_n X dX2_most_50 rfl ?_
      exact g_iret X hr dX2_most_51 (Nat.le_of_ble_eq_true rfl) (Nat.le_of_ble_eq_true rfl) (⟨by rw [if_pos c40, ← hi], rfl⟩)
    · obtain ⟨v, hv1, hv2⟩ := mo_in (n := n) (f := f) i
      refine g_iload_n X dX2_most_43 rfl ?_
      refine g_callS X (k_X2_bits ho hv2 (by omega)) (lw_S q1822 q1823 q139 q1824) hd_X2_bits dX2_most_44 rfl ⟨Nat.le_of_ble_eq_true rfl, Nat.le_of_ble_eq_true rfl⟩ ⟨Nat.le_of_ble_eq_true rfl, Nat.le_of_ble_eq_true rfl⟩ (Nat.le_of_ble_eq_true rfl) ?_
      rintro _ S1 ⟨rfl, hS1⟩
      obtain rfl := hS1.symm
      refine g_goto (tgt := 51) X dX2_most_47 rfl ?_
      exact g_iret X hr dX2_most_51 (Nat.le_of_ble_eq_true rfl) (Nat.le_of_ble_eq_true rfl) (⟨by rw [if_neg c40, ← hi], rfl⟩)
  · have hi : i < 2 ^ n - 1 := in_gt hI hN2 (by rw [← hN]; exact c9)
    obtain ⟨v, hv1, hv2⟩ := mo_in (n := n) (f := f) i
    refine g_iload_n X dX2_most_12 rfl ?_
    refine g_callS X (k_X2_bits ho (w := i + 1) rfl (by omega)) (lw_S q1822 q1823 q139 q1824) hd_X2_bits dX2_most_13 rfl ⟨Nat.le_of_ble_eq_true rfl, Nat.le_of_ble_eq_true rfl⟩ ⟨Nat.le_of_ble_eq_true rfl, Nat.le_of_ble_eq_true rfl⟩ (Nat.le_of_ble_eq_true rfl) ?_
    rintro _ S1 ⟨rfl, hS1⟩
    obtain rfl := hS1.symm
    refine g_iload_n X dX2_most_16 rfl ?_
    refine g_callS X (k_X2_bits ho hv2 (by omega)) (lw_S q1822 q1823 q139 q1824) hd_X2_bits dX2_most_17 rfl ⟨Nat.le_of_ble_eq_true rfl, Nat.le_of_ble_eq_true rfl⟩ ⟨Nat.le_of_ble_eq_true rfl, Nat.le_of_ble_eq_true rfl⟩ (Nat.le_of_ble_eq_true rfl) ?_
    rintro _ S1 ⟨rfl, hS1⟩
    obtain rfl := hS1.symm
    refine g_icmp_le (tgt := 33) X dX2_most_20 rfl (fun c20 => ?_) (fun c20 => ?_)
    · refine g_iinc (v := 1) X dX2_most_33 rfl rfl (Nat.le_of_ble_eq_true rfl) ?_
      refine g_goto (tgt := 4) X dX2_most_36 rfl ?_
      refine g_sub (le_1 rfl (le_1 rfl (le_1 (ei (mo_f (fun z => absurd c20 (Int32.not_le.mpr z.2)))) (le_1 e_1 le_n)))) (ih (i + 1) ?_ ?_)
      · try dsimp only
        omega
      · try dsimp only
        omega
    · refine g_aload_n X dX2_most_23 rfl ?_
      refine g_iload_n X dX2_most_24 rfl ?_
      refine g_callV (C := RX2) (T := TX2) (N := 35) X (k_X2_worldsOf ho hu) (lw_V q1763 q1765 qs99 q139 q1766) hd_X2_worldsOf dX2_most_25 (rd3 ho) rfl rfl ⟨Nat.le_of_ble_eq_true rfl, Nat.le_of_ble_eq_true rfl⟩ ⟨Nat.le_of_ble_eq_true rfl, Nat.le_of_ble_eq_true rfl⟩ (Nat.le_of_ble_eq_true rfl) ?_
      rintro _ S1 ⟨rfl, hS1⟩
      obtain rfl := hS1.symm
      refine g_if_eq (tgt := 33) X dX2_most_28 rfl (fun c28 => ?_) (fun c28 => ?_)
      · refine g_iinc (v := 1) X dX2_most_33 rfl rfl (Nat.le_of_ble_eq_true rfl) ?_
        refine g_goto (tgt := 4) X dX2_most_36 rfl ?_
        refine g_sub (le_1 rfl (le_1 rfl (le_1 (ei (mo_f (fun z => z.1 c28))) (le_1 e_1 le_n)))) (ih (i + 1) ?_ ?_)
        · try dsimp only
          omega
        · try dsimp only
          omega
      · refine g_iload_n X dX2_most_31 rfl ?_
        refine g_istore_n X dX2_most_32 (Nat.le_of_ble_eq_true rfl) ?_
        refine g_iinc (v := 1) X dX2_most_33 rfl rfl (Nat.le_of_ble_eq_true rfl) ?_
        refine g_goto (tgt := 4) X dX2_most_36 rfl ?_
        refine g_sub (le_1 rfl (le_1 rfl (le_1 (ei (mo_t ⟨c28, Int32.not_le.mp c20⟩)) (le_1 e_1 le_n)))) (ih (i + 1) ?_ ?_)
        · try dsimp only
          omega
        · try dsimp only
          omega
abbrev quP (n : Nat) (f : Nat → Int32) (k : Nat) (b : Int32) : Prop := ¬ wo n f (nI (k + 1)) ≠ 0 ∧ (b = -1 ∨ bcI (nI (k + 1)) < bcI b)
def qu (n : Nat) (f : Nat → Int32) (i : Nat) : Int32 := itr (fun k b => if quP n f k b then nI (k + 1) else b) i (-1)
theorem qu_t {n i : Nat} {f : Nat → Int32} (h : quP n f i (qu n f i)) : nI (i + 1) = qu n f (i + 1) := (if_pos h).symm
theorem qu_f {n i : Nat} {f : Nat → Int32} (h : ¬ quP n f i (qu n f i)) : qu n f i = qu n f (i + 1) := (if_neg h).symm
/-- downward: after i sets, from N on -/
abbrev qmP (n : Nat) (f : Nat → Int32) (N k : Nat) (b : Int32) : Prop := wo n f (nI (N - k)) = 0 ∧ (b = -1 ∨ bcI (nI (N - k)) ≤ bcI b)
def qm (n : Nat) (f : Nat → Int32) (N i : Nat) : Int32 := itr (fun k b => if qmP n f N k b then nI (N - k) else b) i (-1)
theorem qm_t {n i N : Nat} {f : Nat → Int32} (h : qmP n f N i (qm n f N i)) : nI (N - i) = qm n f N (i + 1) := (if_pos h).symm
theorem qm_f {n i N : Nat} {f : Nat → Int32} (h : ¬ qmP n f N i (qm n f N i)) : qm n f N i = qm n f N (i + 1) := (if_neg h).symm
theorem qm_in {n N : Nat} {f : Nat → Int32} (i : Nat) : qm n f N i = -1 ∨ ∃ v, v ≤ N ∧ qm n f N i = nI v := by
  induction i with
  | zero => exact Or.inl rfl
  | succ i ih =>
    by_cases h : qmP n f N i (qm n f N i)
    · exact Or.inr ⟨N - i, Nat.sub_le _ _, (qm_t h).symm⟩
    · rw [← qm_f h]
      exact ih
theorem e_m1 {a : Nat} (h : 0 < a) : some (Value.int (nI a + -1)) = some (Value.int (nI (a - 1))) := by
  obtain ⟨b, rfl⟩ : ∃ b, a = b + 1 := ⟨a - 1, by omega⟩
  rw [pk_m1]
  rfl
set_option maxHeartbeats 600000 in
theorem k_X0_quarrel {l : Launch} {E : gk_E} (ho : E.2.2.2.2 = true) {S : gk_S} {b : Int32} {a n : Nat} {f : Nat → Int32} (hu : RU E S a n f) : gk_T l E yX0_quarrel cX0_quarrel 4 ((some .int)) 4 84 0 0 [.ref (E.2.2.1 0), .int b] S (fun r S' => r = some (.int (if b = 0 then (qu n f (2 ^ n - 1)) else if (qu n f (2 ^ n - 1)) = -1 then (qu n f (2 ^ n - 1)) else bcI (qu n f (2 ^ n - 1)))) ∧ S' = S) := by
  refine gk_T.of [some (.ref (E.2.2.1 0)), some (.int b), none, none] (by decide) (Nat.le_of_ble_eq_true rfl) (le_1 rfl (le_1 rfl (le_p (le_p le_n)))) ?_
  intro p_ e_ R_ s_ m_ args_ below_ meth_ c_ hR X hr hin
  subst hR
  have hn8 : n ≤ 8 := hu.1
  obtain ⟨hN, hN2⟩ := alC_n hn8
  refine g_iconst (v := (-1)) X dX0_quarrel_0 rfl ?_
  refine g_istore_n X dX0_quarrel_1 (Nat.le_of_ble_eq_true rfl) ?_
  refine g_iconst (v := 1) X dX0_quarrel_2 rfl ?_
  refine g_istore_n X dX0_quarrel_3 (Nat.le_of_ble_eq_true rfl) ?_
  refine g_loop (σ := Nat) (fun (i : Nat) => S) (fun (i : Nat) => ([some (.ref (E.2.2.1 0)), some (.int b), some (.int (qu n f i)), some (.int (nI (i + 1)))] : List (Option Value))) (fun (i : Nat) => i ≤ 2 ^ n - 1) (fun (i : Nat) => 2 ^ n - 1 - i) (0) ?_ (rfl) (le_1 rfl (le_1 rfl (le_1 rfl (le_1 rfl le_n)))) ?_
  · exact Nat.zero_le _
  intro i hI ih
  try dsimp only at hI ih ⊢
  refine g_iload_n X dX0_quarrel_4 rfl ?_
  refine g_aload_n X dX0_quarrel_5 rfl ?_
  refine g_callV (C := RX0) (T := TX0) (N := 13) X (k_X0_allClaims ho hu) (lw_V q1039 q1041 qs31 q135 q1042) hd_X0_allClaims dX0_quarrel_6 (rd0 ho) rfl rfl ⟨Nat.le_of_ble_eq_true rfl, Nat.le_of_ble_eq_true rfl⟩ ⟨Nat.le_of_ble_eq_true rfl, Nat.le_of_ble_eq_true rfl⟩ (Nat.le_of_ble_eq_true rfl) ?_
  rintro _ S1 ⟨rfl, hS1⟩
  obtain rfl := hS1.symm
  refine g_icmp_gt (tgt := 44) X dX0_quarrel_9 rfl (fun c9 => ?_) (fun c9 => ?_)
  · have hi : i = 2 ^ n - 1 := out_gt hI hN2 (by rw [← hN]; exact c9)
    refine g_iload_n X dX0_quarrel_44 rfl ?_
    refine g_if_eq (tgt := 60) X dX0_quarrel_45 rfl (fun c45 => ?_) (fun c45 => ?_)
    · refine g_iload_n X dX0_quarrel_60 rfl ?_
      exact g_iret X hr dX0_quarrel_61 (Nat.le_of_ble_eq_true rfl) (Nat.le_of_ble_eq_true rfl) (⟨by rw [if_pos c45, ← hi], rfl⟩)
    · refine g_iload_n X dX0_quarrel_48 rfl ?_
      refine g_iconst (v := (-1)) X dX0_quarrel_49 rfl ?_
      refine g_icmp_eq (tgt := 60) X dX0_quarrel_50 rfl (fun c50 => ?_) (fun c50 => ?_)
      · refine g_iload_n X dX0_quarrel_60 rfl ?_
        exact g_iret X hr dX0_quarrel_61 (Nat.le_of_ble_eq_true rfl) (Nat.le_of_ble_eq_true rfl) (⟨by rw [← hi, if_neg c45, if_pos c50], rfl⟩)
      · refine g_iload_n X dX0_quarrel_53 rfl ?_
        refine g_callS X (k_J13_bitCount ho) (lw_S q1068 q1069 q163 q1070) hd_J13_bitCount dX0_quarrel_54 rfl ⟨Nat.le_of_ble_eq_true rfl, Nat.le_of_ble_eq_true rfl⟩ ⟨Nat.le_of_ble_eq_true rfl, Nat.le_of_ble_eq_true rfl⟩ (Nat.le_of_ble_eq_true rfl) ?_
        rintro _ S1 ⟨rfl, hS1⟩
        obtain rfl := hS1.symm
        refine g_goto (tgt := 61) X dX0_quarrel_57 rfl ?_
        exact g_iret X hr dX0_quarrel_61 (Nat.le_of_ble_eq_true rfl) (Nat.le_of_ble_eq_true rfl) (⟨by rw [← hi, if_neg c45, if_neg c50], rfl⟩)
  · have hi : i < 2 ^ n - 1 := in_gt hI hN2 (by rw [← hN]; exact c9)
    refine g_aload_n X dX0_quarrel_12 rfl ?_
    refine g_iload_n X dX0_quarrel_13 rfl ?_
    refine g_callV (C := RX0) (T := TX0) (N := 13) X (k_X0_isTogether ho hu) (lw_V q1221 q1223 qs46 q135 q1224) hd_X0_isTogether dX0_quarrel_14 (rd0 ho) rfl rfl ⟨Nat.le_of_ble_eq_true rfl, Nat.le_of_ble_eq_true rfl⟩ ⟨Nat.le_of_ble_eq_true rfl, Nat.le_of_ble_eq_true rfl⟩ (Nat.le_of_ble_eq_true rfl) ?_
    rintro _ S1 ⟨rfl, hS1⟩
    obtain rfl := hS1.symm
    refine g_ifp_ne (tgt := 38) X dX0_quarrel_17 rfl (fun c17 => ?_) (fun c17 => ?_)
    · refine g_iinc (v := 1) X dX0_quarrel_38 rfl rfl (Nat.le_of_ble_eq_true rfl) ?_
      refine g_goto (tgt := 4) X dX0_quarrel_41 rfl ?_
      refine g_sub (le_1 rfl (le_1 rfl (le_1 (ei (qu_f (fun z => z.1 c17))) (le_1 e_1 le_n)))) (ih (i + 1) ?_ ?_)
      · try dsimp only
        omega
      · try dsimp only
        omega
    · refine g_iload_n X dX0_quarrel_20 rfl ?_
      refine g_iconst (v := (-1)) X dX0_quarrel_21 rfl ?_
      refine g_icmp_eq (tgt := 36) X dX0_quarrel_22 rfl (fun c22 => ?_) (fun c22 => ?_)
      · refine g_iload_n X dX0_quarrel_36 rfl ?_
        refine g_istore_n X dX0_quarrel_37 (Nat.le_of_ble_eq_true rfl) ?_
        refine g_iinc (v := 1) X dX0_quarrel_38 rfl rfl (Nat.le_of_ble_eq_true rfl) ?_
        refine g_goto (tgt := 4) X dX0_quarrel_41 rfl ?_
        refine g_sub (le_1 rfl (le_1 rfl (le_1 (ei (qu_t ⟨c17, Or.inl c22⟩)) (le_1 e_1 le_n)))) (ih (i + 1) ?_ ?_)
        · try dsimp only
          omega
        · try dsimp only
          omega
      · refine g_iload_n X dX0_quarrel_25 rfl ?_
        refine g_callS X (k_J13_bitCount ho) (lw_S q1068 q1069 q163 q1070) hd_J13_bitCount dX0_quarrel_26 rfl ⟨Nat.le_of_ble_eq_true rfl, Nat.le_of_ble_eq_true rfl⟩ ⟨Nat.le_of_ble_eq_true rfl, Nat.le_of_ble_eq_true rfl⟩ (Nat.le_of_ble_eq_true rfl) ?_
        rintro _ S1 ⟨rfl, hS1⟩
        obtain rfl := hS1.symm
        refine g_iload_n X dX0_quarrel_29 rfl ?_
        refine g_callS X (k_J13_bitCount ho) (lw_S q1068 q1069 q163 q1070) hd_J13_bitCount dX0_quarrel_30 rfl ⟨Nat.le_of_ble_eq_true rfl, Nat.le_of_ble_eq_true rfl⟩ ⟨Nat.le_of_ble_eq_true rfl, Nat.le_of_ble_eq_true rfl⟩ (Nat.le_of_ble_eq_true rfl) ?_
        rintro _ S1 ⟨rfl, hS1⟩
        obtain rfl := hS1.symm
        refine g_icmp_ge (tgt := 38) X dX0_quarrel_33 rfl (fun c33 => ?_) (fun c33 => ?_)
        · refine g_iinc (v := 1) X dX0_quarrel_38 rfl rfl (Nat.le_of_ble_eq_true rfl) ?_
          refine g_goto (tgt := 4) X dX0_quarrel_41 rfl ?_
          refine g_sub (le_1 rfl (le_1 rfl (le_1 (ei (qu_f (fun z => z.2.elim c22 (fun y => absurd c33 (Int32.not_le.mpr y))))) (le_1 e_1 le_n)))) (ih (i + 1) ?_ ?_)
          · try dsimp only
            omega
          · try dsimp only
            omega
        · refine g_iload_n X dX0_quarrel_36 rfl ?_
          refine g_istore_n X dX0_quarrel_37 (Nat.le_of_ble_eq_true rfl) ?_
          refine g_iinc (v := 1) X dX0_quarrel_38 rfl rfl (Nat.le_of_ble_eq_true rfl) ?_
          refine g_goto (tgt := 4) X dX0_quarrel_41 rfl ?_
          refine g_sub (le_1 rfl (le_1 rfl (le_1 (ei (qu_t ⟨c17, Or.inr (Int32.not_le.mp c33)⟩)) (le_1 e_1 le_n)))) (ih (i + 1) ?_ ?_)
          · try dsimp only
            omega
          · try dsimp only
            omega
set_option maxHeartbeats 600000 in
theorem k_X2_quarrel {l : Launch} {E : gk_E} (ho : E.2.2.2.2 = true) {S : gk_S} {b : Int32} {n : Nat} {f : Nat → Int32} (hu : MU S n f) : gk_T l E yX2_quarrel cX2_quarrel 4 ((some .int)) 2 44 0 0 [.ref (E.2.2.1 3), .int b] S (fun r S' => r = some (.int (if (qm n f (2 ^ n - 1) (2 ^ n - 1)) = -1 then -1 else if b = 0 then (qm n f (2 ^ n - 1) (2 ^ n - 1)) else bcI (qm n f (2 ^ n - 1) (2 ^ n - 1)))) ∧ S' = S) := by
  refine gk_T.of [some (.ref (E.2.2.1 3)), some (.int b), none, none] (by decide) (Nat.le_of_ble_eq_true rfl) (le_1 rfl (le_1 rfl (le_p (le_p le_n)))) ?_
  intro p_ e_ R_ s_ m_ args_ below_ meth_ c_ hR X hr hin
  subst hR
  have hn8 : n ≤ 8 := hu.1
  obtain ⟨hN, hN2⟩ := alC_n hn8
  refine g_iconst (v := (-1)) X dX2_quarrel_0 rfl ?_
  refine g_istore_n X dX2_quarrel_1 (Nat.le_of_ble_eq_true rfl) ?_
  refine g_aload_n X dX2_quarrel_2 rfl ?_
  refine g_callV (C := RX2) (T := TX2) (N := 35) X (k_X2_every ho hu) (lw_V q1759 q1761 qs98 q139 q1762) hd_X2_every dX2_quarrel_3 (rd3 ho) rfl rfl ⟨Nat.le_of_ble_eq_true rfl, Nat.le_of_ble_eq_true rfl⟩ ⟨Nat.le_of_ble_eq_true rfl, Nat.le_of_ble_eq_true rfl⟩ (Nat.le_of_ble_eq_true rfl) ?_
  rintro _ S1 ⟨rfl, hS1⟩
  obtain rfl := hS1.symm
  refine g_istore_n X dX2_quarrel_6 (Nat.le_of_ble_eq_true rfl) ?_
  refine g_loop (σ := Nat) (fun (i : Nat) => S) (fun (i : Nat) => ([some (.ref (E.2.2.1 3)), some (.int b), some (.int (qm n f (2 ^ n - 1) i)), some (.int (nI (2 ^ n - 1 - i)))] : List (Option Value))) (fun (i : Nat) => i ≤ 2 ^ n - 1) (fun (i : Nat) => 2 ^ n - 1 - i) (0) ?_ (rfl) (le_1 rfl (le_1 rfl (le_1 rfl (le_1 (by rw [hN]; rfl) le_n)))) ?_
  · exact Nat.zero_le _
  intro i hI ih
  try dsimp only at hI ih ⊢
  refine g_iload_n X dX2_quarrel_7 rfl ?_
  refine g_if_le (tgt := 43) X dX2_quarrel_8 rfl (fun c8 => ?_) (fun c8 => ?_)
  · have hi : i = 2 ^ n - 1 := by
      rcases Nat.lt_or_ge i (2 ^ n - 1) with q | q
      · exact absurd c8 (nI_nle (by omega) (by omega))
      · omega
    subst hi
    refine g_iload_n X dX2_quarrel_43 rfl ?_
    refine g_iconst (v := (-1)) X dX2_quarrel_44 rfl ?_
    refine g_icmp_ne (tgt := 52) X dX2_quarrel_45 rfl (fun c45 => ?_) (fun c45 => ?_)
    · refine g_iload_n X dX2_quarrel_52 rfl ?_
      refine g_if_eq (tgt := 63) X dX2_quarrel_53 rfl (fun c53 => ?_) (fun c53 => ?_)
      · refine g_iload_n X dX2_quarrel_63 rfl ?_
        exact g_iret X hr dX2_quarrel_64 (Nat.le_of_ble_eq_true rfl) (Nat.le_of_ble_eq_true rfl) (⟨by rw [if_neg c45, if_pos c53], rfl⟩)
      · obtain ⟨v, hv1, hv2⟩ := (qm_in (n := n) (f := f) (N := 2 ^ n - 1) (2 ^ n - 1)).resolve_left c45
        refine g_iload_n X dX2_quarrel_56 rfl ?_
        refine g_callS X (k_X2_bits ho hv2 (by omega)) (lw_S q1822 q1823 q139 q1824) hd_X2_bits dX2_quarrel_57 rfl ⟨Nat.le_of_ble_eq_true rfl, Nat.le_of_ble_eq_true rfl⟩ ⟨Nat.le_of_ble_eq_true rfl, Nat.le_of_ble_eq_true rfl⟩ (Nat.le_of_ble_eq_true rfl) ?_
        rintro _ S1 ⟨rfl, hS1⟩
        obtain rfl := hS1.symm
        refine g_goto (tgt := 64) X dX2_quarrel_60 rfl ?_
        exact g_iret X hr dX2_quarrel_64 (Nat.le_of_ble_eq_true rfl) (Nat.le_of_ble_eq_true rfl) (⟨by rw [if_neg c45, if_neg c53], rfl⟩)
    · refine g_iconst (v := (-1)) X dX2_quarrel_48 rfl ?_
      refine g_goto (tgt := 64) X dX2_quarrel_49 rfl ?_
      exact g_iret X hr dX2_quarrel_64 (Nat.le_of_ble_eq_true rfl) (Nat.le_of_ble_eq_true rfl) (⟨by rw [if_pos c45], rfl⟩)
  · have hi : i < 2 ^ n - 1 := by
      rcases Nat.lt_or_ge i (2 ^ n - 1) with q | q
      · exact q
      · exact absurd (by rw [show 2 ^ n - 1 - i = 0 by omega]; decide) c8
    refine g_aload_n X dX2_quarrel_11 rfl ?_
    refine g_iload_n X dX2_quarrel_12 rfl ?_
    refine g_callV (C := RX2) (T := TX2) (N := 35) X (k_X2_worldsOf ho hu) (lw_V q1763 q1765 qs99 q139 q1766) hd_X2_worldsOf dX2_quarrel_13 (rd3 ho) rfl rfl ⟨Nat.le_of_ble_eq_true rfl, Nat.le_of_ble_eq_true rfl⟩ ⟨Nat.le_of_ble_eq_true rfl, Nat.le_of_ble_eq_true rfl⟩ (Nat.le_of_ble_eq_true rfl) ?_
    rintro _ S1 ⟨rfl, hS1⟩
    obtain rfl := hS1.symm
    refine g_if_ne (tgt := 37) X dX2_quarrel_16 rfl (fun c16 => ?_) (fun c16 => ?_)
    · refine g_iinc (v := (-1)) X dX2_quarrel_37 rfl rfl (Nat.le_of_ble_eq_true rfl) ?_
      refine g_goto (tgt := 7) X dX2_quarrel_40 rfl ?_
      refine g_sub (le_1 rfl (le_1 rfl (le_1 (ei (qm_f (fun z => c16 z.1))) (le_1 (e_m1 (by omega)) le_n)))) (ih (i + 1) ?_ ?_)
      · try dsimp only
        omega
      · try dsimp only
        omega
    · refine g_iload_n X dX2_quarrel_19 rfl ?_
      refine g_iconst (v := (-1)) X dX2_quarrel_20 rfl ?_
      refine g_icmp_eq (tgt := 35) X dX2_quarrel_21 rfl (fun c21 => ?_) (fun c21 => ?_)
      · refine g_iload_n X dX2_quarrel_35 rfl ?_
        refine g_istore_n X dX2_quarrel_36 (Nat.le_of_ble_eq_true rfl) ?_
        refine g_iinc (v := (-1)) X dX2_quarrel_37 rfl rfl (Nat.le_of_ble_eq_true rfl) ?_
        refine g_goto (tgt := 7) X dX2_quarrel_40 rfl ?_
        refine g_sub (le_1 rfl (le_1 rfl (le_1 (ei (qm_t ⟨c16, Or.inl c21⟩)) (le_1 (e_m1 (by omega)) le_n)))) (ih (i + 1) ?_ ?_)
        · try dsimp only
          omega
        · try dsimp only
          omega
      · obtain ⟨v, hv1, hv2⟩ := (qm_in (n := n) (f := f) (N := 2 ^ n - 1) i).resolve_left c21
        refine g_iload_n X dX2_quarrel_24 rfl ?_
        refine g_callS X (k_X2_bits ho (w := 2 ^ n - 1 - i) rfl (by omega)) (lw_S q1822 q1823 q139 q1824) hd_X2_bits dX2_quarrel_25 rfl ⟨Nat.le_of_ble_eq_true rfl, Nat.le_of_ble_eq_true rfl⟩ ⟨Nat.le_of_ble_eq_true rfl, Nat.le_of_ble_eq_true rfl⟩ (Nat.le_of_ble_eq_true rfl) ?_
        rintro _ S1 ⟨rfl, hS1⟩
        obtain rfl := hS1.symm
        refine g_iload_n X dX2_quarrel_28 rfl ?_
        refine g_callS X (k_X2_bits ho hv2 (by omega)) (lw_S q1822 q1823 q139 q1824) hd_X2_bits dX2_quarrel_29 rfl ⟨Nat.le_of_ble_eq_true rfl, Nat.le_of_ble_eq_true rfl⟩ ⟨Nat.le_of_ble_eq_true rfl, Nat.le_of_ble_eq_true rfl⟩ (Nat.le_of_ble_eq_true rfl) ?_
        rintro _ S1 ⟨rfl, hS1⟩
        obtain rfl := hS1.symm
        refine g_icmp_gt (tgt := 37) X dX2_quarrel_32 rfl (fun c32 => ?_) (fun c32 => ?_)
        · refine g_iinc (v := (-1)) X dX2_quarrel_37 rfl rfl (Nat.le_of_ble_eq_true rfl) ?_
          refine g_goto (tgt := 7) X dX2_quarrel_40 rfl ?_
          refine g_sub (le_1 rfl (le_1 rfl (le_1 (ei (qm_f (fun z => z.2.elim c21 (fun y => absurd y (Int32.not_le.mpr c32))))) (le_1 (e_m1 (by omega)) le_n)))) (ih (i + 1) ?_ ?_)
          · try dsimp only
            omega
          · try dsimp only
            omega
        · refine g_iload_n X dX2_quarrel_35 rfl ?_
          refine g_istore_n X dX2_quarrel_36 (Nat.le_of_ble_eq_true rfl) ?_
          refine g_iinc (v := (-1)) X dX2_quarrel_37 rfl rfl (Nat.le_of_ble_eq_true rfl) ?_
          refine g_goto (tgt := 7) X dX2_quarrel_40 rfl ?_
          refine g_sub (le_1 rfl (le_1 rfl (le_1 (ei (qm_t ⟨c16, Or.inr (Int32.not_lt.mp c32)⟩)) (le_1 (e_m1 (by omega)) le_n)))) (ih (i + 1) ?_ ?_)
          · try dsimp only
            omega
          · try dsimp only
            omega
