theorem co_t {Y : Nat → Int64} {i : Nat} (h : Y i = 1) : some (Value.int (nI (coB Y i) + 1)) = some (.int (nI (coB Y (i + 1)))) := by
  rw [show coB Y (i + 1) = coB Y i + (if Y i = 1 then 1 else 0) from rfl, if_pos h, nI_1]
theorem co_f {Y : Nat → Int64} {i : Nat} (h : ¬ Y i = 1) : some (Value.int (nI (coB Y i) + 0)) = some (.int (nI (coB Y (i + 1)))) := by
  rw [show coB Y (i + 1) = coB Y i + (if Y i = 1 then 1 else 0) from rfl, if_neg h, Nat.add_zero, Int32.add_zero]
theorem co_le {Y : Nat → Int64} : ∀ {i : Nat}, coB Y i ≤ i
  | 0 => Nat.le_refl _
  | i + 1 => by
    show coB Y i + (if Y i = 1 then 1 else 0) ≤ i + 1
    have := co_le (Y := Y) (i := i)
    split <;> omega
theorem al_o0 {and : Bool} {k n : Nat} (h : ¬ and = true) (hn : n < 2 ^ 31) (c : nI n ≤ 0) : ¬ alB and k n = true := by
  have : n = 0 := Nat.eq_zero_of_not_pos (fun z => nI_nle z hn c)
  subst this
  unfold alB
  rw [if_neg h]
  simp
theorem al_o1 {and : Bool} {k n : Nat} (h : ¬ and = true) (hn : n < 2 ^ 31) (c : ¬ nI n ≤ 0) : alB and k n = true := by
  unfold alB
  rw [if_neg h]
  exact decide_eq_true (Nat.pos_of_ne_zero (fun z => c (by rw [z]; decide)))
theorem al_a0 {and : Bool} {k n : Nat} (h : and = true) (c : ¬ nI n = nI k) : ¬ alB and k n = true := by
  unfold alB
  rw [if_pos h]
  intro z
  exact c (by rw [of_decide_eq_true z])
theorem al_a1 {and : Bool} {k n : Nat} (h : and = true) (hn : n < 2 ^ 31) (hk : k < 2 ^ 31) (c : nI n = nI k) : alB and k n = true := by
  unfold alB
  rw [if_pos h]
  exact decide_eq_true ((nI_eq hn hk).mp c)
theorem op_lt {o : Int32} (h : isOp o) : ix o < 128 := by rcases h with rfl | rfl | rfl | rfl <;> decide
theorem op_ix {o : Int32} (h : isOp o) : nI (ix o) = o := by rcases h with rfl | rfl | rfl | rfl <;> decide
/-- the cache of small Integers -/
def icA (S : gk_S) (ic : Nat → Nat) : Prop := ∀ k, k < 128 → S.2.2.2 (ic k) = some (.inr (18, [.int (nI k)]))
theorem ch_s {o : Nat → Int32} {Y : Nat → Int64} {i : Nat} {N : Int64} : chB o Y (i + 1) N = clB (opB (o i) (chB o Y i N) (Y i)) := rfl
theorem ch_v {o : Nat → Int32} {Y : Nat → Int64} {i : Nat} {N w : Int64} (h : opB (o i) (chB o Y i N) (Y i) = w) : some (Value.long (if (if w < 1000000 then w else 1000000) < -1000000 then -1000000 else (if w < 1000000 then w else 1000000))) = some (.long (chB o Y (i + 1) N)) := by
  rw [ch_s, h]
  unfold clB
  rfl
theorem op43 {o : Int32} {x y : Int64} (h : o = 43) : opB o x y = x + y := if_pos h
theorem op45 {o : Int32} {x y : Int64} (h0 : ¬ o = 43) (h : o = 45) : opB o x y = x - y := (if_neg h0).trans (if_pos h)
theorem op42 {o : Int32} {x y : Int64} (h0 : ¬ o = 43) (h1 : ¬ o = 45) (h : o = 42) : opB o x y = x * y := (if_neg h0).trans ((if_neg h1).trans (if_pos h))
theorem op47a {o : Int32} {x y : Int64} (h0 : ¬ o = 43) (h1 : ¬ o = 45) (h2 : ¬ o = 42) (h : y = 0) : opB o x y = 0 := (if_neg h0).trans ((if_neg h1).trans ((if_neg h2).trans (if_pos h)))
theorem op47b {o : Int32} {x y : Int64} (h0 : ¬ o = 43) (h1 : ¬ o = 45) (h2 : ¬ o = 42) (h : ¬ y = 0) : opB o x y = x / y := (if_neg h0).trans ((if_neg h1).trans ((if_neg h2).trans (if_neg h)))
set_option maxHeartbeats 600000 in
theorem k_X15_is {l : Launch} {E : gk_E} (ho : E.2.2.2.2 = true) {S : gk_S}  {fr lo o1 a1 o2 k b n : Nat} {mo : Int32} {and : Bool} {x : Nat → Option Nat} {Y : Nat → Int64} (h : gk_Rd E S o1 (.inr (15, [.int (bP (and = true)), .ref o2]))) (hl : LsA E S o2 mo b n k x) (hY : ∀ i, i < k → ∃ q1, x i = some q1 ∧ (gk_Im l E gk_isT fr lo q1 [.ref a1] S (fun r S' => r = some (.int (bP (Y i = 1))) ∧ S' = S))) : gk_T l E yX15_is cX15_is 4 ((some .boolean)) (fr + 4) (lo + 120) 0 0 [.ref o1, .ref a1] S (fun r S' => r = some (.int (bP (i1 (alB and k (coB Y k) = true) = 1))) ∧ S' = S) := by
  have hk31 : k < 2 ^ 31 := by have := hl.2.2.1; have := hl.2.2.2; omega
  refine gk_T.of [some (.ref o1), some (.ref a1), none, none] (by decide) (Nat.le_of_ble_eq_true rfl) (le_1 rfl (le_1 rfl (le_p (le_p le_n)))) ?_
  intro p_ e_ R_ s_ m_ args_ below_ meth_ c_ hR X hr hin
  subst hR
  refine g_iconst (v := 0) X dX15_is_0 rfl ?_
  refine g_istore_n X dX15_is_1 (Nat.le_of_ble_eq_true rfl) ?_
  refine g_iconst (v := 0) X dX15_is_2 rfl ?_
  refine g_istore_n X dX15_is_3 (Nat.le_of_ble_eq_true rfl) ?_
  refine g_loop (σ := Nat) (fun (i : Nat) => S) (fun (i : Nat) => ([some (.ref o1), some (.ref a1), some (.int (nI (coB Y i))), some (.int (nI i))] : List (Option Value))) (fun (i : Nat) => i ≤ k) (fun (i : Nat) => k - i) (0) ?_ (rfl) (le_1 rfl (le_1 rfl (le_1 rfl (le_1 rfl le_n)))) ?_
  · exact Nat.zero_le _
  intro i hI ih
  try dsimp only at hI ih ⊢
  refine g_iload_n X dX15_is_4 rfl ?_
  refine g_aload_n X dX15_is_5 rfl ?_
  refine g_get (C := RX15) (T := TX15) (N := 2) X 1 in_X15 dX15_is_6 q839 h rfl (Nat.le_of_ble_eq_true rfl) (fun _ h9 => h9) rfl ?_
  refine g_callV (C := RJ3) (T := TJ3) (N := 3) X (k_J3_size ho hl) (lw_V q858 q816 q817 q144 q818) hd_J3_size dX15_is_9 (rd_dy hl.1) rfl rfl ⟨(by dsimp only; omega), (by dsimp only; omega)⟩ ⟨Nat.le_of_ble_eq_true rfl, Nat.le_of_ble_eq_true rfl⟩ (Nat.le_of_ble_eq_true rfl) ?_
  rintro _ S1 ⟨rfl, hS1⟩
  obtain rfl := hS1.symm
  refine g_icmp_ge (tgt := 49) X dX15_is_12 rfl (fun c12 => ?_) (fun c12 => ?_)
  · have hik : i = k := Nat.le_antisymm hI ((nI_leI hk31 (by omega)).mp c12)
    subst hik
    refine g_aload_n X dX15_is_49 rfl ?_
    refine g_get (C := RX15) (T := TX15) (N := 2) X 0 in_X15 dX15_is_50 q838 h rfl (Nat.le_of_ble_eq_true rfl) (fun _ h9 => h9) rfl ?_
    refine g_ifp_eq (tgt := 75) X dX15_is_53 rfl (fun c53 => ?_) (fun c53 => ?_)
    · refine g_iload_n X dX15_is_75 rfl ?_
      refine g_if_le (tgt := 83) X dX15_is_76 rfl (fun c76 => ?_) (fun c76 => ?_)
      · refine g_iconst (v := 0) X dX15_is_83 rfl ?_
        refine g_zret X hr dX15_is_84 ?_ (Nat.le_of_ble_eq_true rfl) (Nat.le_of_ble_eq_true rfl) ?_
        · first | rfl | exact nb_bP
        · exact ⟨lb_0 (fun z => al_o0 c53 (by have := co_le (Y := Y) (i := i); omega) c76 (i1_1.mp z)), rfl⟩
      · refine g_iconst (v := 1) X dX15_is_79 rfl ?_
        refine g_goto (tgt := 84) X dX15_is_80 rfl ?_
        refine g_zret X hr dX15_is_84 ?_ (Nat.le_of_ble_eq_true rfl) (Nat.le_of_ble_eq_true rfl) ?_
        · first | rfl | exact nb_bP
        · exact ⟨lb_1 (i1_1.mpr (al_o1 c53 (by have := co_le (Y := Y) (i := i); omega) c76)), rfl⟩
    · refine g_iload_n X dX15_is_56 rfl ?_
      refine g_aload_n X dX15_is_57 rfl ?_
      refine g_get (C := RX15) (T := TX15) (N := 2) X 1 in_X15 dX15_is_58 q839 h rfl (Nat.le_of_ble_eq_true rfl) (fun _ h9 => h9) rfl ?_
      refine g_callV (C := RJ3) (T := TJ3) (N := 3) X (k_J3_size ho hl) (lw_V q858 q816 q817 q144 q818) hd_J3_size dX15_is_61 (rd_dy hl.1) rfl rfl ⟨(by dsimp only; omega), (by dsimp only; omega)⟩ ⟨Nat.le_of_ble_eq_true rfl, Nat.le_of_ble_eq_true rfl⟩ (Nat.le_of_ble_eq_true rfl) ?_
      rintro _ S1 ⟨rfl, hS1⟩
      obtain rfl := hS1.symm
      refine g_icmp_ne (tgt := 71) X dX15_is_64 rfl (fun c64 => ?_) (fun c64 => ?_)
      · refine g_iconst (v := 0) X dX15_is_71 rfl ?_
        refine g_goto (tgt := 84) X dX15_is_72 rfl ?_
        refine g_zret X hr dX15_is_84 ?_ (Nat.le_of_ble_eq_true rfl) (Nat.le_of_ble_eq_true rfl) ?_
        · first | rfl | exact nb_bP
        · exact ⟨lb_0 (fun z => al_a0 c53 c64 (i1_1.mp z)), rfl⟩
      · refine g_iconst (v := 1) X dX15_is_67 rfl ?_
        refine g_goto (tgt := 84) X dX15_is_68 rfl ?_
        refine g_zret X hr dX15_is_84 ?_ (Nat.le_of_ble_eq_true rfl) (Nat.le_of_ble_eq_true rfl) ?_
        · first | rfl | exact nb_bP
        · exact ⟨lb_1 (i1_1.mpr (al_a1 c53 (by have := co_le (Y := Y) (i := i); omega) hk31 c64)), rfl⟩
  · have hik : i < k := (nI_ltI (by omega) hk31).mp (Int32.not_le.mp c12)
    obtain ⟨q1, hx, hI2⟩ := hY i hik
    refine g_iload_n X dX15_is_15 rfl ?_
    refine g_aload_n X dX15_is_16 rfl ?_
    refine g_get (C := RX15) (T := TX15) (N := 2) X 1 in_X15 dX15_is_17 q839 h rfl (Nat.le_of_ble_eq_true rfl) (fun _ h9 => h9) rfl ?_
    refine g_iload_n X dX15_is_20 rfl ?_
    refine g_callV (C := RJ3) (T := TJ3) (N := 3) X (k_J3_get ho hl rfl hik hx) (lw_V q859 q820 q821 q144 q822) hd_J3_get dX15_is_21 (rd_dy hl.1) rfl rfl ⟨(by dsimp only; omega), (by dsimp only; omega)⟩ ⟨Nat.le_of_ble_eq_true rfl, Nat.le_of_ble_eq_true rfl⟩ (Nat.le_of_ble_eq_true rfl) ?_
    rintro _ S1 ⟨rfl, hS1⟩
    obtain rfl := hS1.symm
    refine g_castI X hI2 dX15_is_24 q860 ?_
    refine g_aload_n X dX15_is_27 rfl ?_
    refine g_callF X hI2 q862 hd_isT dX15_is_28 rfl ⟨(by dsimp only; omega), (by dsimp only; omega)⟩ ⟨Nat.le_of_ble_eq_true rfl, Nat.le_of_ble_eq_true rfl⟩ (Nat.le_of_ble_eq_true rfl) ?_
    rintro _ S1 ⟨rfl, hS1⟩
    obtain rfl := hS1.symm
    refine g_ifp_eq (tgt := 40) X dX15_is_33 rfl (fun c33 => ?_) (fun c33 => ?_)
    · refine g_iconst (v := 0) X dX15_is_40 rfl ?_
      refine g_iadd X dX15_is_41 ?_
      refine g_istore_n X dX15_is_42 (Nat.le_of_ble_eq_true rfl) ?_
      refine g_iinc (v := 1) X dX15_is_43 rfl rfl (Nat.le_of_ble_eq_true rfl) ?_
      refine g_goto (tgt := 4) X dX15_is_46 rfl ?_
      refine g_sub (le_1 rfl (le_1 rfl (le_1 (co_f c33) (le_1 e_1 le_n)))) (ih (i + 1) ?_ ?_)
      · try dsimp only
        omega
      · try dsimp only
        omega
    · refine g_iconst (v := 1) X dX15_is_36 rfl ?_
      refine g_goto (tgt := 41) X dX15_is_37 rfl ?_
      refine g_iadd X dX15_is_41 ?_
      refine g_istore_n X dX15_is_42 (Nat.le_of_ble_eq_true rfl) ?_
      refine g_iinc (v := 1) X dX15_is_43 rfl rfl (Nat.le_of_ble_eq_true rfl) ?_
      refine g_goto (tgt := 4) X dX15_is_46 rfl ?_
      refine g_sub (le_1 rfl (le_1 rfl (le_1 (co_t c33) (le_1 e_1 le_n)))) (ih (i + 1) ?_ ?_)
      · try dsimp only
        omega
      · try dsimp only
        omega
set_option maxHeartbeats 4000000 in
theorem k_X7_of {l : Launch} {E : gk_E} (ho : E.2.2.2.2 = true) {S : gk_S}  {fr lo o1 a1 b o2 o3 k b2 n2 b3 n3 : Nat} {mo2 mo3 : Int32} {N : Int64} {o : Nat → Int32} {x w : Nat → Option Nat} {Y : Nat → Int64} {ic : Nat → Nat} (h : gk_Rd E S o1 (.inr (7, [.ref b, .ref o2, .ref o3]))) (hN : (gk_Im l E gk_ofT fr lo b [.ref a1] S (fun r S' => r = some (.long (N)) ∧ S' = S))) (hl : LsA E S o2 mo2 b2 n2 k x) (hs : LsA E S o3 mo3 b3 n3 k w) (hY : ∀ i, i < k → (∃ q1, x i = some q1 ∧ (gk_Im l E gk_ofT fr lo q1 [.ref a1] S (fun r S' => r = some (.long (Y i)) ∧ S' = S))) ∧ isOp (o i) ∧ w i = some (ic (ix (o i)))) (hic : icA S ic) : gk_T l E yX7_of cX7_of 10 ((some .long)) (fr + 4) (lo + 120) 0 0 [.ref o1, .ref a1] S (fun r S' => r = some (.long (chB o Y k N)) ∧ S' = S) := by
  have hk31 : k < 2 ^ 31 := by have := hl.2.2.1; have := hl.2.2.2; omega
  refine gk_T.of [some (.ref o1), some (.ref a1), none, none, none, none, none, none, none, none] (by decide) (Nat.le_of_ble_eq_true rfl) (le_1 rfl (le_1 rfl (le_p (le_p (le_p (le_p (le_p (le_p (le_p (le_p le_n)))))))))) ?_
  intro p_ e_ R_ s_ m_ args_ below_ meth_ c_ hR X hr hin
  subst hR
  refine g_aload_n X dX7_of_0 rfl ?_
  refine g_get (C := RX7) (T := TX7) (N := 3) X 0 in_X7 dX7_of_1 q694 h rfl (Nat.le_of_ble_eq_true rfl) (fun _ h9 => h9) rfl ?_
  refine g_aload_n X dX7_of_4 rfl ?_
  refine g_callF X hN q880 hd_ofT dX7_of_5 rfl ⟨(by dsimp only; omega), (by dsimp only; omega)⟩ ⟨Nat.le_of_ble_eq_true rfl, Nat.le_of_ble_eq_true rfl⟩ (Nat.le_of_ble_eq_true rfl) ?_
  rintro _ S1 ⟨rfl, hS1⟩
  obtain rfl := hS1.symm
  refine g_lstore_n X dX7_of_10 (Nat.le_of_ble_eq_true rfl) ?_
  refine g_iconst (v := 0) X dX7_of_11 rfl ?_
  refine g_istore X dX7_of_12 (Nat.le_of_ble_eq_true rfl) ?_
  refine g_loop (σ := Nat) (fun (i : Nat) => S) (fun (i : Nat) => ([some (.ref o1), some (.ref a1), some (.long (chB o Y i N)), none, some (.int (nI i)), none, none, none, none, none] : List (Option Value))) (fun (i : Nat) => i ≤ k) (fun (i : Nat) => k - i) (0) ?_ (rfl) (le_1 rfl (le_1 rfl (le_1 rfl (le_0 (le_1 rfl (le_0 (le_0 (le_0 (le_0 (le_0 le_n)))))))))) ?_
  · exact Nat.zero_le _
  intro i hI ih
  try dsimp only at hI ih ⊢
  refine g_iload X dX7_of_14 rfl ?_
  refine g_aload_n X dX7_of_16 rfl ?_
  refine g_get (C := RX7) (T := TX7) (N := 3) X 1 in_X7 dX7_of_17 q695 h rfl (Nat.le_of_ble_eq_true rfl) (fun _ h9 => h9) rfl ?_
  refine g_callV (C := RJ3) (T := TJ3) (N := 3) X (k_J3_size ho hl) (lw_V q943 q816 q817 q144 q818) hd_J3_size dX7_of_20 (rd_dy hl.1) rfl rfl ⟨(by dsimp only; omega), (by dsimp only; omega)⟩ ⟨Nat.le_of_ble_eq_true rfl, Nat.le_of_ble_eq_true rfl⟩ (Nat.le_of_ble_eq_true rfl) ?_
  rintro _ S1 ⟨rfl, hS1⟩
  obtain rfl := hS1.symm
  refine g_icmp_ge (tgt := 143) X dX7_of_23 rfl (fun c23 => ?_) (fun c23 => ?_)
  · have hik : i = k := Nat.le_antisymm hI ((nI_leI hk31 (by omega)).mp c23)
    subst hik
    refine g_lload_n X dX7_of_143 rfl ?_
    exact g_lret X hr dX7_of_144 (Nat.le_of_ble_eq_true rfl) (Nat.le_of_ble_eq_true rfl) (⟨rfl, rfl⟩)
  · have hik : i < k := (nI_ltI (by omega) hk31).mp (Int32.not_le.mp c23)
    obtain ⟨⟨q1, hx, hI2⟩, hO, hw⟩ := hY i hik
    refine g_aload_n X dX7_of_26 rfl ?_
    refine g_get (C := RX7) (T := TX7) (N := 3) X 1 in_X7 dX7_of_27 q695 h rfl (Nat.le_of_ble_eq_true rfl) (fun _ h9 => h9) rfl ?_
    refine g_iload X dX7_of_30 rfl ?_
    refine g_callV (C := RJ3) (T := TJ3) (N := 3) X (k_J3_get ho hl rfl hik hx) (lw_V q944 q820 q821 q144 q822) hd_J3_get dX7_of_32 (rd_dy hl.1) rfl rfl ⟨(by dsimp only; omega), (by dsimp only; omega)⟩ ⟨Nat.le_of_ble_eq_true rfl, Nat.le_of_ble_eq_true rfl⟩ (Nat.le_of_ble_eq_true rfl) ?_
    rintro _ S1 ⟨rfl, hS1⟩
    obtain rfl := hS1.symm
    refine g_castI X hI2 dX7_of_35 q945 ?_
    refine g_aload_n X dX7_of_38 rfl ?_
    refine g_callF X hI2 q880 hd_ofT dX7_of_39 rfl ⟨(by dsimp only; omega), (by dsimp only; omega)⟩ ⟨Nat.le_of_ble_eq_true rfl, Nat.le_of_ble_eq_true rfl⟩ (Nat.le_of_ble_eq_true rfl) ?_
    rintro _ S1 ⟨rfl, hS1⟩
    obtain rfl := hS1.symm
    refine g_lstore X dX7_of_44 (Nat.le_of_ble_eq_true rfl) ?_
    refine g_aload_n X dX7_of_46 rfl ?_
    refine g_get (C := RX7) (T := TX7) (N := 3) X 2 in_X7 dX7_of_47 q696 h rfl (Nat.le_of_ble_eq_true rfl) (fun _ h9 => h9) rfl ?_
    refine g_iload X dX7_of_50 rfl ?_
    refine g_callV (C := RJ3) (T := TJ3) (N := 3) X (k_J3_get ho hs rfl hik hw) (lw_V q944 q820 q821 q144 q822) hd_J3_get dX7_of_52 (rd_dy hs.1) rfl rfl ⟨(by dsimp only; omega), (by dsimp only; omega)⟩ ⟨Nat.le_of_ble_eq_true rfl, Nat.le_of_ble_eq_true rfl⟩ (Nat.le_of_ble_eq_true rfl) ?_
    rintro _ S1 ⟨rfl, hS1⟩
    obtain rfl := hS1.symm
    refine g_castS (C := RJ13) (T := TJ13) (N := 1) X dX7_of_55 q946 (rd_dy (hic _ (op_lt hO))) rfl ?_
    refine g_callV (C := RJ13) (T := TJ13) (N := 1) X (k_J13_intValue ho (rd_dy (hic _ (op_lt hO)))) (lw_V q947 q948 q949 q163 q950) hd_J13_intValue dX7_of_58 (rd_dy (hic _ (op_lt hO))) rfl rfl ⟨(by dsimp only; omega), (by dsimp only; omega)⟩ ⟨Nat.le_of_ble_eq_true rfl, Nat.le_of_ble_eq_true rfl⟩ (Nat.le_of_ble_eq_true rfl) ?_
    rintro _ S1 ⟨rfl, hS1⟩
    obtain rfl := hS1.symm
    refine g_top (y := o i) (op_ix hO) ?_
    refine g_istore X dX7_of_61 (Nat.le_of_ble_eq_true rfl) ?_
    refine g_iload X dX7_of_63 rfl ?_
    refine g_bipush (v := 43) X dX7_of_65 rfl ?_
    refine g_icmp_ne (tgt := 77) X dX7_of_67 rfl (fun c67 => ?_) (fun c67 => ?_)
    · refine g_iload X dX7_of_77 rfl ?_
      refine g_bipush (v := 45) X dX7_of_79 rfl ?_
      refine g_icmp_ne (tgt := 91) X dX7_of_81 rfl (fun c81 => ?_) (fun c81 => ?_)
      · refine g_iload X dX7_of_91 rfl ?_
        refine g_bipush (v := 42) X dX7_of_93 rfl ?_
        refine g_icmp_ne (tgt := 105) X dX7_of_95 rfl (fun c95 => ?_) (fun c95 => ?_)
        · refine g_lload X dX7_of_105 rfl ?_
          refine g_lconst (v := 0) X dX7_of_107 rfl ?_
          refine g_lcmp X dX7_of_108 ?_
          refine g_if_ne (tgt := 116) X dX7_of_109 rfl (fun c109 => ?_) (fun c109 => ?_)
          · refine g_lload_n X dX7_of_116 rfl ?_
            refine g_lload X dX7_of_117 rfl ?_
            refine g_ldiv X dX7_of_119 (fun z => c109 ((lg_cmp_eq _ _).mpr z)) ?_
            refine g_lstore X dX7_of_120 (Nat.le_of_ble_eq_true rfl) ?_
            refine g_ldc2 X dX7_of_122 q951 ?_
            refine g_ldc2 X dX7_of_125 q952 ?_
            refine g_lload X dX7_of_128 rfl ?_
            refine g_mminl X dX7_of_130 q953 q941 q149 q942 ((by dsimp only; omega)) ((Nat.le_trans (m := 100) (Nat.le_of_ble_eq_true rfl) (by dsimp only; omega))) ⟨Nat.le_of_ble_eq_true rfl, Nat.le_of_ble_eq_true rfl⟩ ?_
            refine g_mmaxl X dX7_of_133 q954 q955 q149 q956 ((by dsimp only; omega)) ((Nat.le_trans (m := 100) (Nat.le_of_ble_eq_true rfl) (by dsimp only; omega))) ⟨Nat.le_of_ble_eq_true rfl, Nat.le_of_ble_eq_true rfl⟩ ?_
            refine g_lstore_n X dX7_of_136 (Nat.le_of_ble_eq_true rfl) ?_
            refine g_iinc (v := 1) X dX7_of_137 rfl rfl (Nat.le_of_ble_eq_true rfl) ?_
            refine g_goto (tgt := 14) X dX7_of_140 rfl ?_
            refine g_sub (le_1 rfl (le_1 rfl (le_1 (ch_v (op47b c67 c81 c95 (fun z => c109 ((lg_cmp_eq _ _).mpr z)))) (le_0 (le_1 e_1 (le_0 (le_0 (le_0 (le_0 (le_0 le_n)))))))))) (ih (i + 1) ?_ ?_)
            · try dsimp only
              omega
            · try dsimp only
              omega
          · refine g_lconst (v := 0) X dX7_of_112 rfl ?_
            refine g_goto (tgt := 120) X dX7_of_113 rfl ?_
            refine g_lstore X dX7_of_120 (Nat.le_of_ble_eq_true rfl) ?_
            refine g_ldc2 X dX7_of_122 q951 ?_
            refine g_ldc2 X dX7_of_125 q952 ?_
            refine g_lload X dX7_of_128 rfl ?_
            refine g_mminl X dX7_of_130 q953 q941 q149 q942 ((by dsimp only; omega)) ((Nat.le_trans (m := 100) (Nat.le_of_ble_eq_true rfl) (by dsimp only; omega))) ⟨Nat.le_of_ble_eq_true rfl, Nat.le_of_ble_eq_true rfl⟩ ?_
            refine g_mmaxl X dX7_of_133 q954 q955 q149 q956 ((by dsimp only; omega)) ((Nat.le_trans (m := 100) (Nat.le_of_ble_eq_true rfl) (by dsimp only; omega))) ⟨Nat.le_of_ble_eq_true rfl, Nat.le_of_ble_eq_true rfl⟩ ?_
            refine g_lstore_n X dX7_of_136 (Nat.le_of_ble_eq_true rfl) ?_
            refine g_iinc (v := 1) X dX7_of_137 rfl rfl (Nat.le_of_ble_eq_true rfl) ?_
            refine g_goto (tgt := 14) X dX7_of_140 rfl ?_
            refine g_sub (le_1 rfl (le_1 rfl (le_1 (ch_v (op47a c67 c81 c95 ((lg_cmp_eq _ _).mp c109))) (le_0 (le_1 e_1 (le_0 (le_0 (le_0 (le_0 (le_0 le_n)))))))))) (ih (i + 1) ?_ ?_)
            · try dsimp only
              omega
            · try dsimp only
              omega
        · refine g_lload_n X dX7_of_98 rfl ?_
          refine g_lload X dX7_of_99 rfl ?_
          refine g_lmul X dX7_of_101 ?_
          refine g_goto (tgt := 120) X dX7_of_102 rfl ?_
          refine g_lstore X dX7_of_120 (Nat.le_of_ble_eq_true rfl) ?_
          refine g_ldc2 X dX7_of_122 q951 ?_
          refine g_ldc2 X dX7_of_125 q952 ?_
          refine g_lload X dX7_of_128 rfl ?_
          refine g_mminl X dX7_of_130 q953 q941 q149 q942 ((by dsimp only; omega)) ((Nat.le_trans (m := 100) (Nat.le_of_ble_eq_true rfl) (by dsimp only; omega))) ⟨Nat.le_of_ble_eq_true rfl, Nat.le_of_ble_eq_true rfl⟩ ?_
          refine g_mmaxl X dX7_of_133 q954 q955 q149 q956 ((by dsimp only; omega)) ((Nat.le_trans (m := 100) (Nat.le_of_ble_eq_true rfl) (by dsimp only; omega))) ⟨Nat.le_of_ble_eq_true rfl, Nat.le_of_ble_eq_true rfl⟩ ?_
          refine g_lstore_n X dX7_of_136 (Nat.le_of_ble_eq_true rfl) ?_
          refine g_iinc (v := 1) X dX7_of_137 rfl rfl (Nat.le_of_ble_eq_true rfl) ?_
          refine g_goto (tgt := 14) X dX7_of_140 rfl ?_
          refine g_sub (le_1 rfl (le_1 rfl (le_1 (ch_v (op42 c67 c81 c95)) (le_0 (le_1 e_1 (le_0 (le_0 (le_0 (le_0 (le_0 le_n)))))))))) (ih (i + 1) ?_ ?_)
          · try dsimp only
            omega
          · try dsimp only
            omega
      · refine g_lload_n X dX7_of_84 rfl ?_
        refine g_lload X dX7_of_85 rfl ?_
        refine g_lsub X dX7_of_87 ?_
        refine g_goto (tgt := 120) X dX7_of_88 rfl ?_
        refine g_lstore X dX7_of_120 (Nat.le_of_ble_eq_true rfl) ?_
        refine g_ldc2 X dX7_of_122 q951 ?_
        refine g_ldc2 X dX7_of_125 q952 ?_
        refine g_lload X dX7_of_128 rfl ?_
        refine g_mminl X dX7_of_130 q953 q941 q149 q942 ((by dsimp only; omega)) ((Nat.le_trans (m := 100) (Nat.le_of_ble_eq_true rfl) (by dsimp only; omega))) ⟨Nat.le_of_ble_eq_true rfl, Nat.le_of_ble_eq_true rfl⟩ ?_
        refine g_mmaxl X dX7_of_133 q954 q955 q149 q956 ((by dsimp only; omega)) ((Nat.le_trans (m := 100) (Nat.le_of_ble_eq_true rfl) (by dsimp only; omega))) ⟨Nat.le_of_ble_eq_true rfl, Nat.le_of_ble_eq_true rfl⟩ ?_
        refine g_lstore_n X dX7_of_136 (Nat.le_of_ble_eq_true rfl) ?_
        refine g_iinc (v := 1) X dX7_of_137 rfl rfl (Nat.le_of_ble_eq_true rfl) ?_
        refine g_goto (tgt := 14) X dX7_of_140 rfl ?_
        refine g_sub (le_1 rfl (le_1 rfl (le_1 (ch_v (op45 c67 c81)) (le_0 (le_1 e_1 (le_0 (le_0 (le_0 (le_0 (le_0 le_n)))))))))) (ih (i + 1) ?_ ?_)
        · try dsimp only
          omega
        · try dsimp only
          omega
    · refine g_lload_n X dX7_of_70 rfl ?_
      refine g_lload X dX7_of_71 rfl ?_
      refine g_ladd X dX7_of_73 ?_
      refine g_goto (tgt := 120) X dX7_of_74 rfl ?_
      refine g_lstore X dX7_of_120 (Nat.le_of_ble_eq_true rfl) ?_
      refine g_ldc2 X dX7_of_122 q951 ?_
      refine g_ldc2 X dX7_of_125 q952 ?_
      refine g_lload X dX7_of_128 rfl ?_
      refine g_mminl X dX7_of_130 q953 q941 q149 q942 ((by dsimp only; omega)) ((Nat.le_trans (m := 100) (Nat.le_of_ble_eq_true rfl) (by dsimp only; omega))) ⟨Nat.le_of_ble_eq_true rfl, Nat.le_of_ble_eq_true rfl⟩ ?_
      refine g_mmaxl X dX7_of_133 q954 q955 q149 q956 ((by dsimp only; omega)) ((Nat.le_trans (m := 100) (Nat.le_of_ble_eq_true rfl) (by dsimp only; omega))) ⟨Nat.le_of_ble_eq_true rfl, Nat.le_of_ble_eq_true rfl⟩ ?_
      refine g_lstore_n X dX7_of_136 (Nat.le_of_ble_eq_true rfl) ?_
      refine g_iinc (v := 1) X dX7_of_137 rfl rfl (Nat.le_of_ble_eq_true rfl) ?_
      refine g_goto (tgt := 14) X dX7_of_140 rfl ?_
      refine g_sub (le_1 rfl (le_1 rfl (le_1 (ch_v (op43 c67)) (le_0 (le_1 e_1 (le_0 (le_0 (le_0 (le_0 (le_0 le_n)))))))))) (ih (i + 1) ?_ ?_)
      · try dsimp only
        omega
      · try dsimp only
        omega
