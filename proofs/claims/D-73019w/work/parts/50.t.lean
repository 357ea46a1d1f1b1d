def fillF (f : Nat → Int32) (v : Int32) (i : Nat) : Nat → Int32 := itr (fun k g => upd g k v) i f
theorem fillF_s {f : Nat → Int32} {v : Int32} {i : Nat} : fillF f v (i + 1) = upd (fillF f v i) i v := rfl
theorem fillF_at {f : Nat → Int32} {v : Int32} {k : Nat} : ∀ {i : Nat}, k < i → fillF f v i k = v
  | 0, h => by omega
  | i + 1, h => by
    rw [fillF_s]
    by_cases hk : k = i
    · rw [hk, upd_s]
    · rw [upd_n hk]
      exact fillF_at (by omega)
set_option maxHeartbeats 600000 in
theorem k_J0_fill_2 {l : Launch} {E : gk_E} (ho : E.2.2.2.2 = true) {S : gk_S} {v : Int32} {c N : Nat} (hc : gk_kd c = some (0, N)) (hN : N < 1000) : gk_T l E yJ0_fill_2 cJ0_fill_2 4 (none) 0 0 0 0 [.ref (E.2.2.1 c), .int v] S (fun r S' => r = none ∧ S' = gk_si S c (fillF (S.1 c) v N)) := by
  refine gk_T.of [some (.ref (E.2.2.1 c)), some (.int v), none, none] (by decide) (Nat.le_of_ble_eq_true rfl) (le_1 rfl (le_1 rfl (le_p (le_p le_n)))) ?_
  intro p_ e_ R_ s_ m_ args_ below_ meth_ c_ hR X hr hin
  subst hR
  refine g_iconst (v := 0) X dJ0_fill_2_0 rfl ?_
  refine g_istore_n X dJ0_fill_2_1 (Nat.le_of_ble_eq_true rfl) ?_
  refine g_aload_n X dJ0_fill_2_2 rfl ?_
  refine g_alen (t := 0) X dJ0_fill_2_3 (rdi ho (c) (hc)) rfl ?_
  refine g_istore_n X dJ0_fill_2_4 (Nat.le_of_ble_eq_true rfl) ?_
  refine g_loop (σ := Nat) (fun (i : Nat) => gk_si S c (fillF (S.1 c) v i)) (fun (i : Nat) => ([some (.ref (E.2.2.1 c)), some (.int v), some (.int (nI i)), some (.int (nI N))] : List (Option Value))) (fun (i : Nat) => i ≤ N) (fun (i : Nat) => N - i) (0) ?_ (by exact si_id.symm) (le_1 rfl (le_1 rfl (le_1 rfl (le_1 rfl le_n)))) ?_
  · omega
  intro i hI ih
  try dsimp only at hI ih ⊢
  refine g_iload_n X dJ0_fill_2_5 rfl ?_
  refine g_iload_n X dJ0_fill_2_6 rfl ?_
  refine g_icmp_ge (tgt := 20) X dJ0_fill_2_7 rfl (fun c7 => ?_) (fun c7 => ?_)
  · exact g_vret X hr dJ0_fill_2_20 (Nat.le_of_ble_eq_true rfl) (Nat.le_of_ble_eq_true rfl) (⟨rfl, by rw [out_of (by omega) hI c7]⟩)
  · have hi : i < N := in_of (by omega) hI c7
    refine g_aload_n X dJ0_fill_2_10 rfl ?_
    refine g_iload_n X dJ0_fill_2_11 rfl ?_
    refine g_iload_n X dJ0_fill_2_12 rfl ?_
    refine g_iast X ho (c) (j := i) dJ0_fill_2_13 rfl (hc) rfl hi (by omega) ?_
    refine g_eq (S2 := gk_si S c (fillF (S.1 c) v (i + 1))) (by rw [si_si, si_s, fillF_s]) ?_
    refine g_iinc (v := 1) X dJ0_fill_2_14 rfl rfl (Nat.le_of_ble_eq_true rfl) ?_
    refine g_goto (tgt := 5) X dJ0_fill_2_17 rfl ?_
    refine g_sub (le_1 rfl (le_1 rfl (le_1 e_1 (le_1 rfl le_n)))) (ih (i + 1) ?_ ?_)
    · try dsimp only
      omega
    · try dsimp only
      omega
/-- the book's sum over the entries of one, or of all -/
def ldA (w : Int32) (b : Nat → Nat → Int32) (i : Nat) : Int32 := itr (fun k s => s + (if w = -1 ∨ b k 1 = w then b k 4 else 0)) i 0
theorem ldA_t {w : Int32} {b : Nat → Nat → Int32} {i : Nat} (h : w = -1 ∨ b i 1 = w) : ldA w b i + b i 4 = ldA w b (i + 1) := (congrArg (fun z => ldA w b i + z) (if_pos h)).symm
theorem ldA_f {w : Int32} {b : Nat → Nat → Int32} {i : Nat} (h : ¬ (w = -1 ∨ b i 1 = w)) : ldA w b i + 0 = ldA w b (i + 1) := (congrArg (fun z => ldA w b i + z) (if_neg h)).symm
theorem ldA_c {w : Int32} {b b' : Nat → Nat → Int32} {n : Nat} (h : ∀ i, i < n → b i 1 = b' i 1 ∧ b i 4 = b' i 4) : ldA w b n = ldA w b' n := by
  induction n with
  | zero => rfl
  | succ n ih =>
    show ldA w b n + (if w = -1 ∨ b n 1 = w then b n 4 else 0) = ldA w b' n + (if w = -1 ∨ b' n 1 = w then b' n 4 else 0)
    rw [ih (fun i hi => h i (by omega)), (h n (by omega)).1, (h n (by omega)).2]
set_option maxHeartbeats 600000 in
theorem k_X0_ledger {l : Launch} {E : gk_E} (ho : E.2.2.2.2 = true) {S : gk_S} {w : Int32} {nb : Nat} (hb : S.1 11 21 = nI nb) (h1 : nb ≤ 20) : gk_T l E yX0_ledger cX0_ledger 4 ((some .int)) 2 43 0 0 [.ref (E.2.2.1 0), .int w] S (fun r S' => r = some (.int (if w ≠ -1 ∧ ¬ (0 ≤ w ∧ w ≤ S.1 10 0 - 1) then -2 else ldA w (fun i k => S.1 11 (22 + 5 * i + k)) nb)) ∧ S' = S) := by
  refine gk_T.of [some (.ref (E.2.2.1 0)), some (.int w), none, none] (by decide) (Nat.le_of_ble_eq_true rfl) (le_1 rfl (le_1 rfl (le_p (le_p le_n)))) ?_
  intro p_ e_ R_ s_ m_ args_ below_ meth_ c_ hR X hr hin
  subst hR
  refine g_iload_n X dX0_ledger_0 rfl ?_
  refine g_iconst (v := (-1)) X dX0_ledger_1 rfl ?_
  refine g_icmp_eq (tgt := 16) X dX0_ledger_2 rfl (fun c2 => ?_) (fun c2 => ?_)
  · refine g_iconst (v := 0) X dX0_ledger_16 rfl ?_
    refine g_istore_n X dX0_ledger_17 (Nat.le_of_ble_eq_true rfl) ?_
    refine g_iconst (v := 0) X dX0_ledger_18 rfl ?_
    refine g_istore_n X dX0_ledger_19 (Nat.le_of_ble_eq_true rfl) ?_
    refine g_loop (σ := Nat) (fun (i : Nat) => S) (fun (i : Nat) => ([some (.ref (E.2.2.1 0)), some (.int w), some (.int (ldA w (fun i k => S.1 11 (22 + 5 * i + k)) i)), some (.int (nI i))] : List (Option Value))) (fun (i : Nat) => i ≤ nb) (fun (i : Nat) => nb - i) (0) ?_ (rfl) (le_1 rfl (le_1 rfl (le_1 rfl (le_1 rfl le_n)))) ?_
    · omega
    intro i hI ih
    try dsimp only at hI ih ⊢
    refine g_iload_n X dX0_ledger_20 rfl ?_
    refine g_aload_n X dX0_ledger_21 rfl ?_
    refine g_get (C := RX0) (T := TX0) (N := 13) X 0 in_X0 dX0_ledger_22 q241 (rd0 ho) rfl (Nat.le_of_ble_eq_true rfl) (fun _ h9 => h9) rfl ?_
    refine g_getN (C := RX1) (T := TX1) (N := 8) X 1 in_X1 dX0_ledger_25 q197 (rd1 ho) rfl (Nat.le_of_ble_eq_true rfl) (fun _ h9 => h9) rfl ?_
    refine g_bipush (v := 21) X dX0_ledger_28 rfl ?_
    refine g_iald (j := 21) X dX0_ledger_30 (rdi ho (11) (rfl)) rfl (by decide) (by decide) ?_
    rw [hb]
    refine g_icmp_ge (tgt := 88) X dX0_ledger_31 rfl (fun c31 => ?_) (fun c31 => ?_)
    · refine g_iload_n X dX0_ledger_88 rfl ?_
      exact g_iret X hr dX0_ledger_89 (Nat.le_of_ble_eq_true rfl) (Nat.le_of_ble_eq_true rfl) (⟨by rw [if_neg (fun z => z.1 c2), out_of (by omega) hI c31], rfl⟩)
    · have hi : i < nb := in_of (by omega) hI c31
      refine g_iload_n X dX0_ledger_34 rfl ?_
      refine g_iload_n X dX0_ledger_35 rfl ?_
      refine g_iconst (v := (-1)) X dX0_ledger_36 rfl ?_
      refine g_icmp_eq (tgt := 60) X dX0_ledger_37 rfl (fun c37 => ?_) (fun c37 => ?_)
      · refine g_aload_n X dX0_ledger_60 rfl ?_
        refine g_get (C := RX0) (T := TX0) (N := 13) X 0 in_X0 dX0_ledger_61 q241 (rd0 ho) rfl (Nat.le_of_ble_eq_true rfl) (fun _ h9 => h9) rfl ?_
        refine g_getN (C := RX1) (T := TX1) (N := 8) X 1 in_X1 dX0_ledger_64 q197 (rd1 ho) rfl (Nat.le_of_ble_eq_true rfl) (fun _ h9 => h9) rfl ?_
        refine g_bipush (v := 22) X dX0_ledger_67 rfl ?_
        refine g_iconst (v := 5) X dX0_ledger_69 rfl ?_
        refine g_iload_n X dX0_ledger_70 rfl ?_
        refine g_imul X dX0_ledger_71 ?_
        refine g_iadd X dX0_ledger_72 ?_
        refine g_iconst (v := 4) X dX0_ledger_73 rfl ?_
        refine g_iadd X dX0_ledger_74 ?_
        refine g_iald (j := 22 + 5 * i + 4) X dX0_ledger_75 (rdi ho (11) (rfl)) (by show nI 22 + nI 5 * nI i + nI 4 = _; rw [pk_mul, nI_add, nI_add]) (by omega) (by decide) ?_
        refine g_goto (tgt := 80) X dX0_ledger_76 rfl ?_
        refine g_iadd X dX0_ledger_80 ?_
        refine g_istore_n X dX0_ledger_81 (Nat.le_of_ble_eq_true rfl) ?_
        refine g_iinc (v := 1) X dX0_ledger_82 rfl rfl (Nat.le_of_ble_eq_true rfl) ?_
        refine g_goto (tgt := 20) X dX0_ledger_85 rfl ?_
        refine g_sub (le_1 rfl (le_1 rfl (le_1 (ei (ldA_t (Or.inl c37))) (le_1 e_1 le_n)))) (ih (i + 1) ?_ ?_)
        · try dsimp only
          omega
        · try dsimp only
          omega
      · refine g_aload_n X dX0_ledger_40 rfl ?_
        refine g_get (C := RX0) (T := TX0) (N := 13) X 0 in_X0 dX0_ledger_41 q241 (rd0 ho) rfl (Nat.le_of_ble_eq_true rfl) (fun _ h9 => h9) rfl ?_
        refine g_getN (C := RX1) (T := TX1) (N := 8) X 1 in_X1 dX0_ledger_44 q197 (rd1 ho) rfl (Nat.le_of_ble_eq_true rfl) (fun _ h9 => h9) rfl ?_
        refine g_bipush (v := 22) X dX0_ledger_47 rfl ?_
        refine g_iconst (v := 5) X dX0_ledger_49 rfl ?_
        refine g_iload_n X dX0_ledger_50 rfl ?_
        refine g_imul X dX0_ledger_51 ?_
        refine g_iadd X dX0_ledger_52 ?_
        refine g_iconst (v := 1) X dX0_ledger_53 rfl ?_
        refine g_iadd X dX0_ledger_54 ?_
        refine g_iald (j := 22 + 5 * i + 1) X dX0_ledger_55 (rdi ho (11) (rfl)) (by show nI 22 + nI 5 * nI i + nI 1 = _; rw [pk_mul, nI_add, nI_add]) (by omega) (by decide) ?_
        refine g_iload_n X dX0_ledger_56 rfl ?_
        refine g_icmp_ne (tgt := 79) X dX0_ledger_57 rfl (fun c57 => ?_) (fun c57 => ?_)
        · refine g_iconst (v := 0) X dX0_ledger_79 rfl ?_
          refine g_iadd X dX0_ledger_80 ?_
          refine g_istore_n X dX0_ledger_81 (Nat.le_of_ble_eq_true rfl) ?_
          refine g_iinc (v := 1) X dX0_ledger_82 rfl rfl (Nat.le_of_ble_eq_true rfl) ?_
          refine g_goto (tgt := 20) X dX0_ledger_85 rfl ?_
          refine g_sub (le_1 rfl (le_1 rfl (le_1 (ei (ldA_f (fun z => z.elim c37 c57))) (le_1 e_1 le_n)))) (ih (i + 1) ?_ ?_)
          · try dsimp only
            omega
          · try dsimp only
            omega
        · refine g_aload_n X dX0_ledger_60 rfl ?_
          refine g_get (C := RX0) (T := TX0) (N := 13) X 0 in_X0 dX0_ledger_61 q241 (rd0 ho) rfl (Nat.le_of_ble_eq_true rfl) (fun _ h9 => h9) rfl ?_
          refine g_getN (C := RX1) (T := TX1) (N := 8) X 1 in_X1 dX0_ledger_64 q197 (rd1 ho) rfl (Nat.le_of_ble_eq_true rfl) (fun _ h9 => h9) rfl ?_
          refine g_bipush (v := 22) X dX0_ledger_67 rfl ?_
          refine g_iconst (v := 5) X dX0_ledger_69 rfl ?_
          refine g_iload_n X dX0_ledger_70 rfl ?_
          refine g_imul X dX0_ledger_71 ?_
          refine g_iadd X dX0_ledger_72 ?_
          refine g_iconst (v := 4) X dX0_ledger_73 rfl ?_
          refine g_iadd X dX0_ledger_74 ?_
          refine g_iald (j := 22 + 5 * i + 4) X dX0_ledger_75 (rdi ho (11) (rfl)) (by show nI 22 + nI 5 * nI i + nI 4 = _; rw [pk_mul, nI_add, nI_add]) (by omega) (by decide) ?_
          refine g_goto (tgt := 80) X dX0_ledger_76 rfl ?_
          refine g_iadd X dX0_ledger_80 ?_
          refine g_istore_n X dX0_ledger_81 (Nat.le_of_ble_eq_true rfl) ?_
          refine g_iinc (v := 1) X dX0_ledger_82 rfl rfl (Nat.le_of_ble_eq_true rfl) ?_
          refine g_goto (tgt := 20) X dX0_ledger_85 rfl ?_
          refine g_sub (le_1 rfl (le_1 rfl (le_1 (ei (ldA_t (Or.inr c57))) (le_1 e_1 le_n)))) (ih (i + 1) ?_ ?_)
          · try dsimp only
            omega
          · try dsimp only
            omega
  · refine g_aload_n X dX0_ledger_5 rfl ?_
    refine g_iload_n X dX0_ledger_6 rfl ?_
    refine g_callV (C := RX0) (T := TX0) (N := 13) X (k_X0_isFarmer ho) (lw_V q1161 q1163 qs42 q135 q1164) hd_X0_isFarmer dX0_ledger_7 (rd0 ho) rfl rfl ⟨Nat.le_of_ble_eq_true rfl, Nat.le_of_ble_eq_true rfl⟩ ⟨Nat.le_of_ble_eq_true rfl, Nat.le_of_ble_eq_true rfl⟩ (Nat.le_of_ble_eq_true rfl) ?_
    rintro _ S1 ⟨rfl, hS1⟩
    obtain rfl := hS1.symm
    refine g_ifp_ne (tgt := 16) X dX0_ledger_10 rfl (fun c10 => ?_) (fun c10 => ?_)
    · refine g_iconst (v := 0) X dX0_ledger_16 rfl ?_
      refine g_istore_n X dX0_ledger_17 (Nat.le_of_ble_eq_true rfl) ?_
      refine g_iconst (v := 0) X dX0_ledger_18 rfl ?_
      refine g_istore_n X dX0_ledger_19 (Nat.le_of_ble_eq_true rfl) ?_
      refine g_loop (σ := Nat) (fun (i : Nat) => S) (fun (i : Nat) => ([some (.ref (E.2.2.1 0)), some (.int w), some (.int (ldA w (fun i k => S.1 11 (22 + 5 * i + k)) i)), some (.int (nI i))] : List (Option Value))) (fun (i : Nat) => i ≤ nb) (fun (i : Nat) => nb - i) (0) ?_ (rfl) (le_1 rfl (le_1 rfl (le_1 rfl (le_1 rfl le_n)))) ?_
      · omega
      intro i hI ih
      try dsimp only at hI ih ⊢
      refine g_iload_n X dX0_ledger_20 rfl ?_
      refine g_aload_n X dX0_ledger_21 rfl ?_
      refine g_get (C := RX0) (T := TX0) (N := 13) X 0 in_X0 dX0_ledger_22 q241 (rd0 ho) rfl (Nat.le_of_ble_eq_true rfl) (fun _ h9 => h9) rfl ?_
      refine g_getN (C := RX1) (T := TX1) (N := 8) X 1 in_X1 dX0_ledger_25 q197 (rd1 ho) rfl (Nat.le_of_ble_eq_true rfl) (fun _ h9 => h9) rfl ?_
      refine g_bipush (v := 21) X dX0_ledger_28 rfl ?_
      refine g_iald (j := 21) X dX0_ledger_30 (rdi ho (11) (rfl)) rfl (by decide) (by decide) ?_
      rw [hb]
      refine g_icmp_ge (tgt := 88) X dX0_ledger_31 rfl (fun c31 => ?_) (fun c31 => ?_)
      · refine g_iload_n X dX0_ledger_88 rfl ?_
        exact g_iret X hr dX0_ledger_89 (Nat.le_of_ble_eq_true rfl) (Nat.le_of_ble_eq_true rfl) (⟨by rw [if_neg (fun z => z.2 c10), out_of (by omega) hI c31], rfl⟩)
      · have hi : i < nb := in_of (by omega) hI c31
        refine g_iload_n X dX0_ledger_34 rfl ?_
        refine g_iload_n X dX0_ledger_35 rfl ?_
        refine g_iconst (v := (-1)) X dX0_ledger_36 rfl ?_
        refine g_icmp_eq (tgt := 60) X dX0_ledger_37 rfl (fun c37 => ?_) (fun c37 => ?_)
        · refine g_aload_n X dX0_ledger_60 rfl ?_
          refine g_get (C := RX0) (T := TX0) (N := 13) X 0 in_X0 dX0_ledger_61 q241 (rd0 ho) rfl (Nat.le_of_ble_eq_true rfl) (fun _ h9 => h9) rfl ?_
          refine g_getN (C := RX1) (T := TX1) (N := 8) X 1 in_X1 dX0_ledger_64 q197 (rd1 ho) rfl (Nat.le_of_ble_eq_true rfl) (fun _ h9 => h9) rfl ?_
          refine g_bipush (v := 22) X dX0_ledger_67 rfl ?_
          refine g_iconst (v := 5) X dX0_ledger_69 rfl ?_
          refine g_iload_n X dX0_ledger_70 rfl ?_
          refine g_imul X dX0_ledger_71 ?_
          refine g_iadd X dX0_ledger_72 ?_
          refine g_iconst (v := 4) X dX0_ledger_73 rfl ?_
          refine g_iadd X dX0_ledger_74 ?_
          refine g_iald (j := 22 + 5 * i + 4) X dX0_ledger_75 (rdi ho (11) (rfl)) (by show nI 22 + nI 5 * nI i + nI 4 = _; rw [pk_mul, nI_add, nI_add]) (by omega) (by decide) ?_
          refine g_goto (tgt := 80) X dX0_ledger_76 rfl ?_
          refine g_iadd X dX0_ledger_80 ?_
          refine g_istore_n X dX0_ledger_81 (Nat.le_of_ble_eq_true rfl) ?_
          refine g_iinc (v := 1) X dX0_ledger_82 rfl rfl (Nat.le_of_ble_eq_true rfl) ?_
          refine g_goto (tgt := 20) X dX0_ledger_85 rfl ?_
          refine g_sub (le_1 rfl (le_1 rfl (le_1 (ei (ldA_t (Or.inl c37))) (le_1 e_1 le_n)))) (ih (i + 1) ?_ ?_)
          · try dsimp only
            omega
          · try dsimp only
            omega
        · refine g_aload_n X dX0_ledger_40 rfl ?_
          refine g_get (C := RX0) (T := TX0) (N := 13) X 0 in_X0 dX0_ledger_41 q241 (rd0 ho) rfl (Nat.le_of_ble_eq_true rfl) (fun _ h9 => h9) rfl ?_
          refine g_getN (C := RX1) (T := TX1) (N := 8) X 1 in_X1 dX0_ledger_44 q197 (rd1 ho) rfl (Nat.le_of_ble_eq_true rfl) (fun _ h9 => h9) rfl ?_
          refine g_bipush (v := 22) X dX0_ledger_47 rfl ?_
          refine g_iconst (v := 5) X dX0_ledger_49 rfl ?_
          refine g_iload_n X dX0_ledger_50 rfl ?_
          refine g_imul X dX0_ledger_51 ?_
          refine g_iadd X dX0_ledger_52 ?_
          refine g_iconst (v := 1) X dX0_ledger_53 rfl ?_
          refine g_iadd X dX0_ledger_54 ?_
          refine g_iald (j := 22 + 5 * i + 1) X dX0_ledger_55 (rdi ho (11) (rfl)) (by show nI 22 + nI 5 * nI i + nI 1 = _; rw [pk_mul, nI_add, nI_add]) (by omega) (by decide) ?_
          refine g_iload_n X dX0_ledger_56 rfl ?_
          refine g_icmp_ne (tgt := 79) X dX0_ledger_57 rfl (fun c57 => ?_) (fun c57 => ?_)
          · refine g_iconst (v := 0) X dX0_ledger_79 rfl ?_
            refine g_iadd X dX0_ledger_80 ?_
            refine g_istore_n X dX0_ledger_81 (Nat.le_of_ble_eq_true rfl) ?_
            refine g_iinc (v := 1) X dX0_ledger_82 rfl rfl (Nat.le_of_ble_eq_true rfl) ?_
            refine g_goto (tgt := 20) X dX0_ledger_85 rfl ?_
            refine g_sub (le_1 rfl (le_1 rfl (le_1 (ei (ldA_f (fun z => z.elim c37 c57))) (le_1 e_1 le_n)))) (ih (i + 1) ?_ ?_)
            · try dsimp only
              omega
            · try dsimp only
              omega
          · refine g_aload_n X dX0_ledger_60 rfl ?_
            refine g_get (C := RX0) (T := TX0) (N := 13) X 0 in_X0 dX0_ledger_61 q241 (rd0 ho) rfl (Nat.le_of_ble_eq_true rfl) (fun _ h9 => h9) rfl ?_
            refine g_getN (C := RX1) (T := TX1) (N := 8) X 1 in_X1 dX0_ledger_64 q197 (rd1 ho) rfl (Nat.le_of_ble_eq_true rfl) (fun _ h9 => h9) rfl ?_
            refine g_bipush (v := 22) X dX0_ledger_67 rfl ?_
            refine g_iconst (v := 5) X dX0_ledger_69 rfl ?_
            refine g_iload_n X dX0_ledger_70 rfl ?_
            refine g_imul X dX0_ledger_71 ?_
            refine g_iadd X dX0_ledger_72 ?_
            refine g_iconst (v := 4) X dX0_ledger_73 rfl ?_
            refine g_iadd X dX0_ledger_74 ?_
            refine g_iald (j := 22 + 5 * i + 4) X dX0_ledger_75 (rdi ho (11) (rfl)) (by show nI 22 + nI 5 * nI i + nI 4 = _; rw [pk_mul, nI_add, nI_add]) (by omega) (by decide) ?_
            refine g_goto (tgt := 80) X dX0_ledger_76 rfl ?_
            refine g_iadd X dX0_ledger_80 ?_
            refine g_istore_n X dX0_ledger_81 (Nat.le_of_ble_eq_true rfl) ?_
            refine g_iinc (v := 1) X dX0_ledger_82 rfl rfl (Nat.le_of_ble_eq_true rfl) ?_
            refine g_goto (tgt := 20) X dX0_ledger_85 rfl ?_
            refine g_sub (le_1 rfl (le_1 rfl (le_1 (ei (ldA_t (Or.inr c57))) (le_1 e_1 le_n)))) (ih (i + 1) ?_ ?_)
            · try dsimp only
              omega
            · try dsimp only
              omega
    · refine g_bipush (v := (-2)) X dX0_ledger_13 rfl ?_
      exact g_iret X hr dX0_ledger_15 (Nat.le_of_ble_eq_true rfl) (Nat.le_of_ble_eq_true rfl) (⟨by rw [if_pos ⟨c2, c10⟩], rfl⟩)
set_option maxHeartbeats 600000 in
theorem k_X2_ledger {l : Launch} {E : gk_E} (ho : E.2.2.2.2 = true) {S : gk_S} {w : Int32} {nb : Nat} (hb : S.1 400 8 = nI nb) (h1 : nb ≤ 20) : gk_T l E yX2_ledger cX2_ledger 4 ((some .int)) 2 43 0 0 [.ref (E.2.2.1 3), .int w] S (fun r S' => r = some (.int (if w ≠ -1 ∧ ¬ (0 ≤ w ∧ w ≤ S.1 400 0 - 1) then -2 else ldA w (fun i k => enM (S.1 400 (1346 + i)) (nI k)) nb)) ∧ S' = S) := by
  refine gk_T.of [some (.ref (E.2.2.1 3)), some (.int w), none, none] (by decide) (Nat.le_of_ble_eq_true rfl) (le_1 rfl (le_1 rfl (le_p (le_p le_n)))) ?_
  intro p_ e_ R_ s_ m_ args_ below_ meth_ c_ hR X hr hin
  subst hR
  refine g_iload_n X dX2_ledger_0 rfl ?_
  refine g_iconst (v := (-1)) X dX2_ledger_1 rfl ?_
  refine g_icmp_eq (tgt := 16) X dX2_ledger_2 rfl (fun c2 => ?_) (fun c2 => ?_)
  · refine g_iconst (v := 0) X dX2_ledger_16 rfl ?_
    refine g_istore_n X dX2_ledger_17 (Nat.le_of_ble_eq_true rfl) ?_
    refine g_iconst (v := 0) X dX2_ledger_18 rfl ?_
    refine g_istore_n X dX2_ledger_19 (Nat.le_of_ble_eq_true rfl) ?_
    refine g_loop (σ := Nat) (fun (i : Nat) => S) (fun (i : Nat) => ([some (.ref (E.2.2.1 3)), some (.int w), some (.int (ldA w (fun i k => enM (S.1 400 (1346 + i)) (nI k)) i)), some (.int (nI i))] : List (Option Value))) (fun (i : Nat) => i ≤ nb) (fun (i : Nat) => nb - i) (0) ?_ (rfl) (le_1 rfl (le_1 rfl (le_1 rfl (le_1 rfl le_n)))) ?_
    · omega
    intro i hI ih
    try dsimp only at hI ih ⊢
    refine g_iload_n X dX2_ledger_20 rfl ?_
    refine g_aload_n X dX2_ledger_21 rfl ?_
    refine g_get (C := RX2) (T := TX2) (N := 35) X 0 in_X2 dX2_ledger_22 q1405 (rd3 ho) rfl (Nat.le_of_ble_eq_true rfl) (fun _ h9 => h9) rfl ?_
    refine g_bipush (v := 8) X dX2_ledger_25 rfl ?_
    refine g_iald (j := 8) X dX2_ledger_27 (rdi ho (400) (rfl)) rfl (by decide) (by decide) ?_
    rw [hb]
    refine g_icmp_ge (tgt := 65) X dX2_ledger_28 rfl (fun c28 => ?_) (fun c28 => ?_)
    · refine g_iload_n X dX2_ledger_65 rfl ?_
      exact g_iret X hr dX2_ledger_66 (Nat.le_of_ble_eq_true rfl) (Nat.le_of_ble_eq_true rfl) (⟨by rw [if_neg (fun z => z.1 c2), out_of (by omega) hI c28], rfl⟩)
    · have hi : i < nb := in_of (by omega) hI c28
      refine g_iload_n X dX2_ledger_31 rfl ?_
      refine g_iload_n X dX2_ledger_32 rfl ?_
      refine g_iconst (v := (-1)) X dX2_ledger_33 rfl ?_
      refine g_icmp_eq (tgt := 47) X dX2_ledger_34 rfl (fun c34 => ?_) (fun c34 => ?_)
      · refine g_aload_n X dX2_ledger_47 rfl ?_
        refine g_iload_n X dX2_ledger_48 rfl ?_
        refine g_iconst (v := 4) X dX2_ledger_49 rfl ?_
        refine g_callV (C := RX2) (T := TX2) (N := 35) X (k_X2_entry ho rfl (by omega)) (lw_V q1895 q1897 qs118 q139 q1898) hd_X2_entry dX2_ledger_50 (rd3 ho) rfl rfl ⟨Nat.le_of_ble_eq_true rfl, Nat.le_of_ble_eq_true rfl⟩ ⟨Nat.le_of_ble_eq_true rfl, Nat.le_of_ble_eq_true rfl⟩ (Nat.le_of_ble_eq_true rfl) ?_
        rintro _ S1 ⟨rfl, hS1⟩
        obtain rfl := hS1.symm
        refine g_goto (tgt := 57) X dX2_ledger_53 rfl ?_
        refine g_iadd X dX2_ledger_57 ?_
        refine g_istore_n X dX2_ledger_58 (Nat.le_of_ble_eq_true rfl) ?_
        refine g_iinc (v := 1) X dX2_ledger_59 rfl rfl (Nat.le_of_ble_eq_true rfl) ?_
        refine g_goto (tgt := 20) X dX2_ledger_62 rfl ?_
        refine g_sub (le_1 rfl (le_1 rfl (le_1 (ei (ldA_t (Or.inl c34))) (le_1 e_1 le_n)))) (ih (i + 1) ?_ ?_)
        · try dsimp only
          omega
        · try dsimp only
          omega
      · refine g_aload_n X dX2_ledger_37 rfl ?_
        refine g_iload_n X dX2_ledger_38 rfl ?_
        refine g_iconst (v := 1) X dX2_ledger_39 rfl ?_
        refine g_callV (C := RX2) (T := TX2) (N := 35) X (k_X2_entry ho rfl (by omega)) (lw_V q1895 q1897 qs118 q139 q1898) hd_X2_entry dX2_ledger_40 (rd3 ho) rfl rfl ⟨Nat.le_of_ble_eq_true rfl, Nat.le_of_ble_eq_true rfl⟩ ⟨Nat.le_of_ble_eq_true rfl, Nat.le_of_ble_eq_true rfl⟩ (Nat.le_of_ble_eq_true rfl) ?_
        rintro _ S1 ⟨rfl, hS1⟩
        obtain rfl := hS1.symm
        refine g_iload_n X dX2_ledger_43 rfl ?_
        refine g_icmp_ne (tgt := 56) X dX2_ledger_44 rfl (fun c44 => ?_) (fun c44 => ?_)
        · refine g_iconst (v := 0) X dX2_ledger_56 rfl ?_
          refine g_iadd X dX2_ledger_57 ?_
          refine g_istore_n X dX2_ledger_58 (Nat.le_of_ble_eq_true rfl) ?_
          refine g_iinc (v := 1) X dX2_ledger_59 rfl rfl (Nat.le_of_ble_eq_true rfl) ?_
          refine g_goto (tgt := 20) X dX2_ledger_62 rfl ?_
          refine g_sub (le_1 rfl (le_1 rfl (le_1 (ei (ldA_f (fun z => z.elim c34 c44))) (le_1 e_1 le_n)))) (ih (i + 1) ?_ ?_)
          · try dsimp only
            omega
          · try dsimp only
            omega
        · refine g_aload_n X dX2_ledger_47 rfl ?_
          refine g_iload_n X dX2_ledger_48 rfl ?_
          refine g_iconst (v := 4) X dX2_ledger_49 rfl ?_
          refine g_callV (C := RX2) (T := TX2) (N := 35) X (k_X2_entry ho rfl (by omega)) (lw_V q1895 q1897 qs118 q139 q1898) hd_X2_entry dX2_ledger_50 (rd3 ho) rfl rfl ⟨Nat.le_of_ble_eq_true rfl, Nat.le_of_ble_eq_true rfl⟩ ⟨Nat.le_of_ble_eq_true rfl, Nat.le_of_ble_eq_true rfl⟩ (Nat.le_of_ble_eq_true rfl) ?_
          rintro _ S1 ⟨rfl, hS1⟩
          obtain rfl := hS1.symm
          refine g_goto (tgt := 57) X dX2_ledger_53 rfl ?_
          refine g_iadd X dX2_ledger_57 ?_
          refine g_istore_n X dX2_ledger_58 (Nat.le_of_ble_eq_true rfl) ?_
          refine g_iinc (v := 1) X dX2_ledger_59 rfl rfl (Nat.le_of_ble_eq_true rfl) ?_
          refine g_goto (tgt := 20) X dX2_ledger_62 rfl ?_
          refine g_sub (le_1 rfl (le_1 rfl (le_1 (ei (ldA_t (Or.inr c44))) (le_1 e_1 le_n)))) (ih (i + 1) ?_ ?_)
          · try dsimp only
            omega
          · try dsimp only
            omega
  · refine g_aload_n X dX2_ledger_5 rfl ?_
    refine g_iload_n X dX2_ledger_6 rfl ?_
    refine g_callV (C := RX2) (T := TX2) (N := 35) X (k_X2_isFarmer ho) (lw_V q1871 q1873 qs116 q139 q1874) hd_X2_isFarmer dX2_ledger_7 (rd3 ho) rfl rfl ⟨Nat.le_of_ble_eq_true rfl, Nat.le_of_ble_eq_true rfl⟩ ⟨Nat.le_of_ble_eq_true rfl, Nat.le_of_ble_eq_true rfl⟩ (Nat.le_of_ble_eq_true rfl) ?_
    rintro _ S1 ⟨rfl, hS1⟩
    obtain rfl := hS1.symm
    refine g_ifp_ne (tgt := 16) X dX2_ledger_10 rfl (fun c10 => ?_) (fun c10 => ?_)
    · refine g_iconst (v := 0) X dX2_ledger_16 rfl ?_
      refine g_istore_n X dX2_ledger_17 (Nat.le_of_ble_eq_true rfl) ?_
      refine g_iconst (v := 0) X dX2_ledger_18 rfl ?_
      refine g_istore_n X dX2_ledger_19 (Nat.le_of_ble_eq_true rfl) ?_
      refine g_loop (σ := Nat) (fun (i : Nat) => S) (fun (i : Nat) => ([some (.ref (E.2.2.1 3)), some (.int w), some (.int (ldA w (fun i k => enM (S.1 400 (1346 + i)) (nI k)) i)), some (.int (nI i))] : List (Option Value))) (fun (i : Nat) => i ≤ nb) (fun (i : Nat) => nb - i) (0) ?_ (rfl) (le_1 rfl (le_1 rfl (le_1 rfl (le_1 rfl le_n)))) ?_
      · omega
      intro i hI ih
      try dsimp only at hI ih ⊢
      refine g_iload_n X dX2_ledger_20 rfl ?_
      refine g_aload_n X dX2_ledger_21 rfl ?_
      refine g_get (C := RX2) (T := TX2) (N := 35) X 0 in_X2 dX2_ledger_22 q1405 (rd3 ho) rfl (Nat.le_of_ble_eq_true rfl) (fun _ h9 => h9) rfl ?_
      refine g_bipush (v := 8) X dX2_ledger_25 rfl ?_
      refine g_iald (j := 8) X dX2_ledger_27 (rdi ho (400) (rfl)) rfl (by decide) (by decide) ?_
      rw [hb]
      refine g_icmp_ge (tgt := 65) X dX2_ledger_28 rfl (fun c28 => ?_) (fun c28 => ?_)
      · refine g_iload_n X dX2_ledger_65 rfl ?_
        exact g_iret X hr dX2_ledger_66 (Nat.le_of_ble_eq_true rfl) (Nat.le_of_ble_eq_true rfl) (⟨by rw [if_neg (fun z => z.2 c10), out_of (by omega) hI c28], rfl⟩)
      · have hi : i < nb := in_of (by omega) hI c28
        refine g_iload_n X dX2_ledger_31 rfl ?_
        refine g_iload_n X dX2_ledger_32 rfl ?_
        refine g_iconst (v := (-1)) X dX2_ledger_33 rfl ?_
        refine g_icmp_eq (tgt := 47) X dX2_ledger_34 rfl (fun c34 => ?_) (fun c34 => ?_)
        · refine g_aload_n X dX2_ledger_47 rfl ?_
          refine g_iload_n X dX2_ledger_48 rfl ?_
          refine g_iconst (v := 4) X dX2_ledger_49 rfl ?_
          refine g_callV (C := RX2) (T := TX2) (N := 35) X (k_X2_entry ho rfl (by omega)) (lw_V q1895 q1897 qs118 q139 q1898) hd_X2_entry dX2_ledger_50 (rd3 ho) rfl rfl ⟨Nat.le_of_ble_eq_true rfl, Nat.le_of_ble_eq_true rfl⟩ ⟨Nat.le_of_ble_eq_true rfl, Nat.le_of_ble_eq_true rfl⟩ (Nat.le_of_ble_eq_true rfl) ?_
          rintro _ S1 ⟨rfl, hS1⟩
          obtain rfl := hS1.symm
          refine g_goto (tgt := 57) X dX2_ledger_53 rfl ?_
          refine g_iadd X dX2_ledger_57 ?_
          refine g_istore_n X dX2_ledger_58 (Nat.le_of_ble_eq_true rfl) ?_
          refine g_iinc (v := 1) X dX2_ledger_59 rfl rfl (Nat.le_of_ble_eq_true rfl) ?_
          refine g_goto (tgt := 20) X dX2_ledger_62 rfl ?_
          refine g_sub (le_1 rfl (le_1 rfl (le_1 (ei (ldA_t (Or.inl c34))) (le_1 e_1 le_n)))) (ih (i + 1) ?_ ?_)
          · try dsimp only
            omega
          · try dsimp only
            omega
        · refine g_aload_n X dX2_ledger_37 rfl ?_
          refine g_iload_n X dX2_ledger_38 rfl ?_
          refine g_iconst (v := 1) X dX2_ledger_39 rfl ?_
          refine g_callV (C := RX2) (T := TX2) (N := 35) X (k_X2_entry ho rfl (by omega)) (lw_V q1895 q1897 qs118 q139 q1898) hd_X2_entry dX2_ledger_40 (rd3 ho) rfl rfl ⟨Nat.le_of_ble_eq_true rfl, Nat.le_of_ble_eq_true rfl⟩ ⟨Nat.le_of_ble_eq_true rfl, Nat.le_of_ble_eq_true rfl⟩ (Nat.le_of_ble_eq_true rfl) ?_
          rintro _ S1 ⟨rfl, hS1⟩
          obtain rfl := hS1.symm
          refine g_iload_n X dX2_ledger_43 rfl ?_
          refine g_icmp_ne (tgt := 56) X dX2_ledger_44 rfl (fun c44 => ?_) (fun c44 => ?_)
          · refine g_iconst (v := 0) X dX2_ledger_56 rfl ?_
            refine g_iadd X dX2_ledger_57 ?_
            refine g_istore_n X dX2_ledger_58 (Nat.le_of_ble_eq_true rfl) ?_
            refine g_iinc (v := 1) X dX2_ledger_59 rfl rfl (Nat.le_of_ble_eq_true rfl) ?_
            refine g_goto (tgt := 20) X dX2_ledger_62 rfl ?_
            refine g_sub (le_1 rfl (le_1 rfl (le_1 (ei (ldA_f (fun z => z.elim c34 c44))) (le_1 e_1 le_n)))) (ih (i + 1) ?_ ?_)
            · try dsimp only
              omega
            · try dsimp only
              omega
          · refine g_aload_n X dX2_ledger_47 rfl ?_
            refine g_iload_n X dX2_ledger_48 rfl ?_
            refine g_iconst (v := 4) X dX2_ledger_49 rfl ?_
            refine g_callV (C := RX2) (T := TX2) (N := 35) X (k_X2_entry ho rfl (by omega)) (lw_V q1895 q1897 qs118 q139 q1898) hd_X2_entry dX2_ledger_50 (rd3 ho) rfl rfl ⟨Nat.le_of_ble_eq_true rfl, Nat.le_of_ble_eq_true rfl⟩ ⟨Nat.le_of_ble_eq_true rfl, Nat.le_of_ble_eq_true rfl⟩ (Nat.le_of_ble_eq_true rfl) ?_
            rintro _ S1 ⟨rfl, hS1⟩
            obtain rfl := hS1.symm
            refine g_goto (tgt := 57) X dX2_ledger_53 rfl ?_
            refine g_iadd X dX2_ledger_57 ?_
            refine g_istore_n X dX2_ledger_58 (Nat.le_of_ble_eq_true rfl) ?_
            refine g_iinc (v := 1) X dX2_ledger_59 rfl rfl (Nat.le_of_ble_eq_true rfl) ?_
            refine g_goto (tgt := 20) X dX2_ledger_62 rfl ?_
            refine g_sub (le_1 rfl (le_1 rfl (le_1 (ei (ldA_t (Or.inr c44))) (le_1 e_1 le_n)))) (ih (i + 1) ?_ ?_)
            · try dsimp only
              omega
            · try dsimp only
              omega
    · refine g_bipush (v := (-2)) X dX2_ledger_13 rfl ?_
      exact g_iret X hr dX2_ledger_15 (Nat.le_of_ble_eq_true rfl) (Nat.le_of_ble_eq_true rfl) (⟨by rw [if_pos ⟨c2, c10⟩], rfl⟩)
/-- what a farmer would have at the prices p: (best yet, the set) -/
def whS (w p : Nat → Int32) (i : Nat) : Int32 × Int32 := itr (fun k q => if w k - p k < q.1 then q else (w k - p k, if q.1 < w k - p k then one (nI k) else q.2 ||| one (nI k))) i (1, 0)
theorem whS_n {w p : Nat → Int32} {i : Nat} (h : w i - p i < (whS w p i).1) : whS w p (i + 1) = whS w p i := if_pos h
theorem whS_t {w p : Nat → Int32} {i : Nat} (h : ¬ w i - p i < (whS w p i).1) (h2 : (whS w p i).1 < w i - p i) : whS w p (i + 1) = (w i - p i, one (nI i)) := (if_neg h).trans (congrArg (fun z => (w i - p i, z)) (if_pos h2))
theorem whS_e {w p : Nat → Int32} {i : Nat} (h : ¬ w i - p i < (whS w p i).1) (h2 : ¬ (whS w p i).1 < w i - p i) : whS w p (i + 1) = (w i - p i, (whS w p i).2 ||| one (nI i)) := (if_neg h).trans (congrArg (fun z => (w i - p i, z)) (if_neg h2))
abbrev whV (w p : Nat → Int32) : Int32 := (whS w p 5).2
/-- the model's -/
def whM (w p : Nat → Int32) (i : Nat) : Int32 × Int32 := itr (fun k q => if w k - p k ≤ 0 ∨ w k - p k < q.1 then q else (w k - p k, if q.1 < w k - p k then one (nI k) else q.2 ||| one (nI k))) i (0, 0)
theorem whM_n {w p : Nat → Int32} {i : Nat} (h : w i - p i ≤ 0 ∨ w i - p i < (whM w p i).1) : whM w p (i + 1) = whM w p i := if_pos h
theorem whM_t {w p : Nat → Int32} {i : Nat} (h : ¬ (w i - p i ≤ 0 ∨ w i - p i < (whM w p i).1)) (h2 : (whM w p i).1 < w i - p i) : whM w p (i + 1) = (w i - p i, one (nI i)) := (if_neg h).trans (congrArg (fun z => (w i - p i, z)) (if_pos h2))
theorem whM_e {w p : Nat → Int32} {i : Nat} (h : ¬ (w i - p i ≤ 0 ∨ w i - p i < (whM w p i).1)) (h2 : ¬ (whM w p i).1 < w i - p i) : whM w p (i + 1) = (w i - p i, (whM w p i).2 ||| one (nI i)) := (if_neg h).trans (congrArg (fun z => (w i - p i, z)) (if_neg h2))
theorem i_lt1 {v : Int32} : v < 1 ↔ v ≤ 0 := by
  rw [Int32.lt_iff_toInt_lt, Int32.le_iff_toInt_le]
  exact Int.lt_iff_add_one_le.trans (by constructor <;> intro h <;> (have : (1 : Int32).toInt = 1 := rfl; have : (0 : Int32).toInt = 0 := rfl; omega))
/-- the two are one -/
theorem whM_C {w p : Nat → Int32} : ∀ i, ((whM w p i).1 = 0 ∧ (whM w p i).2 = 0 ∧ whS w p i = (1, 0)) ∨ (¬ (whM w p i).1 ≤ 0 ∧ whS w p i = whM w p i)
  | 0 => Or.inl ⟨rfl, rfl, rfl⟩
  | i + 1 => by
    rcases whM_C (w := w) (p := p) i with ⟨h1, h2, h3⟩ | ⟨h1, h2⟩
    · by_cases c : w i - p i ≤ 0
      · left
        rw [whM_n (Or.inl c), whS_n (by rw [h3]; exact i_lt1.mpr c)]
        exact ⟨h1, h2, h3⟩
      · right
        have c2 : ¬ (w i - p i ≤ 0 ∨ w i - p i < (whM w p i).1) := by
          rw [h1]
          exact fun z => z.elim c (fun y => c (Int32.le_of_lt y))
        have c3 : ¬ w i - p i < (whS w p i).1 := by
          rw [h3]
          exact fun z => c (i_lt1.mp z)
        rw [whM_t c2 (by rw [h1]; exact Int32.not_le.mp c)]
        refine ⟨c, ?_⟩
        by_cases c4 : (whS w p i).1 < w i - p i
        · rw [whS_t c3 c4]
        · rw [whS_e c3 c4, h3]
          show (_, (0 : Int32) ||| _) = _
          rw [Int32.zero_or]
    · right
      by_cases c : w i - p i ≤ 0 ∨ w i - p i < (whM w p i).1
      · have c2 : w i - p i < (whS w p i).1 := by
          rw [h2]
          exact c.elim (fun z => Int32.lt_of_le_of_lt z (Int32.not_le.mp h1)) id
        rw [whM_n c, whS_n c2]
        exact ⟨h1, h2⟩
      · have c2 : ¬ w i - p i < (whS w p i).1 := by rw [h2]; exact fun z => c (Or.inr z)
        by_cases c4 : (whM w p i).1 < w i - p i
        · rw [whM_t c c4, whS_t c2 (by rw [h2]; exact c4)]
          exact ⟨fun z => c (Or.inl z), rfl⟩
        · rw [whM_e c c4, whS_e c2 (by rw [h2]; exact c4), h2]
          exact ⟨fun z => c (Or.inl z), rfl⟩
theorem whM_V {w p : Nat → Int32} : (whM w p 5).2 = whV w p := by
  rcases whM_C (w := w) (p := p) 5 with ⟨_, h2, h3⟩ | ⟨_, h⟩
  · rw [h2]
    unfold whV
    rw [h3]
  · unfold whV
    rw [h]
set_option maxHeartbeats 600000 in
theorem k_X0_wouldHave {l : Launch} {E : gk_E} (ho : E.2.2.2.2 = true) {S : gk_S} {x : Int32} {i : Nat} (hx : x = nI i) (hi : i < 5) : gk_T l E yX0_wouldHave cX0_wouldHave 6 ((some .int)) 0 0 0 0 [.ref (E.2.2.1 0), .int x] S (fun r S' => r = some (.int (whV (S.1 (20 + i)) (S.1 307))) ∧ S' = S) := by
  refine gk_T.of [some (.ref (E.2.2.1 0)), some (.int x), none, none, none, none] (by decide) (Nat.le_of_ble_eq_true rfl) (le_1 rfl (le_1 rfl (le_p (le_p (le_p (le_p le_n)))))) ?_
  intro p_ e_ R_ s_ m_ args_ below_ meth_ c_ hR X hr hin
  subst hR
  refine g_iconst (v := 1) X dX0_wouldHave_0 rfl ?_
  refine g_istore_n X dX0_wouldHave_1 (Nat.le_of_ble_eq_true rfl) ?_
  refine g_iconst (v := 0) X dX0_wouldHave_2 rfl ?_
  refine g_istore_n X dX0_wouldHave_3 (Nat.le_of_ble_eq_true rfl) ?_
  refine g_iconst (v := 0) X dX0_wouldHave_4 rfl ?_
  refine g_istore X dX0_wouldHave_5 (Nat.le_of_ble_eq_true rfl) ?_
  refine g_loop (σ := Nat) (fun (k : Nat) => S) (fun (k : Nat) => ([some (.ref (E.2.2.1 0)), some (.int x), some (.int (whS (S.1 (20 + i)) (S.1 307) k).1), some (.int (whS (S.1 (20 + i)) (S.1 307) k).2), some (.int (nI k)), none] : List (Option Value))) (fun (k : Nat) => k ≤ 5) (fun (k : Nat) => 5 - k) (0) ?_ (rfl) (le_1 rfl (le_1 rfl (le_1 rfl (le_1 rfl (le_1 rfl (le_0 le_n)))))) ?_
  · omega
  intro k hI ih
  try dsimp only at hI ih ⊢
  refine g_iload X dX0_wouldHave_7 rfl ?_
  refine g_iconst (v := 5) X dX0_wouldHave_9 rfl ?_
  refine g_icmp_ge (tgt := 73) X dX0_wouldHave_10 rfl (fun c10 => ?_) (fun c10 => ?_)
  · refine g_iload_n X dX0_wouldHave_73 rfl ?_
    exact g_iret X hr dX0_wouldHave_74 (Nat.le_of_ble_eq_true rfl) (Nat.le_of_ble_eq_true rfl) (⟨by rw [out_of (by omega) hI c10], rfl⟩)
  · have hk : k < 5 := in_of (by omega) hI c10
    refine g_aload_n X dX0_wouldHave_13 rfl ?_
    refine g_get (C := RX0) (T := TX0) (N := 13) X 0 in_X0 dX0_wouldHave_14 q241 (rd0 ho) rfl (Nat.le_of_ble_eq_true rfl) (fun _ h9 => h9) rfl ?_
    refine g_getN (C := RX1) (T := TX1) (N := 8) X 4 in_X1 dX0_wouldHave_17 q203 (rd1 ho) rfl (Nat.le_of_ble_eq_true rfl) (fun _ h9 => h9) rfl ?_
    refine g_iload_n X dX0_wouldHave_20 rfl ?_
    refine g_aald (t := 4) (j := i) X dX0_wouldHave_21 (rd14 ho) rfl rfl hx hi (by decide) rfl ?_
    refine g_iload X dX0_wouldHave_22 rfl ?_
    refine g_iald (j := k) X dX0_wouldHave_24 (rdi ho (20 + (i)) (kd_want hi)) rfl hk (by decide) ?_
    refine g_aload_n X dX0_wouldHave_25 rfl ?_
    refine g_get (C := RX0) (T := TX0) (N := 13) X 12 in_X0 dX0_wouldHave_26 q253 (rd0 ho) rfl (Nat.le_of_ble_eq_true rfl) (fun _ h9 => h9) rfl ?_
    refine g_iload X dX0_wouldHave_29 rfl ?_
    refine g_iald (j := k) X dX0_wouldHave_31 (rdi ho (307) (rfl)) rfl hk (by decide) ?_
    refine g_isub X dX0_wouldHave_32 ?_
    refine g_istore X dX0_wouldHave_33 (Nat.le_of_ble_eq_true rfl) ?_
    refine g_iload X dX0_wouldHave_35 rfl ?_
    refine g_iload_n X dX0_wouldHave_37 rfl ?_
    refine g_icmp_ge (tgt := 44) X dX0_wouldHave_38 rfl (fun c38 => ?_) (fun c38 => ?_)
    · refine g_iload X dX0_wouldHave_44 rfl ?_
      refine g_iload_n X dX0_wouldHave_46 rfl ?_
      refine g_icmp_le (tgt := 57) X dX0_wouldHave_47 rfl (fun c47 => ?_) (fun c47 => ?_)
      · refine g_iload_n X dX0_wouldHave_57 rfl ?_
        refine g_iconst (v := 1) X dX0_wouldHave_58 rfl ?_
        refine g_iload X dX0_wouldHave_59 rfl ?_
        refine g_ishl X dX0_wouldHave_61 ?_
        refine g_ior X dX0_wouldHave_62 ?_
        refine g_istore_n X dX0_wouldHave_63 (Nat.le_of_ble_eq_true rfl) ?_
        refine g_iload X dX0_wouldHave_64 rfl ?_
        refine g_istore_n X dX0_wouldHave_66 (Nat.le_of_ble_eq_true rfl) ?_
        refine g_iinc (v := 1) X dX0_wouldHave_67 rfl rfl (Nat.le_of_ble_eq_true rfl) ?_
        refine g_goto (tgt := 7) X dX0_wouldHave_70 rfl ?_
        refine g_sub (le_1 rfl (le_1 rfl (le_1 (ei (by rw [whS_e (Int32.not_lt.mpr c38) (Int32.not_lt.mpr c47)])) (le_1 (ei (by rw [whS_e (Int32.not_lt.mpr c38) (Int32.not_lt.mpr c47)])) (le_1 e_1 (le_0 le_n)))))) (ih (k + 1) ?_ ?_)
        · try dsimp only
          omega
        · try dsimp only
          omega
      · refine g_iconst (v := 1) X dX0_wouldHave_50 rfl ?_
        refine g_iload X dX0_wouldHave_51 rfl ?_
        refine g_ishl X dX0_wouldHave_53 ?_
        refine g_goto (tgt := 63) X dX0_wouldHave_54 rfl ?_
        refine g_istore_n X dX0_wouldHave_63 (Nat.le_of_ble_eq_true rfl) ?_
        refine g_iload X dX0_wouldHave_64 rfl ?_
        refine g_istore_n X dX0_wouldHave_66 (Nat.le_of_ble_eq_true rfl) ?_
        refine g_iinc (v := 1) X dX0_wouldHave_67 rfl rfl (Nat.le_of_ble_eq_true rfl) ?_
        refine g_goto (tgt := 7) X dX0_wouldHave_70 rfl ?_
        refine g_sub (le_1 rfl (le_1 rfl (le_1 (ei (by rw [whS_t (Int32.not_lt.mpr c38) (Int32.not_le.mp c47)])) (le_1 (ei (by rw [whS_t (Int32.not_lt.mpr c38) (Int32.not_le.mp c47)])) (le_1 e_1 (le_0 le_n)))))) (ih (k + 1) ?_ ?_)
        · try dsimp only
          omega
        · try dsimp only
          omega
    · refine g_goto (tgt := 67) X dX0_wouldHave_41 rfl ?_
      refine g_iinc (v := 1) X dX0_wouldHave_67 rfl rfl (Nat.le_of_ble_eq_true rfl) ?_
      refine g_goto (tgt := 7) X dX0_wouldHave_70 rfl ?_
      refine g_sub (le_1 rfl (le_1 rfl (le_1 (ei (by rw [whS_n (Int32.not_le.mp c38)])) (le_1 (ei (by rw [whS_n (Int32.not_le.mp c38)])) (le_1 e_1 (le_0 le_n)))))) (ih (k + 1) ?_ ?_)
      · try dsimp only
        omega
      · try dsimp only
        omega
/-- the model lays them all -/
def laW (w : Nat → Nat → Int32) (p : Nat → Int32) (i : Nat) (W : Nat → Int32) : Nat → Int32 := itr (fun i W => upd W i (whM (w i) p 5).2) i W
theorem laW_s {w : Nat → Nat → Int32} {p : Nat → Int32} {i : Nat} {W : Nat → Int32} : laW w p (i + 1) W = upd (laW w p i W) i (whM (w i) p 5).2 := rfl
theorem laW_at {w : Nat → Nat → Int32} {p : Nat → Int32} {W : Nat → Int32} {k : Nat} : ∀ {i : Nat}, k < i → laW w p i W k = whV (w k) p
  | 0, h => by omega
  | i + 1, h => by
    rw [laW_s]
    by_cases hk : k = i
    · rw [hk, upd_s, whM_V]
    · rw [upd_n hk]
      exact laW_at (by omega)
set_option maxHeartbeats 600000 in
theorem k_X2_layWould {l : Launch} {E : gk_E} (ho : E.2.2.2.2 = true) {S : gk_S}  {nf : Nat} (h0 : S.1 400 0 = nI nf) (h1 : nf ≤ 5) : gk_T l E yX2_layWould cX2_layWould 5 (none) 1 22 0 0 [.ref (E.2.2.1 3)] S (fun r S' => r = none ∧ S' = gk_si S 415 (laW (fun i k => S.1 400 (37 + 5 * i + k)) (S.1 414) nf (S.1 415))) := by
  refine gk_T.of [some (.ref (E.2.2.1 3)), none, none, none, none] (by decide) (Nat.le_of_ble_eq_true rfl) (le_1 rfl (le_p (le_p (le_p (le_p le_n))))) ?_
  intro p_ e_ R_ s_ m_ args_ below_ meth_ c_ hR X hr hin
  subst hR
  refine g_iconst (v := 0) X dX2_layWould_0 rfl ?_
  refine g_istore_n X dX2_layWould_1 (Nat.le_of_ble_eq_true rfl) ?_
  refine g_loop (σ := Nat) (fun (i : Nat) => gk_si S 415 (laW (fun i k => S.1 400 (37 + 5 * i + k)) (S.1 414) i (S.1 415))) (fun (i : Nat) => ([some (.ref (E.2.2.1 3)), some (.int (nI i)), none, none, none] : List (Option Value))) (fun (i : Nat) => i ≤ nf) (fun (i : Nat) => nf - i) (0) ?_ (by exact si_id.symm) (le_1 rfl (le_1 rfl (le_0 (le_0 (le_0 le_n))))) ?_
  · omega
  intro i hI ih
  try dsimp only at hI ih ⊢
  refine g_iload_n X dX2_layWould_2 rfl ?_
  refine g_aload_n X dX2_layWould_3 rfl ?_
  refine g_get (C := RX2) (T := TX2) (N := 35) X 0 in_X2 dX2_layWould_4 q1405 (rd3 ho) rfl (Nat.le_of_ble_eq_true rfl) (fun _ h9 => h9) rfl ?_
  refine g_iconst (v := 0) X dX2_layWould_7 rfl ?_
  refine g_iald (j := 0) X dX2_layWould_8 (rdi ho (400) (rfl)) rfl (by decide) (by decide) ?_
  rw [show (gk_si S 415 (laW (fun i k => S.1 400 (37 + 5 * i + k)) (S.1 414) i (S.1 415))).1 400 0 = nI nf from h0]
  refine g_icmp_ge (tgt := 100) X dX2_layWould_9 rfl (fun c9 => ?_) (fun c9 => ?_)
  · exact g_vret X hr dX2_layWould_100 (Nat.le_of_ble_eq_true rfl) (Nat.le_of_ble_eq_true rfl) (⟨rfl, by rw [out_of (by omega) hI c9]⟩)
  · have hi : i < nf := in_of (by omega) hI c9
    refine g_iconst (v := 0) X dX2_layWould_12 rfl ?_
    refine g_istore_n X dX2_layWould_13 (Nat.le_of_ble_eq_true rfl) ?_
    refine g_aload_n X dX2_layWould_14 rfl ?_
    refine g_get (C := RX2) (T := TX2) (N := 35) X 34 in_X2 dX2_layWould_15 q1439 (rd3 ho) rfl (Nat.le_of_ble_eq_true rfl) (fun _ h9 => h9) rfl ?_
    refine g_iload_n X dX2_layWould_18 rfl ?_
    refine g_iconst (v := 0) X dX2_layWould_19 rfl ?_
    refine g_iast X ho (415) (j := i) dX2_layWould_20 rfl (rfl) rfl (by omega) (by decide) ?_
    refine g_iconst (v := 0) X dX2_layWould_21 rfl ?_
    refine g_istore_n X dX2_layWould_22 (Nat.le_of_ble_eq_true rfl) ?_
    refine g_loop (σ := Nat) (fun (k : Nat) => gk_si S 415 (upd (laW (fun i k => S.1 400 (37 + 5 * i + k)) (S.1 414) i (S.1 415)) i (whM (fun k => S.1 400 (37 + 5 * i + k)) (S.1 414) k).2)) (fun (k : Nat) => ([some (.ref (E.2.2.1 3)), some (.int (nI i)), some (.int (whM (fun k => S.1 400 (37 + 5 * i + k)) (S.1 414) k).1), some (.int (nI k)), none] : List (Option Value))) (fun (k : Nat) => k ≤ 5) (fun (k : Nat) => 5 - k) (0) ?_ (by rw [si_si, si_s]; rfl) (le_1 rfl (le_1 rfl (le_1 rfl (le_1 rfl (le_0 le_n))))) ?_
    · omega
    intro k hI2 ih2
    try dsimp only at hI2 ih2 ⊢
    refine g_iload_n X dX2_layWould_23 rfl ?_
    refine g_iconst (v := 5) X dX2_layWould_24 rfl ?_
    refine g_icmp_ge (tgt := 94) X dX2_layWould_25 rfl (fun c25 => ?_) (fun c25 => ?_)
    · have hk := out_of (by omega) hI2 c25
      subst hk
      refine g_eq (S2 := gk_si S 415 (laW (fun i k => S.1 400 (37 + 5 * i + k)) (S.1 414) (i + 1) (S.1 415))) (by rw [laW_s]) ?_
      refine g_iinc (v := 1) X dX2_layWould_94 rfl rfl (Nat.le_of_ble_eq_true rfl) ?_
      refine g_goto (tgt := 2) X dX2_layWould_97 rfl ?_
      refine g_sub (le_1 rfl (le_1 e_1 (le_0 (le_0 (le_0 le_n))))) (ih (i + 1) ?_ ?_)
      · try dsimp only
        omega
      · try dsimp only
        omega
    · have hk : k < 5 := in_of (by omega) hI2 c25
      refine g_aload_n X dX2_layWould_28 rfl ?_
      refine g_iload_n X dX2_layWould_29 rfl ?_
      refine g_iload_n X dX2_layWould_30 rfl ?_
      refine g_callV (C := RX2) (T := TX2) (N := 35) X (k_X2_wantOf ho (S := gk_si S 415 _) rfl (by omega : i < 5) rfl hk) (lw_V q1833 q1835 qs111 q139 q1836) hd_X2_wantOf dX2_layWould_31 (rd3 ho) rfl rfl ⟨Nat.le_of_ble_eq_true rfl, Nat.le_of_ble_eq_true rfl⟩ ⟨Nat.le_of_ble_eq_true rfl, Nat.le_of_ble_eq_true rfl⟩ (Nat.le_of_ble_eq_true rfl) ?_
      rintro _ S1 ⟨rfl, hS1⟩
      obtain rfl := hS1.symm
      refine g_aload_n X dX2_layWould_34 rfl ?_
      refine g_get (C := RX2) (T := TX2) (N := 35) X 33 in_X2 dX2_layWould_35 q1438 (rd3 ho) rfl (Nat.le_of_ble_eq_true rfl) (fun _ h9 => h9) rfl ?_
      refine g_iload_n X dX2_layWould_38 rfl ?_
      refine g_iald (j := k) X dX2_layWould_39 (rdi ho (414) (rfl)) rfl hk (by decide) ?_
      refine g_isub X dX2_layWould_40 ?_
      refine g_istore X dX2_layWould_41 (Nat.le_of_ble_eq_true rfl) ?_
      refine g_iload X dX2_layWould_43 rfl ?_
      refine g_if_le (tgt := 88) X dX2_layWould_45 rfl (fun c45 => ?_) (fun c45 => ?_)
      · refine g_eq (S2 := gk_si S 415 (upd (laW (fun i k => S.1 400 (37 + 5 * i + k)) (S.1 414) i (S.1 415)) i (whM (fun k => S.1 400 (37 + 5 * i + k)) (S.1 414) (k + 1)).2)) (by rw [whM_n (w := (fun k => S.1 400 (37 + 5 * i + k))) (p := S.1 414) (i := k) (Or.inl c45)]) ?_
        refine g_iinc (v := 1) X dX2_layWould_88 rfl rfl (Nat.le_of_ble_eq_true rfl) ?_
        refine g_goto (tgt := 23) X dX2_layWould_91 rfl ?_
        refine g_sub (le_1 rfl (le_1 rfl (le_1 (ei (by rw [whM_n (w := (fun k => S.1 400 (37 + 5 * i + k))) (p := S.1 414) (i := k) (Or.inl c45)])) (le_1 e_1 (le_0 le_n))))) (ih2 (k + 1) ?_ ?_)
        · try dsimp only
          omega
        · try dsimp only
          omega
      · refine g_iload X dX2_layWould_48 rfl ?_
        refine g_iload_n X dX2_layWould_50 rfl ?_
        refine g_icmp_ge (tgt := 57) X dX2_layWould_51 rfl (fun c51 => ?_) (fun c51 => ?_)
        · refine g_aload_n X dX2_layWould_57 rfl ?_
          refine g_get (C := RX2) (T := TX2) (N := 35) X 34 in_X2 dX2_layWould_58 q1439 (rd3 ho) rfl (Nat.le_of_ble_eq_true rfl) (fun _ h9 => h9) rfl ?_
          refine g_iload_n X dX2_layWould_61 rfl ?_
          refine g_iload X dX2_layWould_62 rfl ?_
          refine g_iload_n X dX2_layWould_64 rfl ?_
          refine g_icmp_le (tgt := 74) X dX2_layWould_65 rfl (fun c65 => ?_) (fun c65 => ?_)
          · refine g_aload_n X dX2_layWould_74 rfl ?_
            refine g_get (C := RX2) (T := TX2) (N := 35) X 34 in_X2 dX2_layWould_75 q1439 (rd3 ho) rfl (Nat.le_of_ble_eq_true rfl) (fun _ h9 => h9) rfl ?_
            refine g_iload_n X dX2_layWould_78 rfl ?_
            refine g_iald (j := i) X dX2_layWould_79 (rdi ho (415) (rfl)) rfl (by omega) (by decide) ?_
            refine g_iconst (v := 1) X dX2_layWould_80 rfl ?_
            refine g_iload_n X dX2_layWould_81 rfl ?_
            refine g_ishl X dX2_layWould_82 ?_
            refine g_ior X dX2_layWould_83 ?_
            refine g_iast X ho (415) (j := i) dX2_layWould_84 rfl (rfl) rfl (by omega) (by decide) ?_
            refine g_iload X dX2_layWould_85 rfl ?_
            refine g_istore_n X dX2_layWould_87 (Nat.le_of_ble_eq_true rfl) ?_
            refine g_eq (S2 := gk_si S 415 (upd (laW (fun i k => S.1 400 (37 + 5 * i + k)) (S.1 414) i (S.1 415)) i (whM (fun k => S.1 400 (37 + 5 * i + k)) (S.1 414) (k + 1)).2)) (by rw [si_si, si_s, upd_upd, upd_s, whM_e (w := (fun k => S.1 400 (37 + 5 * i + k))) (p := S.1 414) (i := k) (fun z => z.elim c45 (Int32.not_lt.mpr c51)) (Int32.not_lt.mpr c65)]) ?_
            refine g_iinc (v := 1) X dX2_layWould_88 rfl rfl (Nat.le_of_ble_eq_true rfl) ?_
            refine g_goto (tgt := 23) X dX2_layWould_91 rfl ?_
            refine g_sub (le_1 rfl (le_1 rfl (le_1 (ei (by rw [whM_e (w := (fun k => S.1 400 (37 + 5 * i + k))) (p := S.1 414) (i := k) (fun z => z.elim c45 (Int32.not_lt.mpr c51)) (Int32.not_lt.mpr c65)]; rfl)) (le_1 e_1 (le_0 le_n))))) (ih2 (k + 1) ?_ ?_)
            · try dsimp only
              omega
            · try dsimp only
              omega
          · refine g_iconst (v := 1) X dX2_layWould_68 rfl ?_
            refine g_iload_n X dX2_layWould_69 rfl ?_
            refine g_ishl X dX2_layWould_70 ?_
            refine g_goto (tgt := 84) X dX2_layWould_71 rfl ?_
            refine g_iast X ho (415) (j := i) dX2_layWould_84 rfl (rfl) rfl (by omega) (by decide) ?_
            refine g_iload X dX2_layWould_85 rfl ?_
            refine g_istore_n X dX2_layWould_87 (Nat.le_of_ble_eq_true rfl) ?_
            refine g_eq (S2 := gk_si S 415 (upd (laW (fun i k => S.1 400 (37 + 5 * i + k)) (S.1 414) i (S.1 415)) i (whM (fun k => S.1 400 (37 + 5 * i + k)) (S.1 414) (k + 1)).2)) (by rw [si_si, si_s, upd_upd, whM_t (w := (fun k => S.1 400 (37 + 5 * i + k))) (p := S.1 414) (i := k) (fun z => z.elim c45 (Int32.not_lt.mpr c51)) (Int32.not_le.mp c65)]) ?_
            refine g_iinc (v := 1) X dX2_layWould_88 rfl rfl (Nat.le_of_ble_eq_true rfl) ?_
            refine g_goto (tgt := 23) X dX2_layWould_91 rfl ?_
            refine g_sub (le_1 rfl (le_1 rfl (le_1 (ei (by rw [whM_t (w := (fun k => S.1 400 (37 + 5 * i + k))) (p := S.1 414) (i := k) (fun z => z.elim c45 (Int32.not_lt.mpr c51)) (Int32.not_le.mp c65)]; rfl)) (le_1 e_1 (le_0 le_n))))) (ih2 (k + 1) ?_ ?_)
            · try dsimp only
              omega
            · try dsimp only
              omega
        · refine g_goto (tgt := 88) X dX2_layWould_54 rfl ?_
          refine g_eq (S2 := gk_si S 415 (upd (laW (fun i k => S.1 400 (37 + 5 * i + k)) (S.1 414) i (S.1 415)) i (whM (fun k => S.1 400 (37 + 5 * i + k)) (S.1 414) (k + 1)).2)) (by rw [whM_n (w := (fun k => S.1 400 (37 + 5 * i + k))) (p := S.1 414) (i := k) (Or.inr (Int32.not_le.mp c51))]) ?_
          refine g_iinc (v := 1) X dX2_layWould_88 rfl rfl (Nat.le_of_ble_eq_true rfl) ?_
          refine g_goto (tgt := 23) X dX2_layWould_91 rfl ?_
          refine g_sub (le_1 rfl (le_1 rfl (le_1 (ei (by rw [whM_n (w := (fun k => S.1 400 (37 + 5 * i + k))) (p := S.1 414) (i := k) (Or.inr (Int32.not_le.mp c51))])) (le_1 e_1 (le_0 le_n))))) (ih2 (k + 1) ?_ ?_)
          · try dsimp only
            omega
          · try dsimp only
            omega
