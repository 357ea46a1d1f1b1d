set_option maxHeartbeats 600000 in
theorem k_X1_copy {l : Launch} {E : gk_E} (ho : E.2.2.2.2 = true) {S : gk_S}  {a n i : Nat} {f : Nat → Int32} (hrd : gk_Rd E S a (.inl (E.2.1 0, n, .inl f))) (hk : gk_kd i = some (0, n)) (hn : n < 1000) : gk_T l E yX1_copy cX1_copy 2 (none) 1 60 0 0 [.ref a, .ref (E.2.2.1 i)] S (fun r S' => r = none ∧ S' = gk_si S i (va_cpy f (S.1 i) 0 0 n)) := by
  refine gk_T.of [some (.ref a), some (.ref (E.2.2.1 i))] (by decide) (Nat.le_of_ble_eq_true rfl) (fun _ _ h => h) ?_
  intro p_ e_ R_ s_ m_ args_ below_ meth_ c_ hR X hr hin
  subst hR
  refine g_aload_n X dX1_copy_0 rfl ?_
  refine g_iconst (v := 0) X dX1_copy_1 rfl ?_
  refine g_aload_n X dX1_copy_2 rfl ?_
  refine g_iconst (v := 0) X dX1_copy_3 rfl ?_
  refine g_aload_n X dX1_copy_4 rfl ?_
  refine g_alen (t := 0) X dX1_copy_5 hrd rfl ?_
  refine g_copyi X ho i (sp := 0) (dp := 0) (n := n) dX1_copy_6 q235 hrd rfl hk rfl rfl rfl (by omega) (by omega) (by omega) (by omega) (Nat.le_of_ble_eq_true rfl) (Nat.le_of_ble_eq_true rfl) ?_
  exact g_vret X hr dX1_copy_9 (Nat.le_of_ble_eq_true rfl) (Nat.le_of_ble_eq_true rfl) (⟨rfl, rfl⟩)
/-- one fixed array copied to another -/
def cp1 (S : gk_S) (i j n : Nat) : gk_S := gk_si S j (va_cpy (S.1 i) (S.1 j) 0 0 n)
/-- a family of rows copied to another -/
def cpF (S : gk_S) (A B n N : Nat) : gk_S := itr (fun i S => cp1 S (A + i) (B + i) n) N S
set_option maxHeartbeats 600000 in
theorem k_X1_copy_2 {l : Launch} {E : gk_E} (ho : E.2.2.2.2 = true) {S : gk_S}  {ra rb A B n N : Nat} (hra : ∀ S, gk_Rd E S ra (.inl (E.2.1 4, N, .inr (.inr (.inr (.inr fun f => some (E.2.2.1 (A + f)))))))) (hrb : ∀ S, gk_Rd E S rb (.inl (E.2.1 4, N, .inr (.inr (.inr (.inr fun f => some (E.2.2.1 (B + f)))))))) (hA : ∀ i, i < N → gk_kd (A + i) = some (0, n)) (hB : ∀ i, i < N → gk_kd (B + i) = some (0, n)) (hn : n < 1000) (hN : N < 1000) : gk_T l E yX1_copy_2 cX1_copy_2 3 (none) 2 81 0 0 [.ref ra, .ref rb] S (fun r S' => r = none ∧ S' = cpF S A B n N) := by
  refine gk_T.of [some (.ref ra), some (.ref rb), none] (by decide) (Nat.le_of_ble_eq_true rfl) (le_1 rfl (le_1 rfl (le_p le_n))) ?_
  intro p_ e_ R_ s_ m_ args_ below_ meth_ c_ hR X hr hin
  subst hR
  refine g_iconst (v := 0) X dX1_copy_2_0 rfl ?_
  refine g_istore_n X dX1_copy_2_1 (Nat.le_of_ble_eq_true rfl) ?_
  refine g_loop (σ := Nat) (fun (i : Nat) => cpF S A B n i) (fun (i : Nat) => ([some (.ref ra), some (.ref rb), some (.int (nI i))] : List (Option Value))) (fun (i : Nat) => i ≤ N) (fun (i : Nat) => N - i) (0) ?_ (rfl) (le_1 rfl (le_1 rfl (le_1 rfl le_n))) ?_
  · exact Nat.zero_le _
  intro i hI ih
  try dsimp only at hI ih ⊢
  refine g_iload_n X dX1_copy_2_2 rfl ?_
  refine g_aload_n X dX1_copy_2_3 rfl ?_
  refine g_alen (t := 4) X dX1_copy_2_4 (hra _) rfl ?_
  refine g_icmp_ge (tgt := 23) X dX1_copy_2_5 rfl (fun c5 => ?_) (fun c5 => ?_)
  · exact g_vret X hr dX1_copy_2_23 (Nat.le_of_ble_eq_true rfl) (Nat.le_of_ble_eq_true rfl) (⟨rfl, by rw [out_of (by omega) hI c5]⟩)
  · have hi : i < N := in_of (by omega) hI c5
    refine g_aload_n X dX1_copy_2_8 rfl ?_
    refine g_iload_n X dX1_copy_2_9 rfl ?_
    refine g_aald (t := 4) (j := i) X dX1_copy_2_10 (hra _) rfl rfl rfl hi (by omega) rfl ?_
    refine g_aload_n X dX1_copy_2_11 rfl ?_
    refine g_iload_n X dX1_copy_2_12 rfl ?_
    refine g_aald (t := 4) (j := i) X dX1_copy_2_13 (hrb _) rfl rfl rfl hi (by omega) rfl ?_
    refine g_callS X (k_X1_copy ho (i := B + i) (rdi ho (A + i) (hA i hi)) (hB i hi) hn) (lw_S q232 q233 q136 q234) hd_X1_copy dX1_copy_2_14 rfl ⟨Nat.le_of_ble_eq_true rfl, Nat.le_of_ble_eq_true rfl⟩ ⟨Nat.le_of_ble_eq_true rfl, Nat.le_of_ble_eq_true rfl⟩ (Nat.le_of_ble_eq_true rfl) ?_
    rintro _ S1 ⟨rfl, hS1⟩
    obtain rfl := hS1.symm
    refine g_iinc (v := 1) X dX1_copy_2_17 rfl rfl (Nat.le_of_ble_eq_true rfl) ?_
    refine g_goto (tgt := 2) X dX1_copy_2_20 rfl ?_
    refine g_sub (le_1 rfl (le_1 rfl (le_1 e_1 le_n))) (ih (i + 1) ?_ ?_)
    · try dsimp only
      omega
    · try dsimp only
      omega
/-- a State becomes as another: the now-numbers from p on are laid to q on, its Texts u to v -/
def beS (S : gk_S) (p q u v : Nat) : gk_S :=
  let T := cpF (cpF (cpF (cp1 (cp1 (cp1 (cp1 S (p + 10) (q + 10) 5) (p + 11) (q + 11) 122) (p + 12) (q + 12) 5) (p + 13) (q + 13) 5) (p + 20) (q + 20) 5 5) (p + 30) (q + 30) 3 8) (p + 40) (q + 40) 122 30
  gk_sq T v (va_cpy (T.2.2.1 u) (T.2.2.1 v) 0 0 4)
theorem cp1_q {S : gk_S} {i j n : Nat} : (cp1 S i j n).2 = S.2 := rfl
theorem cpF_q {S : gk_S} {A B n : Nat} (N : Nat) : (cpF S A B n N).2 = S.2 := by
  induction N with
  | zero => rfl
  | succ N ih => exact ih
/-- the Texts that are told of are Texts -/
def txq (S : gk_S) (u : Nat) : Prop := ∀ i : Nat, i < 4 → ∀ y : Nat, S.2.2.1 u i = some y → ∃ fs, S.2.2.2 y = some (.inr (4, fs))
theorem txq_of {S S' : gk_S} {u : Nat} (h : txq S u) (e : S'.2 = S.2) : txq S' u := by
  unfold txq
  rw [e]
  exact h
set_option maxHeartbeats 600000 in
theorem k_be_image {l : Launch} {E : gk_E} (ho : E.2.2.2.2 = true) {S : gk_S}   (ht : txq S 0) : gk_T l E yX1_be cX1_be 2 (none) 3 103 0 0 [.ref (E.2.2.1 2), .ref (E.2.2.1 1)] S (fun r S' => r = none ∧ S' = beS S 0 100 0 1) := by
  refine gk_T.of [some (.ref (E.2.2.1 2)), some (.ref (E.2.2.1 1))] (by decide) (Nat.le_of_ble_eq_true rfl) (fun _ _ h => h) ?_
  intro p_ e_ R_ s_ m_ args_ below_ meth_ c_ hR X hr hin
  subst hR
  refine g_aload_n X dX1_be_0 rfl ?_
  refine g_get (C := RX1) (T := TX1) (N := 8) X 0 in_X1 dX1_be_1 q194 (rd1 ho) rfl (Nat.le_of_ble_eq_true rfl) (fun _ h9 => h9) rfl ?_
  refine g_aload_n X dX1_be_4 rfl ?_
  refine g_get (C := RX1) (T := TX1) (N := 8) X 0 in_X1 dX1_be_5 q194 (rd2 ho) rfl (Nat.le_of_ble_eq_true rfl) (fun _ h9 => h9) rfl ?_
  refine g_callS X (k_X1_copy ho (i := 110) (rdi ho 10 rfl) rfl (by decide)) (lw_S q232 q233 q136 q234) hd_X1_copy dX1_be_8 rfl ⟨Nat.le_of_ble_eq_true rfl, Nat.le_of_ble_eq_true rfl⟩ ⟨Nat.le_of_ble_eq_true rfl, Nat.le_of_ble_eq_true rfl⟩ (Nat.le_of_ble_eq_true rfl) ?_
  rintro _ S1 ⟨rfl, hS1⟩
  obtain rfl := hS1.symm
  refine g_aload_n X dX1_be_11 rfl ?_
  refine g_get (C := RX1) (T := TX1) (N := 8) X 1 in_X1 dX1_be_12 q196 (rd1 ho) rfl (Nat.le_of_ble_eq_true rfl) (fun _ h9 => h9) rfl ?_
  refine g_aload_n X dX1_be_15 rfl ?_
  refine g_get (C := RX1) (T := TX1) (N := 8) X 1 in_X1 dX1_be_16 q196 (rd2 ho) rfl (Nat.le_of_ble_eq_true rfl) (fun _ h9 => h9) rfl ?_
  refine g_callS X (k_X1_copy ho (i := 111) (rdi ho 11 rfl) rfl (by decide)) (lw_S q232 q233 q136 q234) hd_X1_copy dX1_be_19 rfl ⟨Nat.le_of_ble_eq_true rfl, Nat.le_of_ble_eq_true rfl⟩ ⟨Nat.le_of_ble_eq_true rfl, Nat.le_of_ble_eq_true rfl⟩ (Nat.le_of_ble_eq_true rfl) ?_
  rintro _ S1 ⟨rfl, hS1⟩
  obtain rfl := hS1.symm
  refine g_aload_n X dX1_be_22 rfl ?_
  refine g_get (C := RX1) (T := TX1) (N := 8) X 2 in_X1 dX1_be_23 q198 (rd1 ho) rfl (Nat.le_of_ble_eq_true rfl) (fun _ h9 => h9) rfl ?_
  refine g_aload_n X dX1_be_26 rfl ?_
  refine g_get (C := RX1) (T := TX1) (N := 8) X 2 in_X1 dX1_be_27 q198 (rd2 ho) rfl (Nat.le_of_ble_eq_true rfl) (fun _ h9 => h9) rfl ?_
  refine g_callS X (k_X1_copy ho (i := 112) (rdi ho 12 rfl) rfl (by decide)) (lw_S q232 q233 q136 q234) hd_X1_copy dX1_be_30 rfl ⟨Nat.le_of_ble_eq_true rfl, Nat.le_of_ble_eq_true rfl⟩ ⟨Nat.le_of_ble_eq_true rfl, Nat.le_of_ble_eq_true rfl⟩ (Nat.le_of_ble_eq_true rfl) ?_
  rintro _ S1 ⟨rfl, hS1⟩
  obtain rfl := hS1.symm
  refine g_aload_n X dX1_be_33 rfl ?_
  refine g_get (C := RX1) (T := TX1) (N := 8) X 3 in_X1 dX1_be_34 q200 (rd1 ho) rfl (Nat.le_of_ble_eq_true rfl) (fun _ h9 => h9) rfl ?_
  refine g_aload_n X dX1_be_37 rfl ?_
  refine g_get (C := RX1) (T := TX1) (N := 8) X 3 in_X1 dX1_be_38 q200 (rd2 ho) rfl (Nat.le_of_ble_eq_true rfl) (fun _ h9 => h9) rfl ?_
  refine g_callS X (k_X1_copy ho (i := 113) (rdi ho 13 rfl) rfl (by decide)) (lw_S q232 q233 q136 q234) hd_X1_copy dX1_be_41 rfl ⟨Nat.le_of_ble_eq_true rfl, Nat.le_of_ble_eq_true rfl⟩ ⟨Nat.le_of_ble_eq_true rfl, Nat.le_of_ble_eq_true rfl⟩ (Nat.le_of_ble_eq_true rfl) ?_
  rintro _ S1 ⟨rfl, hS1⟩
  obtain rfl := hS1.symm
  refine g_aload_n X dX1_be_44 rfl ?_
  refine g_get (C := RX1) (T := TX1) (N := 8) X 4 in_X1 dX1_be_45 q202 (rd1 ho) rfl (Nat.le_of_ble_eq_true rfl) (fun _ h9 => h9) rfl ?_
  refine g_aload_n X dX1_be_48 rfl ?_
  refine g_get (C := RX1) (T := TX1) (N := 8) X 4 in_X1 dX1_be_49 q202 (rd2 ho) rfl (Nat.le_of_ble_eq_true rfl) (fun _ h9 => h9) rfl ?_
  refine g_callS X (k_X1_copy_2 ho (A := 20) (B := 120) (n := 5) (N := 5) (fun _ => rd14 ho) (fun _ => rd114 ho) (fun _ h => kd_want h) (fun _ h => kd_want1 h) (by decide) (by decide)) (lw_S q238 q239 q136 q240) hd_X1_copy_2 dX1_be_52 rfl ⟨Nat.le_of_ble_eq_true rfl, Nat.le_of_ble_eq_true rfl⟩ ⟨Nat.le_of_ble_eq_true rfl, Nat.le_of_ble_eq_true rfl⟩ (Nat.le_of_ble_eq_true rfl) ?_
  rintro _ S1 ⟨rfl, hS1⟩
  obtain rfl := hS1.symm
  refine g_aload_n X dX1_be_55 rfl ?_
  refine g_get (C := RX1) (T := TX1) (N := 8) X 5 in_X1 dX1_be_56 q204 (rd1 ho) rfl (Nat.le_of_ble_eq_true rfl) (fun _ h9 => h9) rfl ?_
  refine g_aload_n X dX1_be_59 rfl ?_
  refine g_get (C := RX1) (T := TX1) (N := 8) X 5 in_X1 dX1_be_60 q204 (rd2 ho) rfl (Nat.le_of_ble_eq_true rfl) (fun _ h9 => h9) rfl ?_
  refine g_callS X (k_X1_copy_2 ho (A := 30) (B := 130) (n := 3) (N := 8) (fun _ => rd15 ho) (fun _ => rd115 ho) (fun _ h => kd_told h) (fun _ h => kd_told1 h) (by decide) (by decide)) (lw_S q238 q239 q136 q240) hd_X1_copy_2 dX1_be_63 rfl ⟨Nat.le_of_ble_eq_true rfl, Nat.le_of_ble_eq_true rfl⟩ ⟨Nat.le_of_ble_eq_true rfl, Nat.le_of_ble_eq_true rfl⟩ (Nat.le_of_ble_eq_true rfl) ?_
  rintro _ S1 ⟨rfl, hS1⟩
  obtain rfl := hS1.symm
  refine g_aload_n X dX1_be_66 rfl ?_
  refine g_get (C := RX1) (T := TX1) (N := 8) X 6 in_X1 dX1_be_67 q206 (rd1 ho) rfl (Nat.le_of_ble_eq_true rfl) (fun _ h9 => h9) rfl ?_
  refine g_aload_n X dX1_be_70 rfl ?_
  refine g_get (C := RX1) (T := TX1) (N := 8) X 6 in_X1 dX1_be_71 q206 (rd2 ho) rfl (Nat.le_of_ble_eq_true rfl) (fun _ h9 => h9) rfl ?_
  refine g_callS X (k_X1_copy_2 ho (A := 40) (B := 140) (n := 122) (N := 30) (fun _ => rd16 ho) (fun _ => rd116 ho) (fun _ h => kd_step h) (fun _ h => kd_step1 h) (by decide) (by decide)) (lw_S q238 q239 q136 q240) hd_X1_copy_2 dX1_be_74 rfl ⟨Nat.le_of_ble_eq_true rfl, Nat.le_of_ble_eq_true rfl⟩ ⟨Nat.le_of_ble_eq_true rfl, Nat.le_of_ble_eq_true rfl⟩ (Nat.le_of_ble_eq_true rfl) ?_
  rintro _ S1 ⟨rfl, hS1⟩
  obtain rfl := hS1.symm
  refine g_aload_n X dX1_be_77 rfl ?_
  refine g_get (C := RX1) (T := TX1) (N := 8) X 7 in_X1 dX1_be_78 q208 (rd1 ho) rfl (Nat.le_of_ble_eq_true rfl) (fun _ h9 => h9) rfl ?_
  refine g_iconst (v := 0) X dX1_be_81 rfl ?_
  refine g_aload_n X dX1_be_82 rfl ?_
  refine g_get (C := RX1) (T := TX1) (N := 8) X 7 in_X1 dX1_be_83 q208 (rd2 ho) rfl (Nat.le_of_ble_eq_true rfl) (fun _ h9 => h9) rfl ?_
  refine g_iconst (v := 0) X dX1_be_86 rfl ?_
  refine g_iconst (v := 4) X dX1_be_87 rfl ?_
  refine g_copyq X ho 0 1 (Or.inl ⟨rfl, rfl, rfl, rfl⟩) dX1_be_88 q235 (txq_of (u := 0) ht (by rw [cpF_q, cpF_q, cpF_q]; rfl)) (Nat.le_of_ble_eq_true rfl) (Nat.le_of_ble_eq_true rfl) ?_
  exact g_vret X hr dX1_be_91 (Nat.le_of_ble_eq_true rfl) (Nat.le_of_ble_eq_true rfl) (⟨rfl, rfl⟩)
set_option maxHeartbeats 600000 in
theorem k_be_now {l : Launch} {E : gk_E} (ho : E.2.2.2.2 = true) {S : gk_S}   (ht : txq S 1) : gk_T l E yX1_be cX1_be 2 (none) 3 103 0 0 [.ref (E.2.2.1 1), .ref (E.2.2.1 2)] S (fun r S' => r = none ∧ S' = beS S 100 0 1 0) := by
  refine gk_T.of [some (.ref (E.2.2.1 1)), some (.ref (E.2.2.1 2))] (by decide) (Nat.le_of_ble_eq_true rfl) (fun _ _ h => h) ?_
  intro p_ e_ R_ s_ m_ args_ below_ meth_ c_ hR X hr hin
  subst hR
  refine g_aload_n X dX1_be_0 rfl ?_
  refine g_get (C := RX1) (T := TX1) (N := 8) X 0 in_X1 dX1_be_1 q194 (rd2 ho) rfl (Nat.le_of_ble_eq_true rfl) (fun _ h9 => h9) rfl ?_
  refine g_aload_n X dX1_be_4 rfl ?_
  refine g_get (C := RX1) (T := TX1) (N := 8) X 0 in_X1 dX1_be_5 q194 (rd1 ho) rfl (Nat.le_of_ble_eq_true rfl) (fun _ h9 => h9) rfl ?_
  refine g_callS X (k_X1_copy ho (i := 10) (rdi ho 110 rfl) rfl (by decide)) (lw_S q232 q233 q136 q234) hd_X1_copy dX1_be_8 rfl ⟨Nat.le_of_ble_eq_true rfl, Nat.le_of_ble_eq_true rfl⟩ ⟨Nat.le_of_ble_eq_true rfl, Nat.le_of_ble_eq_true rfl⟩ (Nat.le_of_ble_eq_true rfl) ?_
  rintro _ S1 ⟨rfl, hS1⟩
  obtain rfl := hS1.symm
  refine g_aload_n X dX1_be_11 rfl ?_
  refine g_get (C := RX1) (T := TX1) (N := 8) X 1 in_X1 dX1_be_12 q196 (rd2 ho) rfl (Nat.le_of_ble_eq_true rfl) (fun _ h9 => h9) rfl ?_
  refine g_aload_n X dX1_be_15 rfl ?_
  refine g_get (C := RX1) (T := TX1) (N := 8) X 1 in_X1 dX1_be_16 q196 (rd1 ho) rfl (Nat.le_of_ble_eq_true rfl) (fun _ h9 => h9) rfl ?_
  refine g_callS X (k_X1_copy ho (i := 11) (rdi ho 111 rfl) rfl (by decide)) (lw_S q232 q233 q136 q234) hd_X1_copy dX1_be_19 rfl ⟨Nat.le_of_ble_eq_true rfl, Nat.le_of_ble_eq_true rfl⟩ ⟨Nat.le_of_ble_eq_true rfl, Nat.le_of_ble_eq_true rfl⟩ (Nat.le_of_ble_eq_true rfl) ?_
  rintro _ S1 ⟨rfl, hS1⟩
  obtain rfl := hS1.symm
  refine g_aload_n X dX1_be_22 rfl ?_
  refine g_get (C := RX1) (T := TX1) (N := 8) X 2 in_X1 dX1_be_23 q198 (rd2 ho) rfl (Nat.le_of_ble_eq_true rfl) (fun _ h9 => h9) rfl ?_
  refine g_aload_n X dX1_be_26 rfl ?_
  refine g_get (C := RX1) (T := TX1) (N := 8) X 2 in_X1 dX1_be_27 q198 (rd1 ho) rfl (Nat.le_of_ble_eq_true rfl) (fun _ h9 => h9) rfl ?_
  refine g_callS X (k_X1_copy ho (i := 12) (rdi ho 112 rfl) rfl (by decide)) (lw_S q232 q233 q136 q234) hd_X1_copy dX1_be_30 rfl ⟨Nat.le_of_ble_eq_true rfl, Nat.le_of_ble_eq_true rfl⟩ ⟨Nat.le_of_ble_eq_true rfl, Nat.le_of_ble_eq_true rfl⟩ (Nat.le_of_ble_eq_true rfl) ?_
  rintro _ S1 ⟨rfl, hS1⟩
  obtain rfl := hS1.symm
  refine g_aload_n X dX1_be_33 rfl ?_
  refine g_get (C := RX1) (T := TX1) (N := 8) X 3 in_X1 dX1_be_34 q200 (rd2 ho) rfl (Nat.le_of_ble_eq_true rfl) (fun _ h9 => h9) rfl ?_
  refine g_aload_n X dX1_be_37 rfl ?_
  refine g_get (C := RX1) (T := TX1) (N := 8) X 3 in_X1 dX1_be_38 q200 (rd1 ho) rfl (Nat.le_of_ble_eq_true rfl) (fun _ h9 => h9) rfl ?_
  refine g_callS X (k_X1_copy ho (i := 13) (rdi ho 113 rfl) rfl (by decide)) (lw_S q232 q233 q136 q234) hd_X1_copy dX1_be_41 rfl ⟨Nat.le_of_ble_eq_true rfl, Nat.le_of_ble_eq_true rfl⟩ ⟨Nat.le_of_ble_eq_true rfl, Nat.le_of_ble_eq_true rfl⟩ (Nat.le_of_ble_eq_true rfl) ?_
  rintro _ S1 ⟨rfl, hS1⟩
  obtain rfl := hS1.symm
  refine g_aload_n X dX1_be_44 rfl ?_
  refine g_get (C := RX1) (T := TX1) (N := 8) X 4 in_X1 dX1_be_45 q202 (rd2 ho) rfl (Nat.le_of_ble_eq_true rfl) (fun _ h9 => h9) rfl ?_
  refine g_aload_n X dX1_be_48 rfl ?_
  refine g_get (C := RX1) (T := TX1) (N := 8) X 4 in_X1 dX1_be_49 q202 (rd1 ho) rfl (Nat.le_of_ble_eq_true rfl) (fun _ h9 => h9) rfl ?_
  refine g_callS X (k_X1_copy_2 ho (A := 120) (B := 20) (n := 5) (N := 5) (fun _ => rd114 ho) (fun _ => rd14 ho) (fun _ h => kd_want1 h) (fun _ h => kd_want h) (by decide) (by decide)) (lw_S q238 q239 q136 q240) hd_X1_copy_2 dX1_be_52 rfl ⟨Nat.le_of_ble_eq_true rfl, Nat.le_of_ble_eq_true rfl⟩ ⟨Nat.le_of_ble_eq_true rfl, Nat.le_of_ble_eq_true rfl⟩ (Nat.le_of_ble_eq_true rfl) ?_
  rintro _ S1 ⟨rfl, hS1⟩
  obtain rfl := hS1.symm
  refine g_aload_n X dX1_be_55 rfl ?_
  refine g_get (C := RX1) (T := TX1) (N := 8) X 5 in_X1 dX1_be_56 q204 (rd2 ho) rfl (Nat.le_of_ble_eq_true rfl) (fun _ h9 => h9) rfl ?_
  refine g_aload_n X dX1_be_59 rfl ?_
  refine g_get (C := RX1) (T := TX1) (N := 8) X 5 in_X1 dX1_be_60 q204 (rd1 ho) rfl (Nat.le_of_ble_eq_true rfl) (fun _ h9 => h9) rfl ?_
  refine g_callS X (k_X1_copy_2 ho (A := 130) (B := 30) (n := 3) (N := 8) (fun _ => rd115 ho) (fun _ => rd15 ho) (fun _ h => kd_told1 h) (fun _ h => kd_told h) (by decide) (by decide)) (lw_S q238 q239 q136 q240) hd_X1_copy_2 dX1_be_63 rfl ⟨Nat.le_of_ble_eq_true rfl, Nat.le_of_ble_eq_true rfl⟩ ⟨Nat.le_of_ble_eq_true rfl, Nat.le_of_ble_eq_true rfl⟩ (Nat.le_of_ble_eq_true rfl) ?_
  rintro _ S1 ⟨rfl, hS1⟩
  obtain rfl := hS1.symm
  refine g_aload_n X dX1_be_66 rfl ?_
  refine g_get (C := RX1) (T := TX1) (N := 8) X 6 in_X1 dX1_be_67 q206 (rd2 ho) rfl (Nat.le_of_ble_eq_true rfl) (fun _ h9 => h9) rfl ?_
  refine g_aload_n X dX1_be_70 rfl ?_
  refine g_get (C := RX1) (T := TX1) (N := 8) X 6 in_X1 dX1_be_71 q206 (rd1 ho) rfl (Nat.le_of_ble_eq_true rfl) (fun _ h9 => h9) rfl ?_
  refine g_callS X (k_X1_copy_2 ho (A := 140) (B := 40) (n := 122) (N := 30) (fun _ => rd116 ho) (fun _ => rd16 ho) (fun _ h => kd_step1 h) (fun _ h => kd_step h) (by decide) (by decide)) (lw_S q238 q239 q136 q240) hd_X1_copy_2 dX1_be_74 rfl ⟨Nat.le_of_ble_eq_true rfl, Nat.le_of_ble_eq_true rfl⟩ ⟨Nat.le_of_ble_eq_true rfl, Nat.le_of_ble_eq_true rfl⟩ (Nat.le_of_ble_eq_true rfl) ?_
  rintro _ S1 ⟨rfl, hS1⟩
  obtain rfl := hS1.symm
  refine g_aload_n X dX1_be_77 rfl ?_
  refine g_get (C := RX1) (T := TX1) (N := 8) X 7 in_X1 dX1_be_78 q208 (rd2 ho) rfl (Nat.le_of_ble_eq_true rfl) (fun _ h9 => h9) rfl ?_
  refine g_iconst (v := 0) X dX1_be_81 rfl ?_
  refine g_aload_n X dX1_be_82 rfl ?_
  refine g_get (C := RX1) (T := TX1) (N := 8) X 7 in_X1 dX1_be_83 q208 (rd1 ho) rfl (Nat.le_of_ble_eq_true rfl) (fun _ h9 => h9) rfl ?_
  refine g_iconst (v := 0) X dX1_be_86 rfl ?_
  refine g_iconst (v := 4) X dX1_be_87 rfl ?_
  refine g_copyq X ho 1 0 (Or.inr ⟨rfl, rfl, rfl, rfl⟩) dX1_be_88 q235 (txq_of (u := 1) ht (by rw [cpF_q, cpF_q, cpF_q]; rfl)) (Nat.le_of_ble_eq_true rfl) (Nat.le_of_ble_eq_true rfl) ?_
  exact g_vret X hr dX1_be_91 (Nat.le_of_ble_eq_true rfl) (Nat.le_of_ble_eq_true rfl) (⟨rfl, rfl⟩)
/-- the steps moved down by one -/
def shS (S : gk_S) (N : Nat) : gk_S := itr (fun i S => cp1 S (40 + (i + 1)) (40 + i) 122) N S
theorem shS_n {S : gk_S} {j : Nat} (h : j < 40) (N : Nat) : (shS S N).1 j = S.1 j := by
  induction N with
  | zero => rfl
  | succ N ih =>
    show (cp1 (shS S N) (40 + (N + 1)) (40 + N) 122).1 j = _
    unfold cp1
    rw [si_n (by omega), ih]
/-- the row kept as a step: there are ns steps -/
def kpS (S : gk_S) (ns : Nat) : gk_S :=
  let T := if ns = 30 then gk_si (shS S 29) 10 (upd (S.1 10) 3 (nI 29)) else S
  let m := if ns = 30 then 29 else ns
  gk_si (cp1 T 11 (40 + m) 122) 10 (upd ((cp1 T 11 (40 + m) 122).1 10) 3 (nI (m + 1)))
theorem kpS_30 {S : gk_S} : kpS S 30 = gk_si (cp1 (gk_si (shS S 29) 10 (upd (S.1 10) 3 (nI 29))) 11 (40 + 29) 122) 10 (upd ((cp1 (gk_si (shS S 29) 10 (upd (S.1 10) 3 (nI 29))) 11 (40 + 29) 122).1 10) 3 (nI (29 + 1))) := rfl
theorem kpS_lt {S : gk_S} {ns : Nat} (h : ns ≠ 30) : kpS S ns = gk_si (cp1 S 11 (40 + ns) 122) 10 (upd ((cp1 S 11 (40 + ns) 122).1 10) 3 (nI (ns + 1))) := by
  unfold kpS
  rw [if_neg h, if_neg h]
set_option maxHeartbeats 600000 in
theorem k_X1_keeps {l : Launch} {E : gk_E} (ho : E.2.2.2.2 = true) {S : gk_S}  {ns : Nat} (h0 : S.1 10 3 = nI ns) (h1 : ns ≤ 30) : gk_T l E yX1_keeps cX1_keeps 2 (none) 2 81 0 0 [.ref (E.2.2.1 1)] S (fun r S' => r = none ∧ S' = kpS S ns) := by
  refine gk_T.of [some (.ref (E.2.2.1 1)), none] (by decide) (Nat.le_of_ble_eq_true rfl) (le_1 rfl (le_p le_n)) ?_
  intro p_ e_ R_ s_ m_ args_ below_ meth_ c_ hR X hr hin
  subst hR
  refine g_aload_n X dX1_keeps_0 rfl ?_
  refine g_get (C := RX1) (T := TX1) (N := 8) X 0 in_X1 dX1_keeps_1 q194 (rd1 ho) rfl (Nat.le_of_ble_eq_true rfl) (fun _ h9 => h9) rfl ?_
  refine g_iconst (v := 3) X dX1_keeps_4 rfl ?_
  refine g_iald (j := 3) X dX1_keeps_5 (rdi ho (10) (rfl)) rfl (by decide) (by decide) ?_
  refine g_bipush (v := 30) X dX1_keeps_6 rfl ?_
  refine g_icmp_ne (tgt := 52) X dX1_keeps_8 rfl (fun c8 => ?_) (fun c8 => ?_)
  · have hns : ns ≠ 30 := fun z => c8 (by rw [h0, z]; rfl)
    refine g_aload_n X dX1_keeps_52 rfl ?_
    refine g_get (C := RX1) (T := TX1) (N := 8) X 1 in_X1 dX1_keeps_53 q196 (rd1 ho) rfl (Nat.le_of_ble_eq_true rfl) (fun _ h9 => h9) rfl ?_
    refine g_aload_n X dX1_keeps_56 rfl ?_
    refine g_get (C := RX1) (T := TX1) (N := 8) X 6 in_X1 dX1_keeps_57 q206 (rd1 ho) rfl (Nat.le_of_ble_eq_true rfl) (fun _ h9 => h9) rfl ?_
    refine g_aload_n X dX1_keeps_60 rfl ?_
    refine g_get (C := RX1) (T := TX1) (N := 8) X 0 in_X1 dX1_keeps_61 q194 (rd1 ho) rfl (Nat.le_of_ble_eq_true rfl) (fun _ h9 => h9) rfl ?_
    refine g_iconst (v := 3) X dX1_keeps_64 rfl ?_
    refine g_iald (j := 3) X dX1_keeps_65 (rdi ho (10) (rfl)) rfl (by decide) (by decide) ?_
    refine g_aald (t := 4) (j := ns) X dX1_keeps_66 (rd16 ho) rfl rfl h0 (by omega) (by decide) rfl ?_
    refine g_callS X (k_X1_copy ho (i := 40 + ns) (rdi ho 11 rfl) (kd_step (by omega)) (by decide)) (lw_S q232 q233 q136 q234) hd_X1_copy dX1_keeps_67 rfl ⟨Nat.le_of_ble_eq_true rfl, Nat.le_of_ble_eq_true rfl⟩ ⟨Nat.le_of_ble_eq_true rfl, Nat.le_of_ble_eq_true rfl⟩ (Nat.le_of_ble_eq_true rfl) ?_
    rintro _ S1 ⟨rfl, hS1⟩
    obtain rfl := hS1.symm
    refine g_aload_n X dX1_keeps_70 rfl ?_
    refine g_get (C := RX1) (T := TX1) (N := 8) X 0 in_X1 dX1_keeps_71 q194 (rd1 ho) rfl (Nat.le_of_ble_eq_true rfl) (fun _ h9 => h9) rfl ?_
    refine g_iconst (v := 3) X dX1_keeps_74 rfl ?_
    refine g_dup2_11 X dX1_keeps_75 rfl rfl ?_
    refine g_iald (j := 3) X dX1_keeps_76 (rdi ho (10) (rfl)) rfl (by decide) (by decide) ?_
    refine g_iconst (v := 1) X dX1_keeps_77 rfl ?_
    refine g_iadd X dX1_keeps_78 ?_
    refine g_iast X ho (10) (j := 3) dX1_keeps_79 rfl (rfl) rfl (by decide) (by decide) ?_
    exact g_vret X hr dX1_keeps_80 (Nat.le_of_ble_eq_true rfl) (Nat.le_of_ble_eq_true rfl) (⟨rfl, by rw [kpS_lt hns]; refine congrArg (fun z => gk_si (cp1 S 11 (40 + ns) 122) 10 (upd ((cp1 S 11 (40 + ns) 122).1 10) 3 z)) ?_; rw [show (gk_si S (40 + ns) (va_cpy (S.1 11) (S.1 (40 + ns)) 0 0 122)).1 10 3 = S.1 10 3 by rw [si_n (by omega)], h0, nI_1]⟩)
  · have h30 : ns = 30 := (nI_eq (by omega) (by decide)).mp (h0.symm.trans c8)
    subst h30
    refine g_iconst (v := 1) X dX1_keeps_11 rfl ?_
    refine g_istore_n X dX1_keeps_12 (Nat.le_of_ble_eq_true rfl) ?_
    refine g_loop (σ := Nat) (fun (k : Nat) => shS S k) (fun (k : Nat) => ([some (.ref (E.2.2.1 1)), some (.int (nI (k + 1)))] : List (Option Value))) (fun (k : Nat) => k ≤ 29) (fun (k : Nat) => 29 - k) (0) ?_ (rfl) (le_1 rfl (le_1 rfl le_n)) ?_
    · omega
    intro k hI ih
    try dsimp only at hI ih ⊢
    refine g_iload_n X dX1_keeps_13 rfl ?_
    refine g_bipush (v := 30) X dX1_keeps_14 rfl ?_
    refine g_icmp_ge (tgt := 42) X dX1_keeps_16 rfl (fun c16 => ?_) (fun c16 => ?_)
    · have hk : k = 29 := by
        have := (nI_leI (a := 30) (b := k + 1) (by decide) (by omega)).mp c16
        omega
      subst hk
      refine g_aload_n X dX1_keeps_42 rfl ?_
      refine g_get (C := RX1) (T := TX1) (N := 8) X 0 in_X1 dX1_keeps_43 q194 (rd1 ho) rfl (Nat.le_of_ble_eq_true rfl) (fun _ h9 => h9) rfl ?_
      refine g_iconst (v := 3) X dX1_keeps_46 rfl ?_
      refine g_dup2_11 X dX1_keeps_47 rfl rfl ?_
      refine g_iald (j := 3) X dX1_keeps_48 (rdi ho (10) (rfl)) rfl (by decide) (by decide) ?_
      refine g_iconst (v := 1) X dX1_keeps_49 rfl ?_
      refine g_isub X dX1_keeps_50 ?_
      refine g_iast X ho (10) (j := 3) dX1_keeps_51 rfl (rfl) rfl (by decide) (by decide) ?_
      refine g_eq (S2 := gk_si (shS S 29) 10 (upd (S.1 10) 3 (nI 29))) (by rw [shS_n (by decide), h0]; rfl) ?_
      refine g_aload_n X dX1_keeps_52 rfl ?_
      refine g_get (C := RX1) (T := TX1) (N := 8) X 1 in_X1 dX1_keeps_53 q196 (rd1 ho) rfl (Nat.le_of_ble_eq_true rfl) (fun _ h9 => h9) rfl ?_
      refine g_aload_n X dX1_keeps_56 rfl ?_
      refine g_get (C := RX1) (T := TX1) (N := 8) X 6 in_X1 dX1_keeps_57 q206 (rd1 ho) rfl (Nat.le_of_ble_eq_true rfl) (fun _ h9 => h9) rfl ?_
      refine g_aload_n X dX1_keeps_60 rfl ?_
      refine g_get (C := RX1) (T := TX1) (N := 8) X 0 in_X1 dX1_keeps_61 q194 (rd1 ho) rfl (Nat.le_of_ble_eq_true rfl) (fun _ h9 => h9) rfl ?_
      refine g_iconst (v := 3) X dX1_keeps_64 rfl ?_
      refine g_iald (j := 3) X dX1_keeps_65 (rdi ho (10) (rfl)) rfl (by decide) (by decide) ?_
      refine g_aald (t := 4) (j := 29) X dX1_keeps_66 (rd16 ho) rfl rfl rfl (by decide) (by decide) rfl ?_
      refine g_callS X (k_X1_copy ho (i := 40 + 29) (rdi ho 11 rfl) (kd_step (by decide)) (by decide)) (lw_S q232 q233 q136 q234) hd_X1_copy dX1_keeps_67 rfl ⟨Nat.le_of_ble_eq_true rfl, Nat.le_of_ble_eq_true rfl⟩ ⟨Nat.le_of_ble_eq_true rfl, Nat.le_of_ble_eq_true rfl⟩ (Nat.le_of_ble_eq_true rfl) ?_
      rintro _ S1 ⟨rfl, hS1⟩
      obtain rfl := hS1.symm
      refine g_aload_n X dX1_keeps_70 rfl ?_
      refine g_get (C := RX1) (T := TX1) (N := 8) X 0 in_X1 dX1_keeps_71 q194 (rd1 ho) rfl (Nat.le_of_ble_eq_true rfl) (fun _ h9 => h9) rfl ?_
      refine g_iconst (v := 3) X dX1_keeps_74 rfl ?_
      refine g_dup2_11 X dX1_keeps_75 rfl rfl ?_
      refine g_iald (j := 3) X dX1_keeps_76 (rdi ho (10) (rfl)) rfl (by decide) (by decide) ?_
      refine g_iconst (v := 1) X dX1_keeps_77 rfl ?_
      refine g_iadd X dX1_keeps_78 ?_
      refine g_iast X ho (10) (j := 3) dX1_keeps_79 rfl (rfl) rfl (by decide) (by decide) ?_
      exact g_vret X hr dX1_keeps_80 (Nat.le_of_ble_eq_true rfl) (Nat.le_of_ble_eq_true rfl) (⟨rfl, rfl⟩)
    · have hk : k < 29 := by
        rcases Nat.lt_or_ge k 29 with q | q
        · exact q
        · exact absurd (nI_le (a := 30) (b := k + 1) (by omega) (by omega)) c16
      refine g_aload_n X dX1_keeps_19 rfl ?_
      refine g_get (C := RX1) (T := TX1) (N := 8) X 6 in_X1 dX1_keeps_20 q206 (rd1 ho) rfl (Nat.le_of_ble_eq_true rfl) (fun _ h9 => h9) rfl ?_
      refine g_iload_n X dX1_keeps_23 rfl ?_
      refine g_aald (t := 4) (j := k + 1) X dX1_keeps_24 (rd16 ho) rfl rfl rfl (by omega) (by decide) rfl ?_
      refine g_aload_n X dX1_keeps_25 rfl ?_
      refine g_get (C := RX1) (T := TX1) (N := 8) X 6 in_X1 dX1_keeps_26 q206 (rd1 ho) rfl (Nat.le_of_ble_eq_true rfl) (fun _ h9 => h9) rfl ?_
      refine g_iload_n X dX1_keeps_29 rfl ?_
      refine g_iconst (v := 1) X dX1_keeps_30 rfl ?_
      refine g_isub X dX1_keeps_31 ?_
      refine g_aald (t := 4) (j := k) X dX1_keeps_32 (rd16 ho) rfl rfl (nI_pred k) (by omega) (by decide) rfl ?_
      refine g_callS X (k_X1_copy ho (i := 40 + k) (rdi ho (40 + (k + 1)) (kd_step (by omega))) (kd_step (by omega)) (by decide)) (lw_S q232 q233 q136 q234) hd_X1_copy dX1_keeps_33 rfl ⟨Nat.le_of_ble_eq_true rfl, Nat.le_of_ble_eq_true rfl⟩ ⟨Nat.le_of_ble_eq_true rfl, Nat.le_of_ble_eq_true rfl⟩ (Nat.le_of_ble_eq_true rfl) ?_
      rintro _ S1 ⟨rfl, hS1⟩
      obtain rfl := hS1.symm
      refine g_iinc (v := 1) X dX1_keeps_36 rfl rfl (Nat.le_of_ble_eq_true rfl) ?_
      refine g_goto (tgt := 13) X dX1_keeps_39 rfl ?_
      refine g_sub (le_1 rfl (le_1 e_1 le_n)) (ih (k + 1) ?_ ?_)
      · try dsimp only
        omega
      · try dsimp only
        omega
/-- a step back: there are ns + 1 of them -/
def unS (S : gk_S) (ns : Nat) : gk_S := cp1 (gk_si S 10 (upd (S.1 10) 3 (nI ns))) (40 + ns) 11 122
set_option maxHeartbeats 600000 in
theorem k_X0_undo {l : Launch} {E : gk_E} (ho : E.2.2.2.2 = true) {S : gk_S}  {ns : Nat} (h0 : S.1 10 3 = nI ns) (h1 : ns ≤ 30) : gk_T l E yX0_undo cX0_undo 1 ((some .int)) 2 81 0 0 [.ref (E.2.2.1 0)] S (fun r S' => r = some (.int (if ns = 0 then -1 else nI (ns - 1))) ∧ S' = if ns = 0 then S else unS S (ns - 1)) := by
  refine gk_T.of [some (.ref (E.2.2.1 0))] (by decide) (Nat.le_of_ble_eq_true rfl) (fun _ _ h => h) ?_
  intro p_ e_ R_ s_ m_ args_ below_ meth_ c_ hR X hr hin
  subst hR
  refine g_aload_n X dX0_undo_0 rfl ?_
  refine g_get (C := RX0) (T := TX0) (N := 13) X 0 in_X0 dX0_undo_1 q241 (rd0 ho) rfl (Nat.le_of_ble_eq_true rfl) (fun _ h9 => h9) rfl ?_
  refine g_getN (C := RX1) (T := TX1) (N := 8) X 0 in_X1 dX0_undo_4 q195 (rd1 ho) rfl (Nat.le_of_ble_eq_true rfl) (fun _ h9 => h9) rfl ?_
  refine g_iconst (v := 3) X dX0_undo_7 rfl ?_
  refine g_iald (j := 3) X dX0_undo_8 (rdi ho (10) (rfl)) rfl (by decide) (by decide) ?_
  refine g_if_ne (tgt := 14) X dX0_undo_9 rfl (fun c9 => ?_) (fun c9 => ?_)
  · have hns : ns ≠ 0 := fun z => c9 (by rw [h0, z]; rfl)
    obtain ⟨m, rfl⟩ : ∃ m, ns = m + 1 := ⟨ns - 1, by omega⟩
    refine g_aload_n X dX0_undo_14 rfl ?_
    refine g_get (C := RX0) (T := TX0) (N := 13) X 0 in_X0 dX0_undo_15 q241 (rd0 ho) rfl (Nat.le_of_ble_eq_true rfl) (fun _ h9 => h9) rfl ?_
    refine g_getN (C := RX1) (T := TX1) (N := 8) X 0 in_X1 dX0_undo_18 q195 (rd1 ho) rfl (Nat.le_of_ble_eq_true rfl) (fun _ h9 => h9) rfl ?_
    refine g_iconst (v := 3) X dX0_undo_21 rfl ?_
    refine g_dup2_11 X dX0_undo_22 rfl rfl ?_
    refine g_iald (j := 3) X dX0_undo_23 (rdi ho (10) (rfl)) rfl (by decide) (by decide) ?_
    refine g_iconst (v := 1) X dX0_undo_24 rfl ?_
    refine g_isub X dX0_undo_25 ?_
    refine g_iast X ho (10) (j := 3) dX0_undo_26 rfl (rfl) rfl (by decide) (by decide) ?_
    refine g_eq (S2 := gk_si S 10 (upd (S.1 10) 3 (nI m))) (by rw [h0]; congr 2; exact nI_pred m) ?_
    refine g_aload_n X dX0_undo_27 rfl ?_
    refine g_get (C := RX0) (T := TX0) (N := 13) X 0 in_X0 dX0_undo_28 q241 (rd0 ho) rfl (Nat.le_of_ble_eq_true rfl) (fun _ h9 => h9) rfl ?_
    refine g_getN (C := RX1) (T := TX1) (N := 8) X 6 in_X1 dX0_undo_31 q207 (rd1 ho) rfl (Nat.le_of_ble_eq_true rfl) (fun _ h9 => h9) rfl ?_
    refine g_aload_n X dX0_undo_34 rfl ?_
    refine g_get (C := RX0) (T := TX0) (N := 13) X 0 in_X0 dX0_undo_35 q241 (rd0 ho) rfl (Nat.le_of_ble_eq_true rfl) (fun _ h9 => h9) rfl ?_
    refine g_getN (C := RX1) (T := TX1) (N := 8) X 0 in_X1 dX0_undo_38 q195 (rd1 ho) rfl (Nat.le_of_ble_eq_true rfl) (fun _ h9 => h9) rfl ?_
    refine g_iconst (v := 3) X dX0_undo_41 rfl ?_
    refine g_iald (j := 3) X dX0_undo_42 (rdi ho (10) (rfl)) rfl (by decide) (by decide) ?_
    refine g_aald (t := 4) (j := m) X dX0_undo_43 (rd16 ho) rfl rfl rfl (by omega) (by decide) rfl ?_
    refine g_aload_n X dX0_undo_44 rfl ?_
    refine g_get (C := RX0) (T := TX0) (N := 13) X 0 in_X0 dX0_undo_45 q241 (rd0 ho) rfl (Nat.le_of_ble_eq_true rfl) (fun _ h9 => h9) rfl ?_
    refine g_getN (C := RX1) (T := TX1) (N := 8) X 1 in_X1 dX0_undo_48 q197 (rd1 ho) rfl (Nat.le_of_ble_eq_true rfl) (fun _ h9 => h9) rfl ?_
    refine g_callSN X (k_X1_copy ho (i := 11) (rdi ho (40 + m) (kd_step (by omega))) rfl (by decide)) q234 q1156 q136 q233 hd_X1_copy dX0_undo_51 rfl ⟨Nat.le_of_ble_eq_true rfl, Nat.le_of_ble_eq_true rfl⟩ ⟨Nat.le_of_ble_eq_true rfl, Nat.le_of_ble_eq_true rfl⟩ (Nat.le_of_ble_eq_true rfl) ?_
    rintro _ S1 ⟨rfl, hS1⟩
    obtain rfl := hS1.symm
    refine g_aload_n X dX0_undo_54 rfl ?_
    refine g_get (C := RX0) (T := TX0) (N := 13) X 0 in_X0 dX0_undo_55 q241 (rd0 ho) rfl (Nat.le_of_ble_eq_true rfl) (fun _ h9 => h9) rfl ?_
    refine g_getN (C := RX1) (T := TX1) (N := 8) X 0 in_X1 dX0_undo_58 q195 (rd1 ho) rfl (Nat.le_of_ble_eq_true rfl) (fun _ h9 => h9) rfl ?_
    refine g_iconst (v := 3) X dX0_undo_61 rfl ?_
    refine g_iald (j := 3) X dX0_undo_62 (rdi ho (10) (rfl)) rfl (by decide) (by decide) ?_
    exact g_iret X hr dX0_undo_63 (Nat.le_of_ble_eq_true rfl) (Nat.le_of_ble_eq_true rfl) (lf_f (by omega) rfl rfl)
  · refine g_iconst (v := (-1)) X dX0_undo_12 rfl ?_
    exact g_iret X hr dX0_undo_13 (Nat.le_of_ble_eq_true rfl) (Nat.le_of_ble_eq_true rfl) (lf_t ((nI_eq (by omega) (by decide)).mp (h0.symm.trans c9)) rfl rfl)
set_option maxHeartbeats 600000 in
theorem k_X0_image {l : Launch} {E : gk_E} (ho : E.2.2.2.2 = true) {S : gk_S}   (ht : txq S 0) : gk_T l E yX0_image cX0_image 1 ((some .int)) 4 124 0 0 [.ref (E.2.2.1 0)] S (fun r S' => r = some (.int ((beS S 0 100 0 1).1 11 0)) ∧ S' = beS S 0 100 0 1) := by
  refine gk_T.of [some (.ref (E.2.2.1 0))] (by decide) (Nat.le_of_ble_eq_true rfl) (fun _ _ h => h) ?_
  intro p_ e_ R_ s_ m_ args_ below_ meth_ c_ hR X hr hin
  subst hR
  refine g_aload_n X dX0_image_0 rfl ?_
  refine g_get (C := RX0) (T := TX0) (N := 13) X 1 in_X0 dX0_image_1 q242 (rd0 ho) rfl (Nat.le_of_ble_eq_true rfl) (fun _ h9 => h9) rfl ?_
  refine g_aload_n X dX0_image_4 rfl ?_
  refine g_get (C := RX0) (T := TX0) (N := 13) X 0 in_X0 dX0_image_5 q241 (rd0 ho) rfl (Nat.le_of_ble_eq_true rfl) (fun _ h9 => h9) rfl ?_
  refine g_callV (C := RX1) (T := TX1) (N := 8) X (k_be_image ho ht) (lw_V q228 q229 q230 q136 q231) hd_X1_be dX0_image_8 (rd2 ho) rfl rfl ⟨Nat.le_of_ble_eq_true rfl, Nat.le_of_ble_eq_true rfl⟩ ⟨Nat.le_of_ble_eq_true rfl, Nat.le_of_ble_eq_true rfl⟩ (Nat.le_of_ble_eq_true rfl) ?_
  rintro _ S1 ⟨rfl, hS1⟩
  obtain rfl := hS1.symm
  refine g_aload_n X dX0_image_11 rfl ?_
  refine g_get (C := RX0) (T := TX0) (N := 13) X 0 in_X0 dX0_image_12 q241 (rd0 ho) rfl (Nat.le_of_ble_eq_true rfl) (fun _ h9 => h9) rfl ?_
  refine g_getN (C := RX1) (T := TX1) (N := 8) X 1 in_X1 dX0_image_15 q197 (rd1 ho) rfl (Nat.le_of_ble_eq_true rfl) (fun _ h9 => h9) rfl ?_
  refine g_iconst (v := 0) X dX0_image_18 rfl ?_
  refine g_iald (j := 0) X dX0_image_19 (rdi ho (11) (rfl)) rfl (by decide) (by decide) ?_
  exact g_iret X hr dX0_image_20 (Nat.le_of_ble_eq_true rfl) (Nat.le_of_ble_eq_true rfl) (⟨rfl, rfl⟩)
set_option maxHeartbeats 600000 in
theorem k_X0_back {l : Launch} {E : gk_E} (ho : E.2.2.2.2 = true) {S : gk_S}   (ht : txq S 1) : gk_T l E yX0_back cX0_back 1 ((some .int)) 4 124 0 0 [.ref (E.2.2.1 0)] S (fun r S' => r = some (.int ((beS S 100 0 1 0).1 11 0)) ∧ S' = beS S 100 0 1 0) := by
  refine gk_T.of [some (.ref (E.2.2.1 0))] (by decide) (Nat.le_of_ble_eq_true rfl) (fun _ _ h => h) ?_
  intro p_ e_ R_ s_ m_ args_ below_ meth_ c_ hR X hr hin
  subst hR
  refine g_aload_n X dX0_back_0 rfl ?_
  refine g_get (C := RX0) (T := TX0) (N := 13) X 0 in_X0 dX0_back_1 q241 (rd0 ho) rfl (Nat.le_of_ble_eq_true rfl) (fun _ h9 => h9) rfl ?_
  refine g_aload_n X dX0_back_4 rfl ?_
  refine g_get (C := RX0) (T := TX0) (N := 13) X 1 in_X0 dX0_back_5 q242 (rd0 ho) rfl (Nat.le_of_ble_eq_true rfl) (fun _ h9 => h9) rfl ?_
  refine g_callV (C := RX1) (T := TX1) (N := 8) X (k_be_now ho ht) (lw_V q228 q229 q230 q136 q231) hd_X1_be dX0_back_8 (rd1 ho) rfl rfl ⟨Nat.le_of_ble_eq_true rfl, Nat.le_of_ble_eq_true rfl⟩ ⟨Nat.le_of_ble_eq_true rfl, Nat.le_of_ble_eq_true rfl⟩ (Nat.le_of_ble_eq_true rfl) ?_
  rintro _ S1 ⟨rfl, hS1⟩
  obtain rfl := hS1.symm
  refine g_aload_n X dX0_back_11 rfl ?_
  refine g_get (C := RX0) (T := TX0) (N := 13) X 0 in_X0 dX0_back_12 q241 (rd0 ho) rfl (Nat.le_of_ble_eq_true rfl) (fun _ h9 => h9) rfl ?_
  refine g_getN (C := RX1) (T := TX1) (N := 8) X 1 in_X1 dX0_back_15 q197 (rd1 ho) rfl (Nat.le_of_ble_eq_true rfl) (fun _ h9 => h9) rfl ?_
  refine g_iconst (v := 0) X dX0_back_18 rfl ?_
  refine g_iald (j := 0) X dX0_back_19 (rdi ho (11) (rfl)) rfl (by decide) (by decide) ?_
  exact g_iret X hr dX0_back_20 (Nat.le_of_ble_eq_true rfl) (Nat.le_of_ble_eq_true rfl) (⟨rfl, rfl⟩)
