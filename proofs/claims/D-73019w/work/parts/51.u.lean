/-- those of the farmers who would have nothing outside a set -/
abbrev tmQ (wd : Nat → Int32) (s : Int32) (i : Nat) : Prop := wd i ≠ 0 ∧ wd i &&& (s ^^^ -1) = 0
def tmA (wd : Nat → Int32) (s : Int32) (i : Nat) : Int32 := itr (fun i c => c + (if tmQ wd s i then 1 else 0)) i 0
theorem tmA_t {wd : Nat → Int32} {s : Int32} {i : Nat} (h : tmQ wd s i) : tmA wd s i + 1 = tmA wd s (i + 1) := (congrArg (fun z => tmA wd s i + z) (if_pos h)).symm
theorem tmA_f {wd : Nat → Int32} {s : Int32} {i : Nat} (h : ¬ tmQ wd s i) : tmA wd s i + 0 = tmA wd s (i + 1) := (congrArg (fun z => tmA wd s i + z) (if_neg h)).symm
theorem tmA_c {wd wd' : Nat → Int32} {s : Int32} : ∀ {n : Nat}, (∀ i, i < n → wd i = wd' i) → tmA wd s n = tmA wd' s n
  | 0, _ => rfl
  | n + 1, h => by
    show tmA wd s n + (if tmQ wd s n then 1 else 0) = tmA wd' s n + (if tmQ wd' s n then 1 else 0)
    unfold tmQ
    rw [tmA_c (fun i hi => h i (by omega)), h n (by omega)]
abbrev tmP (wd : Nat → Int32) (nf : Nat) (s : Int32) : Prop := bcI s < tmA wd s nf
/-- the least set of too many, upwards -/
def lsC (P : Int32 → Prop) [∀ s, Decidable (P s)] (i : Nat) : Int32 := itr (fun k b => if P (nI (1 + k)) ∧ (b = -1 ∨ bcI (nI (1 + k)) < bcI b) then nI (1 + k) else b) i (-1)
theorem lsC_t {P : Int32 → Prop} [∀ s, Decidable (P s)] {i : Nat} (h : P (nI (1 + i)) ∧ (lsC P i = -1 ∨ bcI (nI (1 + i)) < bcI (lsC P i))) : nI (1 + i) = lsC P (i + 1) := (if_pos h).symm
theorem lsC_f {P : Int32 → Prop} [∀ s, Decidable (P s)] {i : Nat} (h : ¬ (P (nI (1 + i)) ∧ (lsC P i = -1 ∨ bcI (nI (1 + i)) < bcI (lsC P i)))) : lsC P i = lsC P (i + 1) := (if_neg h).symm
/-- and downwards -/
def lsM (P : Int32 → Prop) [∀ s, Decidable (P s)] (i : Nat) : Int32 := itr (fun k b => if P (nI (31 - k)) ∧ (b = -1 ∨ bcI (nI (31 - k)) ≤ bcI b) then nI (31 - k) else b) i (-1)
theorem lsM_t {P : Int32 → Prop} [∀ s, Decidable (P s)] {i : Nat} (h : P (nI (31 - i)) ∧ (lsM P i = -1 ∨ bcI (nI (31 - i)) ≤ bcI (lsM P i))) : nI (31 - i) = lsM P (i + 1) := (if_pos h).symm
theorem lsM_f {P : Int32 → Prop} [∀ s, Decidable (P s)] {i : Nat} (h : ¬ (P (nI (31 - i)) ∧ (lsM P i = -1 ∨ bcI (nI (31 - i)) ≤ bcI (lsM P i)))) : lsM P i = lsM P (i + 1) := (if_neg h).symm
theorem lsC_in {P : Int32 → Prop} [∀ s, Decidable (P s)] : ∀ i, i ≤ 31 → (lsC P i = -1 ∧ ∀ j, 1 ≤ j → j < 1 + i → ¬ P (nI j)) ∨ ∃ v, 1 ≤ v ∧ v < 1 + i ∧ lsC P i = nI v ∧ P (nI v) ∧ ∀ j, 1 ≤ j → j < 1 + i → P (nI j) → bcI (nI v) < bcI (nI j) ∨ (bcI (nI v) = bcI (nI j) ∧ v ≤ j)
  | 0, _ => Or.inl ⟨rfl, fun j h1 h2 => by omega⟩
  | i + 1, hi => by
    by_cases c : P (nI (1 + i)) ∧ (lsC P i = -1 ∨ bcI (nI (1 + i)) < bcI (lsC P i))
    · right
      refine ⟨1 + i, by omega, by omega, (lsC_t c).symm, c.1, fun j h1 h2 hp => ?_⟩
      by_cases hj : j = 1 + i
      · exact Or.inr ⟨by rw [hj], by omega⟩
      rcases lsC_in (P := P) i (by omega) with ⟨_, z⟩ | ⟨v, v1, v2, e, v3, v4⟩
      · exact absurd hp (z j h1 (by omega))
      · left
        have c2 := c.2.resolve_left (by rw [e]; exact (nI_ne_m1 (by omega)))
        rw [e] at c2
        rcases v4 j h1 (by omega) hp with y | ⟨y, _⟩
        · exact Int32.lt_trans c2 y
        · rw [← y]
          exact c2
    · rw [← lsC_f c]
      rcases lsC_in (P := P) i (by omega) with ⟨e, z⟩ | ⟨v, v1, v2, e, v3, v4⟩
      · left
        refine ⟨e, fun j h1 h2 hp => ?_⟩
        by_cases hj : j = 1 + i
        · subst hj
          exact c ⟨hp, Or.inl e⟩
        · exact z j h1 (by omega) hp
      · right
        refine ⟨v, v1, by omega, e, v3, fun j h1 h2 hp => ?_⟩
        by_cases hj : j = 1 + i
        · subst hj
          have z : ¬ bcI (nI (1 + i)) < bcI (nI v) := fun y => c ⟨hp, Or.inr (by rw [e]; exact y)⟩
          rcases Decidable.em (bcI (nI v) = bcI (nI (1 + i))) with y | y
          · exact Or.inr ⟨y, by omega⟩
          · exact Or.inl (Int32.lt_of_le_of_ne (Int32.not_lt.mp z) y)
        · exact v4 j h1 (by omega) hp
theorem lsM_in {P : Int32 → Prop} [∀ s, Decidable (P s)] : ∀ i, i ≤ 31 → (lsM P i = -1 ∧ ∀ j, 31 - i < j → j ≤ 31 → ¬ P (nI j)) ∨ ∃ v, 31 - i < v ∧ v ≤ 31 ∧ lsM P i = nI v ∧ P (nI v) ∧ ∀ j, 31 - i < j → j ≤ 31 → P (nI j) → bcI (nI v) < bcI (nI j) ∨ (bcI (nI v) = bcI (nI j) ∧ v ≤ j)
  | 0, _ => Or.inl ⟨rfl, fun j h1 h2 => by omega⟩
  | i + 1, hi => by
    by_cases c : P (nI (31 - i)) ∧ (lsM P i = -1 ∨ bcI (nI (31 - i)) ≤ bcI (lsM P i))
    · right
      refine ⟨31 - i, by omega, by omega, (lsM_t c).symm, c.1, fun j h1 h2 hp => ?_⟩
      by_cases hj : j = 31 - i
      · exact Or.inr ⟨by rw [hj], by omega⟩
      rcases lsM_in (P := P) i (by omega) with ⟨_, z⟩ | ⟨v, v1, v2, e, v3, v4⟩
      · exact absurd hp (z j (by omega) h2)
      · have c2 := c.2.resolve_left (by rw [e]; exact (nI_ne_m1 (by omega)))
        rw [e] at c2
        have w : bcI (nI (31 - i)) ≤ bcI (nI j) := by
          rcases v4 j (by omega) h2 hp with y | ⟨y, _⟩
          · exact Int32.le_trans c2 (Int32.le_of_lt y)
          · rw [← y]
            exact c2
        rcases Decidable.em (bcI (nI (31 - i)) = bcI (nI j)) with y | y
        · exact Or.inr ⟨y, by omega⟩
        · exact Or.inl (Int32.lt_of_le_of_ne w y)
    · rw [← lsM_f c]
      rcases lsM_in (P := P) i (by omega) with ⟨e, z⟩ | ⟨v, v1, v2, e, v3, v4⟩
      · left
        refine ⟨e, fun j h1 h2 hp => ?_⟩
        by_cases hj : j = 31 - i
        · subst hj
          exact c ⟨hp, Or.inl e⟩
        · exact z j (by omega) h2 hp
      · right
        refine ⟨v, by omega, v2, e, v3, fun j h1 h2 hp => ?_⟩
        by_cases hj : j = 31 - i
        · subst hj
          have z : ¬ bcI (nI (31 - i)) ≤ bcI (nI v) := fun y => c ⟨hp, Or.inr (by rw [e]; exact y)⟩
          exact Or.inl (Int32.not_le.mp z)
        · exact v4 j (by omega) h2 hp
theorem lsM_C {P : Int32 → Prop} [∀ s, Decidable (P s)] : lsM P 31 = lsC P 31 := by
  rcases lsC_in (P := P) 31 (by omega) with ⟨e, z⟩ | ⟨v, v1, v2, e, v3, v4⟩
  · rcases lsM_in (P := P) 31 (by omega) with ⟨e', z'⟩ | ⟨v', v1', v2', e', v3', v4'⟩
    · rw [e, e']
    · exact absurd v3' (z v' (by omega) (by omega))
  · rcases lsM_in (P := P) 31 (by omega) with ⟨e', z'⟩ | ⟨v', v1', v2', e', v3', v4'⟩
    · exact absurd v3 (z' v (by omega) (by omega))
    · rw [e, e']
      congr 1
      rcases v4 v' (by omega) (by omega) v3' with a | ⟨a, b⟩
      · rcases v4' v (by omega) (by omega) v3 with c | ⟨c, d⟩
        · exact absurd (Int32.lt_trans a c) Int32.lt_irrefl
        · rw [c] at a
          exact absurd a Int32.lt_irrefl
      · rcases v4' v (by omega) (by omega) v3 with c | ⟨c, d⟩
        · rw [a] at c
          exact absurd c Int32.lt_irrefl
        · omega
set_option maxHeartbeats 600000 in
theorem k_X0_areTooMany {l : Launch} {E : gk_E} (ho : E.2.2.2.2 = true) {S : gk_S} {s : Int32} {nf : Nat} (h0 : S.1 10 0 = nI nf) (h1 : nf ≤ 5) : gk_T l E yX0_areTooMany cX0_areTooMany 4 ((some .boolean)) 1 25 0 0 [.ref (E.2.2.1 0), .int s] S (fun r S' => r = some (.int (bP (tmP (fun i => whV (S.1 (20 + i)) (S.1 307)) nf s))) ∧ S' = S) := by
  refine gk_T.of [some (.ref (E.2.2.1 0)), some (.int s), none, none] (by decide) (Nat.le_of_ble_eq_true rfl) (le_1 rfl (le_1 rfl (le_p (le_p le_n)))) ?_
  intro p_ e_ R_ s_ m_ args_ below_ meth_ c_ hR X hr hin
  subst hR
  refine g_iconst (v := 0) X dX0_areTooMany_0 rfl ?_
  refine g_istore_n X dX0_areTooMany_1 (Nat.le_of_ble_eq_true rfl) ?_
  refine g_iconst (v := 0) X dX0_areTooMany_2 rfl ?_
  refine g_istore_n X dX0_areTooMany_3 (Nat.le_of_ble_eq_true rfl) ?_
  refine g_loop (σ := Nat) (fun (i : Nat) => S) (fun (i : Nat) => ([some (.ref (E.2.2.1 0)), some (.int s), some (.int (tmA (fun i => whV (S.1 (20 + i)) (S.1 307)) s i)), some (.int (nI i))] : List (Option Value))) (fun (i : Nat) => i ≤ nf) (fun (i : Nat) => nf - i) (0) ?_ (rfl) (le_1 rfl (le_1 rfl (le_1 rfl (le_1 rfl le_n)))) ?_
  · omega
  intro i hI ih
  try dsimp only at hI ih ⊢
  refine g_iload_n X dX0_areTooMany_4 rfl ?_
  refine g_aload_n X dX0_areTooMany_5 rfl ?_
  refine g_callV (C := RX0) (T := TX0) (N := 13) X (k_X0_farmers ho) (lw_V q287 q289 qs0 q135 q290) hd_X0_farmers dX0_areTooMany_6 (rd0 ho) rfl rfl ⟨Nat.le_of_ble_eq_true rfl, Nat.le_of_ble_eq_true rfl⟩ ⟨Nat.le_of_ble_eq_true rfl, Nat.le_of_ble_eq_true rfl⟩ (Nat.le_of_ble_eq_true rfl) ?_
  rintro _ S1 ⟨rfl, hS1⟩
  obtain rfl := hS1.symm
  rw [h0]
  refine g_icmp_ge (tgt := 46) X dX0_areTooMany_9 rfl (fun c9 => ?_) (fun c9 => ?_)
  · have hi := out_of (by omega) hI c9
    subst hi
    refine g_iload_n X dX0_areTooMany_46 rfl ?_
    refine g_iload_n X dX0_areTooMany_47 rfl ?_
    refine g_callS X (k_J13_bitCount ho) (lw_S q1068 q1069 q163 q1070) hd_J13_bitCount dX0_areTooMany_48 rfl ⟨Nat.le_of_ble_eq_true rfl, Nat.le_of_ble_eq_true rfl⟩ ⟨Nat.le_of_ble_eq_true rfl, Nat.le_of_ble_eq_true rfl⟩ (Nat.le_of_ble_eq_true rfl) ?_
    rintro _ S1 ⟨rfl, hS1⟩
    obtain rfl := hS1.symm
    refine g_icmp_le (tgt := 58) X dX0_areTooMany_51 rfl (fun c51 => ?_) (fun c51 => ?_)
    · refine g_iconst (v := 0) X dX0_areTooMany_58 rfl ?_
      refine g_zret X hr dX0_areTooMany_59 ?_ (Nat.le_of_ble_eq_true rfl) (Nat.le_of_ble_eq_true rfl) ?_
      · first | rfl | exact nb_bP
      · exact ⟨lb_0 (Int32.not_lt.mpr c51), rfl⟩
    · refine g_iconst (v := 1) X dX0_areTooMany_54 rfl ?_
      refine g_goto (tgt := 59) X dX0_areTooMany_55 rfl ?_
      refine g_zret X hr dX0_areTooMany_59 ?_ (Nat.le_of_ble_eq_true rfl) (Nat.le_of_ble_eq_true rfl) ?_
      · first | rfl | exact nb_bP
      · exact ⟨lb_1 (Int32.not_le.mp c51), rfl⟩
  · have hi : i < nf := in_of (by omega) hI c9
    refine g_iload_n X dX0_areTooMany_12 rfl ?_
    refine g_aload_n X dX0_areTooMany_13 rfl ?_
    refine g_iload_n X dX0_areTooMany_14 rfl ?_
    refine g_callV (C := RX0) (T := TX0) (N := 13) X (k_X0_wouldHave ho (i := i) rfl (by omega)) (lw_V q1332 q1334 qs56 q135 q1335) hd_X0_wouldHave dX0_areTooMany_15 (rd0 ho) rfl rfl ⟨Nat.le_of_ble_eq_true rfl, Nat.le_of_ble_eq_true rfl⟩ ⟨Nat.le_of_ble_eq_true rfl, Nat.le_of_ble_eq_true rfl⟩ (Nat.le_of_ble_eq_true rfl) ?_
    rintro _ S1 ⟨rfl, hS1⟩
    obtain rfl := hS1.symm
    refine g_if_eq (tgt := 37) X dX0_areTooMany_18 rfl (fun c18 => ?_) (fun c18 => ?_)
    · refine g_iconst (v := 0) X dX0_areTooMany_37 rfl ?_
      refine g_iadd X dX0_areTooMany_38 ?_
      refine g_istore_n X dX0_areTooMany_39 (Nat.le_of_ble_eq_true rfl) ?_
      refine g_iinc (v := 1) X dX0_areTooMany_40 rfl rfl (Nat.le_of_ble_eq_true rfl) ?_
      refine g_goto (tgt := 4) X dX0_areTooMany_43 rfl ?_
      refine g_sub (le_1 rfl (le_1 rfl (le_1 (ei (tmA_f (fun z => z.1 c18))) (le_1 e_1 le_n)))) (ih (i + 1) ?_ ?_)
      · try dsimp only
        omega
      · try dsimp only
        omega
    · refine g_aload_n X dX0_areTooMany_21 rfl ?_
      refine g_iload_n X dX0_areTooMany_22 rfl ?_
      refine g_callV (C := RX0) (T := TX0) (N := 13) X (k_X0_wouldHave ho (i := i) rfl (by omega)) (lw_V q1332 q1334 qs56 q135 q1335) hd_X0_wouldHave dX0_areTooMany_23 (rd0 ho) rfl rfl ⟨Nat.le_of_ble_eq_true rfl, Nat.le_of_ble_eq_true rfl⟩ ⟨Nat.le_of_ble_eq_true rfl, Nat.le_of_ble_eq_true rfl⟩ (Nat.le_of_ble_eq_true rfl) ?_
      rintro _ S1 ⟨rfl, hS1⟩
      obtain rfl := hS1.symm
      refine g_iload_n X dX0_areTooMany_26 rfl ?_
      refine g_iconst (v := (-1)) X dX0_areTooMany_27 rfl ?_
      refine g_ixor X dX0_areTooMany_28 ?_
      refine g_iand X dX0_areTooMany_29 ?_
      refine g_if_ne (tgt := 37) X dX0_areTooMany_30 rfl (fun c30 => ?_) (fun c30 => ?_)
      · refine g_iconst (v := 0) X dX0_areTooMany_37 rfl ?_
        refine g_iadd X dX0_areTooMany_38 ?_
        refine g_istore_n X dX0_areTooMany_39 (Nat.le_of_ble_eq_true rfl) ?_
        refine g_iinc (v := 1) X dX0_areTooMany_40 rfl rfl (Nat.le_of_ble_eq_true rfl) ?_
        refine g_goto (tgt := 4) X dX0_areTooMany_43 rfl ?_
        refine g_sub (le_1 rfl (le_1 rfl (le_1 (ei (tmA_f (fun z => c30 z.2))) (le_1 e_1 le_n)))) (ih (i + 1) ?_ ?_)
        · try dsimp only
          omega
        · try dsimp only
          omega
      · refine g_iconst (v := 1) X dX0_areTooMany_33 rfl ?_
        refine g_goto (tgt := 38) X dX0_areTooMany_34 rfl ?_
        refine g_iadd X dX0_areTooMany_38 ?_
        refine g_istore_n X dX0_areTooMany_39 (Nat.le_of_ble_eq_true rfl) ?_
        refine g_iinc (v := 1) X dX0_areTooMany_40 rfl rfl (Nat.le_of_ble_eq_true rfl) ?_
        refine g_goto (tgt := 4) X dX0_areTooMany_43 rfl ?_
        refine g_sub (le_1 rfl (le_1 rfl (le_1 (ei (tmA_t ⟨c18, c30⟩)) (le_1 e_1 le_n)))) (ih (i + 1) ?_ ?_)
        · try dsimp only
          omega
        · try dsimp only
          omega
set_option maxHeartbeats 600000 in
theorem k_X2_isTooMany {l : Launch} {E : gk_E} (ho : E.2.2.2.2 = true) {S : gk_S} {s : Int32} {nf w : Nat} (h0 : S.1 400 0 = nI nf) (h1 : nf ≤ 5) (hs : s = nI w) (hw : w < 65536) : gk_T l E yX2_isTooMany cX2_isTooMany 4 ((some .boolean)) 1 22 0 0 [.ref (E.2.2.1 3), .int s] S (fun r S' => r = some (.int (bP (tmP (S.1 415) nf s))) ∧ S' = S) := by
  refine gk_T.of [some (.ref (E.2.2.1 3)), some (.int s), none, none] (by decide) (Nat.le_of_ble_eq_true rfl) (le_1 rfl (le_1 rfl (le_p (le_p le_n)))) ?_
  intro p_ e_ R_ s_ m_ args_ below_ meth_ c_ hR X hr hin
  subst hR
  refine g_iconst (v := 0) X dX2_isTooMany_0 rfl ?_
  refine g_istore_n X dX2_isTooMany_1 (Nat.le_of_ble_eq_true rfl) ?_
  refine g_iconst (v := 0) X dX2_isTooMany_2 rfl ?_
  refine g_istore_n X dX2_isTooMany_3 (Nat.le_of_ble_eq_true rfl) ?_
  refine g_loop (σ := Nat) (fun (i : Nat) => S) (fun (i : Nat) => ([some (.ref (E.2.2.1 3)), some (.int s), some (.int (tmA (S.1 415) s i)), some (.int (nI i))] : List (Option Value))) (fun (i : Nat) => i ≤ nf) (fun (i : Nat) => nf - i) (0) ?_ (rfl) (le_1 rfl (le_1 rfl (le_1 rfl (le_1 rfl le_n)))) ?_
  · omega
  intro i hI ih
  try dsimp only at hI ih ⊢
  refine g_iload_n X dX2_isTooMany_4 rfl ?_
  refine g_aload_n X dX2_isTooMany_5 rfl ?_
  refine g_get (C := RX2) (T := TX2) (N := 35) X 0 in_X2 dX2_isTooMany_6 q1405 (rd3 ho) rfl (Nat.le_of_ble_eq_true rfl) (fun _ h9 => h9) rfl ?_
  refine g_iconst (v := 0) X dX2_isTooMany_9 rfl ?_
  refine g_iald (j := 0) X dX2_isTooMany_10 (rdi ho (400) (rfl)) rfl (by decide) (by decide) ?_
  rw [h0]
  refine g_icmp_ge (tgt := 50) X dX2_isTooMany_11 rfl (fun c11 => ?_) (fun c11 => ?_)
  · have hi := out_of (by omega) hI c11
    subst hi
    refine g_iload_n X dX2_isTooMany_50 rfl ?_
    refine g_iload_n X dX2_isTooMany_51 rfl ?_
    refine g_callS X (k_X2_bits ho hs hw) (lw_S q1822 q1823 q139 q1824) hd_X2_bits dX2_isTooMany_52 rfl ⟨Nat.le_of_ble_eq_true rfl, Nat.le_of_ble_eq_true rfl⟩ ⟨Nat.le_of_ble_eq_true rfl, Nat.le_of_ble_eq_true rfl⟩ (Nat.le_of_ble_eq_true rfl) ?_
    rintro _ S1 ⟨rfl, hS1⟩
    obtain rfl := hS1.symm
    refine g_icmp_le (tgt := 62) X dX2_isTooMany_55 rfl (fun c55 => ?_) (fun c55 => ?_)
    · refine g_iconst (v := 0) X dX2_isTooMany_62 rfl ?_
      refine g_zret X hr dX2_isTooMany_63 ?_ (Nat.le_of_ble_eq_true rfl) (Nat.le_of_ble_eq_true rfl) ?_
      · first | rfl | exact nb_bP
      · exact ⟨lb_0 (Int32.not_lt.mpr c55), rfl⟩
    · refine g_iconst (v := 1) X dX2_isTooMany_58 rfl ?_
      refine g_goto (tgt := 63) X dX2_isTooMany_59 rfl ?_
      refine g_zret X hr dX2_isTooMany_63 ?_ (Nat.le_of_ble_eq_true rfl) (Nat.le_of_ble_eq_true rfl) ?_
      · first | rfl | exact nb_bP
      · exact ⟨lb_1 (Int32.not_le.mp c55), rfl⟩
  · have hi : i < nf := in_of (by omega) hI c11
    refine g_iload_n X dX2_isTooMany_14 rfl ?_
    refine g_aload_n X dX2_isTooMany_15 rfl ?_
    refine g_get (C := RX2) (T := TX2) (N := 35) X 34 in_X2 dX2_isTooMany_16 q1439 (rd3 ho) rfl (Nat.le_of_ble_eq_true rfl) (fun _ h9 => h9) rfl ?_
    refine g_iload_n X dX2_isTooMany_19 rfl ?_
    refine g_iald (j := i) X dX2_isTooMany_20 (rdi ho (415) (rfl)) rfl (by omega) (by decide) ?_
    refine g_if_eq (tgt := 41) X dX2_isTooMany_21 rfl (fun c21 => ?_) (fun c21 => ?_)
    · refine g_iconst (v := 0) X dX2_isTooMany_41 rfl ?_
      refine g_iadd X dX2_isTooMany_42 ?_
      refine g_istore_n X dX2_isTooMany_43 (Nat.le_of_ble_eq_true rfl) ?_
      refine g_iinc (v := 1) X dX2_isTooMany_44 rfl rfl (Nat.le_of_ble_eq_true rfl) ?_
      refine g_goto (tgt := 4) X dX2_isTooMany_47 rfl ?_
      refine g_sub (le_1 rfl (le_1 rfl (le_1 (ei (tmA_f (fun z => z.1 c21))) (le_1 e_1 le_n)))) (ih (i + 1) ?_ ?_)
      · try dsimp only
        omega
      · try dsimp only
        omega
    · refine g_aload_n X dX2_isTooMany_24 rfl ?_
      refine g_get (C := RX2) (T := TX2) (N := 35) X 34 in_X2 dX2_isTooMany_25 q1439 (rd3 ho) rfl (Nat.le_of_ble_eq_true rfl) (fun _ h9 => h9) rfl ?_
      refine g_iload_n X dX2_isTooMany_28 rfl ?_
      refine g_iald (j := i) X dX2_isTooMany_29 (rdi ho (415) (rfl)) rfl (by omega) (by decide) ?_
      refine g_iload_n X dX2_isTooMany_30 rfl ?_
      refine g_iconst (v := (-1)) X dX2_isTooMany_31 rfl ?_
      refine g_ixor X dX2_isTooMany_32 ?_
      refine g_iand X dX2_isTooMany_33 ?_
      refine g_if_ne (tgt := 41) X dX2_isTooMany_34 rfl (fun c34 => ?_) (fun c34 => ?_)
      · refine g_iconst (v := 0) X dX2_isTooMany_41 rfl ?_
        refine g_iadd X dX2_isTooMany_42 ?_
        refine g_istore_n X dX2_isTooMany_43 (Nat.le_of_ble_eq_true rfl) ?_
        refine g_iinc (v := 1) X dX2_isTooMany_44 rfl rfl (Nat.le_of_ble_eq_true rfl) ?_
        refine g_goto (tgt := 4) X dX2_isTooMany_47 rfl ?_
        refine g_sub (le_1 rfl (le_1 rfl (le_1 (ei (tmA_f (fun z => c34 z.2))) (le_1 e_1 le_n)))) (ih (i + 1) ?_ ?_)
        · try dsimp only
          omega
        · try dsimp only
          omega
      · refine g_iconst (v := 1) X dX2_isTooMany_37 rfl ?_
        refine g_goto (tgt := 42) X dX2_isTooMany_38 rfl ?_
        refine g_iadd X dX2_isTooMany_42 ?_
        refine g_istore_n X dX2_isTooMany_43 (Nat.le_of_ble_eq_true rfl) ?_
        refine g_iinc (v := 1) X dX2_isTooMany_44 rfl rfl (Nat.le_of_ble_eq_true rfl) ?_
        refine g_goto (tgt := 4) X dX2_isTooMany_47 rfl ?_
        refine g_sub (le_1 rfl (le_1 rfl (le_1 (ei (tmA_t ⟨c21, c34⟩)) (le_1 e_1 le_n)))) (ih (i + 1) ?_ ?_)
        · try dsimp only
          omega
        · try dsimp only
          omega
set_option maxHeartbeats 600000 in
theorem k_X0_wantedSet {l : Launch} {E : gk_E} (ho : E.2.2.2.2 = true) {S : gk_S}  {nf : Nat} (h0 : S.1 10 0 = nI nf) (h1 : nf ≤ 5) : gk_T l E yX0_wantedSet cX0_wantedSet 3 ((some .int)) 2 48 0 0 [.ref (E.2.2.1 0)] S (fun r S' => r = some (.int (lsC (fun s => tmP (fun i => whV (S.1 (20 + i)) (S.1 307)) nf s) 31)) ∧ S' = S) := by
  refine gk_T.of [some (.ref (E.2.2.1 0)), none, none] (by decide) (Nat.le_of_ble_eq_true rfl) (le_1 rfl (le_p (le_p le_n))) ?_
  intro p_ e_ R_ s_ m_ args_ below_ meth_ c_ hR X hr hin
  subst hR
  refine g_iconst (v := (-1)) X dX0_wantedSet_0 rfl ?_
  refine g_istore_n X dX0_wantedSet_1 (Nat.le_of_ble_eq_true rfl) ?_
  refine g_iconst (v := 1) X dX0_wantedSet_2 rfl ?_
  refine g_istore_n X dX0_wantedSet_3 (Nat.le_of_ble_eq_true rfl) ?_
  refine g_loop (σ := Nat) (fun (i : Nat) => S) (fun (i : Nat) => ([some (.ref (E.2.2.1 0)), some (.int (lsC (fun s => tmP (fun i => whV (S.1 (20 + i)) (S.1 307)) nf s) i)), some (.int (nI (1 + i)))] : List (Option Value))) (fun (i : Nat) => i ≤ 31) (fun (i : Nat) => 31 - i) (0) ?_ (rfl) (le_1 rfl (le_1 rfl (le_1 rfl le_n))) ?_
  · omega
  intro i hI ih
  try dsimp only at hI ih ⊢
  refine g_iload_n X dX0_wantedSet_4 rfl ?_
  refine g_bipush (v := 32) X dX0_wantedSet_5 rfl ?_
  refine g_icmp_ge (tgt := 42) X dX0_wantedSet_7 rfl (fun c7 => ?_) (fun c7 => ?_)
  · have hi : i = 31 := by
      have := out_of (n := 32) (by omega) (by omega) c7
      omega
    subst hi
    refine g_iload_n X dX0_wantedSet_42 rfl ?_
    exact g_iret X hr dX0_wantedSet_43 (Nat.le_of_ble_eq_true rfl) (Nat.le_of_ble_eq_true rfl) (⟨rfl, rfl⟩)
  · have hi : 1 + i < 32 := in_of (n := 32) (by omega) (by omega) c7
    refine g_aload_n X dX0_wantedSet_10 rfl ?_
    refine g_iload_n X dX0_wantedSet_11 rfl ?_
    refine g_callV (C := RX0) (T := TX0) (N := 13) X (k_X0_areTooMany ho h0 h1) (lw_V q1328 q1330 qs55 q135 q1331) hd_X0_areTooMany dX0_wantedSet_12 (rd0 ho) rfl rfl ⟨Nat.le_of_ble_eq_true rfl, Nat.le_of_ble_eq_true rfl⟩ ⟨Nat.le_of_ble_eq_true rfl, Nat.le_of_ble_eq_true rfl⟩ (Nat.le_of_ble_eq_true rfl) ?_
    rintro _ S1 ⟨rfl, hS1⟩
    obtain rfl := hS1.symm
    refine g_ifp_eq (tgt := 36) X dX0_wantedSet_15 rfl (fun c15 => ?_) (fun c15 => ?_)
    · refine g_iinc (v := 1) X dX0_wantedSet_36 rfl rfl (Nat.le_of_ble_eq_true rfl) ?_
      refine g_goto (tgt := 4) X dX0_wantedSet_39 rfl ?_
      refine g_sub (le_1 rfl (le_1 (ei (lsC_f (P := (fun s => tmP (fun i => whV (S.1 (20 + i)) (S.1 307)) nf s)) (fun z => c15 z.1))) (le_1 (ei (by rw [nI_1]; rfl)) le_n))) (ih (i + 1) ?_ ?_)
      · try dsimp only
        omega
      · try dsimp only
        omega
    · refine g_iload_n X dX0_wantedSet_18 rfl ?_
      refine g_iconst (v := (-1)) X dX0_wantedSet_19 rfl ?_
      refine g_icmp_eq (tgt := 34) X dX0_wantedSet_20 rfl (fun c20 => ?_) (fun c20 => ?_)
      · refine g_iload_n X dX0_wantedSet_34 rfl ?_
        refine g_istore_n X dX0_wantedSet_35 (Nat.le_of_ble_eq_true rfl) ?_
        refine g_iinc (v := 1) X dX0_wantedSet_36 rfl rfl (Nat.le_of_ble_eq_true rfl) ?_
        refine g_goto (tgt := 4) X dX0_wantedSet_39 rfl ?_
        refine g_sub (le_1 rfl (le_1 (ei (lsC_t (P := (fun s => tmP (fun i => whV (S.1 (20 + i)) (S.1 307)) nf s)) ⟨c15, Or.inl c20⟩)) (le_1 (ei (by rw [nI_1]; rfl)) le_n))) (ih (i + 1) ?_ ?_)
        · try dsimp only
          omega
        · try dsimp only
          omega
      · refine g_iload_n X dX0_wantedSet_23 rfl ?_
        refine g_callS X (k_J13_bitCount ho) (lw_S q1068 q1069 q163 q1070) hd_J13_bitCount dX0_wantedSet_24 rfl ⟨Nat.le_of_ble_eq_true rfl, Nat.le_of_ble_eq_true rfl⟩ ⟨Nat.le_of_ble_eq_true rfl, Nat.le_of_ble_eq_true rfl⟩ (Nat.le_of_ble_eq_true rfl) ?_
        rintro _ S1 ⟨rfl, hS1⟩
        obtain rfl := hS1.symm
        refine g_iload_n X dX0_wantedSet_27 rfl ?_
        refine g_callS X (k_J13_bitCount ho) (lw_S q1068 q1069 q163 q1070) hd_J13_bitCount dX0_wantedSet_28 rfl ⟨Nat.le_of_ble_eq_true rfl, Nat.le_of_ble_eq_true rfl⟩ ⟨Nat.le_of_ble_eq_true rfl, Nat.le_of_ble_eq_true rfl⟩ (Nat.le_of_ble_eq_true rfl) ?_
        rintro _ S1 ⟨rfl, hS1⟩
        obtain rfl := hS1.symm
        refine g_icmp_ge (tgt := 36) X dX0_wantedSet_31 rfl (fun c31 => ?_) (fun c31 => ?_)
        · refine g_iinc (v := 1) X dX0_wantedSet_36 rfl rfl (Nat.le_of_ble_eq_true rfl) ?_
          refine g_goto (tgt := 4) X dX0_wantedSet_39 rfl ?_
          refine g_sub (le_1 rfl (le_1 (ei (lsC_f (P := (fun s => tmP (fun i => whV (S.1 (20 + i)) (S.1 307)) nf s)) (fun z => z.2.elim c20 (Int32.not_lt.mpr c31)))) (le_1 (ei (by rw [nI_1]; rfl)) le_n))) (ih (i + 1) ?_ ?_)
          · try dsimp only
            omega
          · try dsimp only
            omega
        · refine g_iload_n X dX0_wantedSet_34 rfl ?_
          refine g_istore_n X dX0_wantedSet_35 (Nat.le_of_ble_eq_true rfl) ?_
          refine g_iinc (v := 1) X dX0_wantedSet_36 rfl rfl (Nat.le_of_ble_eq_true rfl) ?_
          refine g_goto (tgt := 4) X dX0_wantedSet_39 rfl ?_
          refine g_sub (le_1 rfl (le_1 (ei (lsC_t (P := (fun s => tmP (fun i => whV (S.1 (20 + i)) (S.1 307)) nf s)) ⟨c15, Or.inr (Int32.not_le.mp c31)⟩)) (le_1 (ei (by rw [nI_1]; rfl)) le_n))) (ih (i + 1) ?_ ?_)
          · try dsimp only
            omega
          · try dsimp only
            omega
theorem dn31 {i : Nat} (h : i < 31) : nI (31 - i) + -1 = nI (31 - (i + 1)) := by
  obtain ⟨q, hq⟩ : ∃ q, 31 - i = q + 1 := ⟨31 - i - 1, by omega⟩
  rw [show 31 - (i + 1) = q by omega, hq]
  exact (Int32.sub_eq_add_neg ..).symm.trans (nI_pred q)
theorem lsM_lt {P : Int32 → Prop} [∀ s, Decidable (P s)] {i : Nat} (hi : i ≤ 31) (h : ¬ lsM P i = -1) : ∃ v, v < 65536 ∧ lsM P i = nI v := by
  rcases lsM_in (P := P) i hi with ⟨e, _⟩ | ⟨v, v1, v2, e, _⟩
  · exact absurd e h
  · exact ⟨v, by omega, e⟩
set_option maxHeartbeats 600000 in
theorem k_X2_tooMany {l : Launch} {E : gk_E} (ho : E.2.2.2.2 = true) {S : gk_S}  {nf : Nat} (h0 : S.1 400 0 = nI nf) (h1 : nf ≤ 5) : gk_T l E yX2_tooMany cX2_tooMany 3 ((some .int)) 2 45 0 0 [.ref (E.2.2.1 3)] S (fun r S' => r = some (.int (lsC (fun s => tmP (S.1 415) nf s) 31)) ∧ S' = S) := by
  refine gk_T.of [some (.ref (E.2.2.1 3)), none, none] (by decide) (Nat.le_of_ble_eq_true rfl) (le_1 rfl (le_p (le_p le_n))) ?_
  intro p_ e_ R_ s_ m_ args_ below_ meth_ c_ hR X hr hin
  subst hR
  refine g_iconst (v := (-1)) X dX2_tooMany_0 rfl ?_
  refine g_istore_n X dX2_tooMany_1 (Nat.le_of_ble_eq_true rfl) ?_
  refine g_bipush (v := 31) X dX2_tooMany_2 rfl ?_
  refine g_istore_n X dX2_tooMany_4 (Nat.le_of_ble_eq_true rfl) ?_
  refine g_loop (σ := Nat) (fun (i : Nat) => S) (fun (i : Nat) => ([some (.ref (E.2.2.1 3)), some (.int (lsM (fun s => tmP (S.1 415) nf s) i)), some (.int (nI (31 - i)))] : List (Option Value))) (fun (i : Nat) => i ≤ 31) (fun (i : Nat) => 31 - i) (0) ?_ (rfl) (le_1 rfl (le_1 rfl (le_1 rfl le_n))) ?_
  · omega
  intro i hI ih
  try dsimp only at hI ih ⊢
  refine g_iload_n X dX2_tooMany_5 rfl ?_
  refine g_if_le (tgt := 41) X dX2_tooMany_6 rfl (fun c6 => ?_) (fun c6 => ?_)
  · have hi : i = 31 := by
      have z := (nI_leI (a := 31 - i) (b := 0) (by omega) (by decide)).mp c6
      omega
    subst hi
    refine g_eq (S2 := S) rfl ?_
    refine g_iload_n X dX2_tooMany_41 rfl ?_
    exact g_iret X hr dX2_tooMany_42 (Nat.le_of_ble_eq_true rfl) (Nat.le_of_ble_eq_true rfl) (⟨by rw [← lsM_C], rfl⟩)
  · have hi : i < 31 := by
      rcases Nat.lt_or_ge i 31 with z | z
      · exact z
      · exact absurd (by rw [show 31 - i = 0 by omega]; decide) c6
    refine g_aload_n X dX2_tooMany_9 rfl ?_
    refine g_iload_n X dX2_tooMany_10 rfl ?_
    refine g_callV (C := RX2) (T := TX2) (N := 35) X (k_X2_isTooMany ho h0 h1 rfl (by omega)) (lw_V q2058 q2060 qs131 q139 q2061) hd_X2_isTooMany dX2_tooMany_11 (rd3 ho) rfl rfl ⟨Nat.le_of_ble_eq_true rfl, Nat.le_of_ble_eq_true rfl⟩ ⟨Nat.le_of_ble_eq_true rfl, Nat.le_of_ble_eq_true rfl⟩ (Nat.le_of_ble_eq_true rfl) ?_
    rintro _ S1 ⟨rfl, hS1⟩
    obtain rfl := hS1.symm
    refine g_ifp_eq (tgt := 35) X dX2_tooMany_14 rfl (fun c14 => ?_) (fun c14 => ?_)
    · refine g_iinc (v := (-1)) X dX2_tooMany_35 rfl rfl (Nat.le_of_ble_eq_true rfl) ?_
      refine g_goto (tgt := 5) X dX2_tooMany_38 rfl ?_
      refine g_sub (le_1 rfl (le_1 (ei (lsM_f (P := (fun s => tmP (S.1 415) nf s)) (fun z => c14 z.1))) (le_1 (ei (dn31 hi)) le_n))) (ih (i + 1) ?_ ?_)
      · try dsimp only
        omega
      · try dsimp only
        omega
    · refine g_iload_n X dX2_tooMany_17 rfl ?_
      refine g_iconst (v := (-1)) X dX2_tooMany_18 rfl ?_
      refine g_icmp_eq (tgt := 33) X dX2_tooMany_19 rfl (fun c19 => ?_) (fun c19 => ?_)
      · refine g_iload_n X dX2_tooMany_33 rfl ?_
        refine g_istore_n X dX2_tooMany_34 (Nat.le_of_ble_eq_true rfl) ?_
        refine g_iinc (v := (-1)) X dX2_tooMany_35 rfl rfl (Nat.le_of_ble_eq_true rfl) ?_
        refine g_goto (tgt := 5) X dX2_tooMany_38 rfl ?_
        refine g_sub (le_1 rfl (le_1 (ei (lsM_t (P := (fun s => tmP (S.1 415) nf s)) ⟨c14, Or.inl c19⟩)) (le_1 (ei (dn31 hi)) le_n))) (ih (i + 1) ?_ ?_)
        · try dsimp only
          omega
        · try dsimp only
          omega
      · obtain ⟨v, hv, hv2⟩ := lsM_lt (P := (fun s => tmP (S.1 415) nf s)) hI c19
        refine g_iload_n X dX2_tooMany_22 rfl ?_
        refine g_callS X (k_X2_bits ho rfl (by omega)) (lw_S q1822 q1823 q139 q1824) hd_X2_bits dX2_tooMany_23 rfl ⟨Nat.le_of_ble_eq_true rfl, Nat.le_of_ble_eq_true rfl⟩ ⟨Nat.le_of_ble_eq_true rfl, Nat.le_of_ble_eq_true rfl⟩ (Nat.le_of_ble_eq_true rfl) ?_
        rintro _ S1 ⟨rfl, hS1⟩
        obtain rfl := hS1.symm
        refine g_iload_n X dX2_tooMany_26 rfl ?_
        refine g_callS X (k_X2_bits ho hv2 hv) (lw_S q1822 q1823 q139 q1824) hd_X2_bits dX2_tooMany_27 rfl ⟨Nat.le_of_ble_eq_true rfl, Nat.le_of_ble_eq_true rfl⟩ ⟨Nat.le_of_ble_eq_true rfl, Nat.le_of_ble_eq_true rfl⟩ (Nat.le_of_ble_eq_true rfl) ?_
        rintro _ S1 ⟨rfl, hS1⟩
        obtain rfl := hS1.symm
        refine g_icmp_gt (tgt := 35) X dX2_tooMany_30 rfl (fun c30 => ?_) (fun c30 => ?_)
        · refine g_iinc (v := (-1)) X dX2_tooMany_35 rfl rfl (Nat.le_of_ble_eq_true rfl) ?_
          refine g_goto (tgt := 5) X dX2_tooMany_38 rfl ?_
          refine g_sub (le_1 rfl (le_1 (ei (lsM_f (P := (fun s => tmP (S.1 415) nf s)) (fun z => z.2.elim c19 (Int32.not_le.mpr c30)))) (le_1 (ei (dn31 hi)) le_n))) (ih (i + 1) ?_ ?_)
          · try dsimp only
            omega
          · try dsimp only
            omega
        · refine g_iload_n X dX2_tooMany_33 rfl ?_
          refine g_istore_n X dX2_tooMany_34 (Nat.le_of_ble_eq_true rfl) ?_
          refine g_iinc (v := (-1)) X dX2_tooMany_35 rfl rfl (Nat.le_of_ble_eq_true rfl) ?_
          refine g_goto (tgt := 5) X dX2_tooMany_38 rfl ?_
          refine g_sub (le_1 rfl (le_1 (ei (lsM_t (P := (fun s => tmP (S.1 415) nf s)) ⟨c14, Or.inr (Int32.not_lt.mp c30)⟩)) (le_1 (ei (dn31 hi)) le_n))) (ih (i + 1) ?_ ?_)
          · try dsimp only
            omega
          · try dsimp only
            omega
