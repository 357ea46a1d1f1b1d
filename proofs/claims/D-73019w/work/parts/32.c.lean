/-- a Text of the component: how many claims, their tables -/
def txo (E : gk_E) (S : gk_S) (a : Nat) (nc : Int32) (f : Nat → Int32) : Prop := ∃ (w : Value) (tb dl : Nat) (cl : Int32), S.2.2.2 a = some (.inr (4, [w, .ref tb, .int nc, .int cl, .ref dl])) ∧ S.2.2.2 tb = some (.inl (E.2.1 0, 8, .inl f))
/-- the rules in force: the Text at a, of n claims with the tables f -/
def RU (E : gk_E) (S : gk_S) (a n : Nat) (f : Nat → Int32) : Prop := n ≤ 8 ∧ ((S.1 10 2 = -1 ∧ a = E.2.2.1 900) ∨ ∃ j, j < 4 ∧ S.1 10 2 = nI j ∧ S.2.2.1 0 j = some a) ∧ txo E S a (nI n) f
/-- the same of the model: f's values are the tables -/
def MU (S : gk_S) (n : Nat) (f : Nat → Int32) : Prop := n ≤ 8 ∧ ((S.1 400 2 = -1 ∧ n = 0) ∨ ∃ j, j < 4 ∧ S.1 400 2 = nI j ∧ S.1 402 (714 * j + 705) = nI n ∧ ∀ c, c < 8 → f c = S.1 402 (714 * j + 706 + c))
theorem nI_ne_m1 {j : Nat} (h : j < 2 ^ 31) : ¬ nI j = -1 := by
  intro z
  have := nI_pos h
  rw [z] at this
  exact this (by decide)
theorem t714 : ∀ {j : Nat}, j < 4 → 714 * nI j = nI (714 * j) := by decide
/-- worlds in which all of a set of claims hold -/
def wo (n : Nat) (f : Nat → Int32) (b : Int32) : Int32 := itr (fun c a => if hs b (nI c) then a &&& f c else a) n 65535
theorem wo_s {n : Nat} {f : Nat → Int32} {b : Int32} : itr (fun c a => if hs b (nI c) then a &&& f c else a) (n + 1) 65535 = if hs b (nI n) then itr (fun c a => if hs b (nI c) then a &&& f c else a) n 65535 &&& f n else itr (fun c a => if hs b (nI c) then a &&& f c else a) n 65535 := rfl
abbrev woi (n : Nat) (f : Nat → Int32) (b : Int32) : Int32 := itr (fun c a => if hs b (nI c) then a &&& f c else a) n 65535
/-- all of n claims -/
def alC (n : Nat) : Int32 := one (nI n) - 1
set_option maxHeartbeats 600000 in
theorem k_X0_rules {l : Launch} {E : gk_E} (ho : E.2.2.2.2 = true) {S : gk_S}  {a n : Nat} {f : Nat → Int32} (hu : RU E S a n f) : gk_T l E yX0_rules cX0_rules 1 ((some (.object "SownByArgument$Text"))) 0 0 0 0 [.ref (E.2.2.1 0)] S (fun r S' => r = some (.ref a) ∧ S' = S) := by
  refine gk_T.of [some (.ref (E.2.2.1 0))] (by decide) (Nat.le_of_ble_eq_true rfl) (fun _ _ h => h) ?_
  intro p_ e_ R_ s_ m_ args_ below_ meth_ c_ hR X hr hin
  subst hR
  obtain ⟨hn8, hcase, w0, tb, dl, cl, ht1, ht2⟩ := hu
  refine g_aload_n X dX0_rules_0 rfl ?_
  refine g_get (C := RX0) (T := TX0) (N := 13) X 0 in_X0 dX0_rules_1 q241 (rd0 ho) rfl (Nat.le_of_ble_eq_true rfl) (fun _ h9 => h9) rfl ?_
  refine g_getN (C := RX1) (T := TX1) (N := 8) X 0 in_X1 dX0_rules_4 q195 (rd1 ho) rfl (Nat.le_of_ble_eq_true rfl) (fun _ h9 => h9) rfl ?_
  refine g_iconst (v := 2) X dX0_rules_7 rfl ?_
  refine g_iald (j := 2) X dX0_rules_8 (rdi ho (10) (rfl)) rfl (by decide) (by decide) ?_
  refine g_iconst (v := (-1)) X dX0_rules_9 rfl ?_
  refine g_icmp_ne (tgt := 19) X dX0_rules_10 rfl (fun c10 => ?_) (fun c10 => ?_)
  · obtain ⟨j, hj, e1, e2⟩ := hcase.resolve_left (fun z => c10 z.1)
    refine g_aload_n X dX0_rules_19 rfl ?_
    refine g_get (C := RX0) (T := TX0) (N := 13) X 0 in_X0 dX0_rules_20 q241 (rd0 ho) rfl (Nat.le_of_ble_eq_true rfl) (fun _ h9 => h9) rfl ?_
    refine g_getN (C := RX1) (T := TX1) (N := 8) X 7 in_X1 dX0_rules_23 q209 (rd1 ho) rfl (Nat.le_of_ble_eq_true rfl) (fun _ h9 => h9) rfl ?_
    refine g_aload_n X dX0_rules_26 rfl ?_
    refine g_get (C := RX0) (T := TX0) (N := 13) X 0 in_X0 dX0_rules_27 q241 (rd0 ho) rfl (Nat.le_of_ble_eq_true rfl) (fun _ h9 => h9) rfl ?_
    refine g_getN (C := RX1) (T := TX1) (N := 8) X 0 in_X1 dX0_rules_30 q195 (rd1 ho) rfl (Nat.le_of_ble_eq_true rfl) (fun _ h9 => h9) rfl ?_
    refine g_iconst (v := 2) X dX0_rules_33 rfl ?_
    refine g_iald (j := 2) X dX0_rules_34 (rdi ho (10) (rfl)) rfl (by decide) (by decide) ?_
    refine g_aald (t := 5) (j := j) X dX0_rules_35 (rd17 ho) rfl rfl e1 hj (by decide) (v := .ref a) (by rw [e2]; rfl) ?_
    exact g_aret X hr (by first | exact Or.inl ⟨_, rfl⟩ | exact Or.inr ⟨_, rfl⟩) dX0_rules_36 (Nat.le_of_ble_eq_true rfl) (Nat.le_of_ble_eq_true rfl) (⟨rfl, rfl⟩)
  · refine g_gets (C := "SownByArgument") (n := "NOTHING") (d := "LSownByArgument$Text;") X dX0_rules_13 q1023 (List.mem_cons_self) (fun _ h9 => h9) ?_
    refine g_goto (tgt := 36) X dX0_rules_16 rfl ?_
    exact g_aret X hr (by first | exact Or.inl ⟨_, rfl⟩ | exact Or.inr ⟨_, rfl⟩) dX0_rules_36 (Nat.le_of_ble_eq_true rfl) (Nat.le_of_ble_eq_true rfl) (⟨by rcases hcase with ⟨_, z⟩ | ⟨j, hj, z, _⟩; exact congrArg (fun q => some (Value.ref q)) z.symm; exact absurd (z.symm.trans c10) (nI_ne_m1 (by omega)), rfl⟩)
set_option maxHeartbeats 600000 in
theorem k_X0_claims {l : Launch} {E : gk_E} (ho : E.2.2.2.2 = true) {S : gk_S}  {a n : Nat} {f : Nat → Int32} (hu : RU E S a n f) : gk_T l E yX0_claims cX0_claims 1 ((some .int)) 1 20 0 0 [.ref (E.2.2.1 0)] S (fun r S' => r = some (.int (nI n)) ∧ S' = S) := by
  refine gk_T.of [some (.ref (E.2.2.1 0))] (by decide) (Nat.le_of_ble_eq_true rfl) (fun _ _ h => h) ?_
  intro p_ e_ R_ s_ m_ args_ below_ meth_ c_ hR X hr hin
  subst hR
  obtain ⟨hn8, hcase, w0, tb, dl, cl, ht1, ht2⟩ := id hu
  refine g_aload_n X dX0_claims_0 rfl ?_
  refine g_callV (C := RX0) (T := TX0) (N := 13) X (k_X0_rules ho hu) (lw_V q1019 q1021 qs28 q135 q1022) hd_X0_rules dX0_claims_1 (rd0 ho) rfl rfl ⟨Nat.le_of_ble_eq_true rfl, Nat.le_of_ble_eq_true rfl⟩ ⟨Nat.le_of_ble_eq_true rfl, Nat.le_of_ble_eq_true rfl⟩ (Nat.le_of_ble_eq_true rfl) ?_
  rintro _ S1 ⟨rfl, hS1⟩
  obtain rfl := hS1.symm
  refine g_getN (C := RX4) (T := TX4) (N := 5) X 2 in_X4 dX0_claims_4 q395 (rd_dy ht1) rfl (Nat.le_of_ble_eq_true rfl) (fun _ h9 => h9) rfl ?_
  exact g_iret X hr dX0_claims_7 (Nat.le_of_ble_eq_true rfl) (Nat.le_of_ble_eq_true rfl) (⟨rfl, rfl⟩)
set_option maxHeartbeats 600000 in
theorem k_X0_isClaim {l : Launch} {E : gk_E} (ho : E.2.2.2.2 = true) {S : gk_S} {c : Int32} {a n : Nat} {f : Nat → Int32} (hu : RU E S a n f) : gk_T l E yX0_isClaim cX0_isClaim 2 ((some .boolean)) 2 40 0 0 [.ref (E.2.2.1 0), .int c] S (fun r S' => r = some (.int (bP (0 ≤ c ∧ c ≤ nI n - 1))) ∧ S' = S) := by
  refine gk_T.of [some (.ref (E.2.2.1 0)), some (.int c)] (by decide) (Nat.le_of_ble_eq_true rfl) (fun _ _ h => h) ?_
  intro p_ e_ R_ s_ m_ args_ below_ meth_ c_ hR X hr hin
  subst hR
  refine g_iload_n X dX0_isClaim_0 rfl ?_
  refine g_iconst (v := 0) X dX0_isClaim_1 rfl ?_
  refine g_aload_n X dX0_isClaim_2 rfl ?_
  refine g_callV (C := RX0) (T := TX0) (N := 13) X (k_X0_claims ho hu) (lw_V q1015 q1017 qs27 q135 q1018) hd_X0_claims dX0_isClaim_3 (rd0 ho) rfl rfl ⟨Nat.le_of_ble_eq_true rfl, Nat.le_of_ble_eq_true rfl⟩ ⟨Nat.le_of_ble_eq_true rfl, Nat.le_of_ble_eq_true rfl⟩ (Nat.le_of_ble_eq_true rfl) ?_
  rintro _ S1 ⟨rfl, hS1⟩
  obtain rfl := hS1.symm
  refine g_iconst (v := 1) X dX0_isClaim_6 rfl ?_
  refine g_isub X dX0_isClaim_7 ?_
  refine g_callS X (k_X0_in ho) (lw_S q291 q292 q135 q293) hd_X0_in dX0_isClaim_8 rfl ⟨Nat.le_of_ble_eq_true rfl, Nat.le_of_ble_eq_true rfl⟩ ⟨Nat.le_of_ble_eq_true rfl, Nat.le_of_ble_eq_true rfl⟩ (Nat.le_of_ble_eq_true rfl) ?_
  rintro _ S1 ⟨rfl, hS1⟩
  obtain rfl := hS1.symm
  refine g_zret X hr dX0_isClaim_11 ?_ (Nat.le_of_ble_eq_true rfl) (Nat.le_of_ble_eq_true rfl) ?_
  · first | rfl | exact nb_bP
  · exact ⟨rfl, rfl⟩
set_option maxHeartbeats 600000 in
theorem k_X0_allClaims {l : Launch} {E : gk_E} (ho : E.2.2.2.2 = true) {S : gk_S}  {a n : Nat} {f : Nat → Int32} (hu : RU E S a n f) : gk_T l E yX0_allClaims cX0_allClaims 1 ((some .int)) 2 40 0 0 [.ref (E.2.2.1 0)] S (fun r S' => r = some (.int (alC n)) ∧ S' = S) := by
  refine gk_T.of [some (.ref (E.2.2.1 0))] (by decide) (Nat.le_of_ble_eq_true rfl) (fun _ _ h => h) ?_
  intro p_ e_ R_ s_ m_ args_ below_ meth_ c_ hR X hr hin
  subst hR
  refine g_iconst (v := 1) X dX0_allClaims_0 rfl ?_
  refine g_aload_n X dX0_allClaims_1 rfl ?_
  refine g_callV (C := RX0) (T := TX0) (N := 13) X (k_X0_claims ho hu) (lw_V q1015 q1017 qs27 q135 q1018) hd_X0_claims dX0_allClaims_2 (rd0 ho) rfl rfl ⟨Nat.le_of_ble_eq_true rfl, Nat.le_of_ble_eq_true rfl⟩ ⟨Nat.le_of_ble_eq_true rfl, Nat.le_of_ble_eq_true rfl⟩ (Nat.le_of_ble_eq_true rfl) ?_
  rintro _ S1 ⟨rfl, hS1⟩
  obtain rfl := hS1.symm
  refine g_ishl X dX0_allClaims_5 ?_
  refine g_iconst (v := 1) X dX0_allClaims_6 rfl ?_
  refine g_isub X dX0_allClaims_7 ?_
  exact g_iret X hr dX0_allClaims_8 (Nat.le_of_ble_eq_true rfl) (Nat.le_of_ble_eq_true rfl) (⟨rfl, rfl⟩)
set_option maxHeartbeats 600000 in
theorem k_X0_areClaims {l : Launch} {E : gk_E} (ho : E.2.2.2.2 = true) {S : gk_S} {b : Int32} {a n : Nat} {f : Nat → Int32} (hu : RU E S a n f) : gk_T l E yX0_areClaims cX0_areClaims 2 ((some .boolean)) 3 60 0 0 [.ref (E.2.2.1 0), .int b] S (fun r S' => r = some (.int (bP (0 ≤ b ∧ b ≤ alC n))) ∧ S' = S) := by
  refine gk_T.of [some (.ref (E.2.2.1 0)), some (.int b)] (by decide) (Nat.le_of_ble_eq_true rfl) (fun _ _ h => h) ?_
  intro p_ e_ R_ s_ m_ args_ below_ meth_ c_ hR X hr hin
  subst hR
  refine g_iload_n X dX0_areClaims_0 rfl ?_
  refine g_iconst (v := 0) X dX0_areClaims_1 rfl ?_
  refine g_aload_n X dX0_areClaims_2 rfl ?_
  refine g_callV (C := RX0) (T := TX0) (N := 13) X (k_X0_allClaims ho hu) (lw_V q1039 q1041 qs31 q135 q1042) hd_X0_allClaims dX0_areClaims_3 (rd0 ho) rfl rfl ⟨Nat.le_of_ble_eq_true rfl, Nat.le_of_ble_eq_true rfl⟩ ⟨Nat.le_of_ble_eq_true rfl, Nat.le_of_ble_eq_true rfl⟩ (Nat.le_of_ble_eq_true rfl) ?_
  rintro _ S1 ⟨rfl, hS1⟩
  obtain rfl := hS1.symm
  refine g_callS X (k_X0_in ho) (lw_S q291 q292 q135 q293) hd_X0_in dX0_areClaims_6 rfl ⟨Nat.le_of_ble_eq_true rfl, Nat.le_of_ble_eq_true rfl⟩ ⟨Nat.le_of_ble_eq_true rfl, Nat.le_of_ble_eq_true rfl⟩ (Nat.le_of_ble_eq_true rfl) ?_
  rintro _ S1 ⟨rfl, hS1⟩
  obtain rfl := hS1.symm
  refine g_zret X hr dX0_areClaims_9 ?_ (Nat.le_of_ble_eq_true rfl) (Nat.le_of_ble_eq_true rfl) ?_
  · first | rfl | exact nb_bP
  · exact ⟨rfl, rfl⟩
set_option maxHeartbeats 600000 in
theorem k_X0_worldsOf {l : Launch} {E : gk_E} (ho : E.2.2.2.2 = true) {S : gk_S} {b : Int32} {a n : Nat} {f : Nat → Int32} (hu : RU E S a n f) : gk_T l E yX0_worldsOf cX0_worldsOf 4 ((some .int)) 2 40 0 0 [.ref (E.2.2.1 0), .int b] S (fun r S' => r = some (.int (wo n f b)) ∧ S' = S) := by
  refine gk_T.of [some (.ref (E.2.2.1 0)), some (.int b), none, none] (by decide) (Nat.le_of_ble_eq_true rfl) (le_1 rfl (le_1 rfl (le_p (le_p le_n)))) ?_
  intro p_ e_ R_ s_ m_ args_ below_ meth_ c_ hR X hr hin
  subst hR
  have hn8 : n ≤ 8 := hu.1
  refine g_ldc X dX0_worldsOf_0 q1047 ?_
  refine g_istore_n X dX0_worldsOf_2 (Nat.le_of_ble_eq_true rfl) ?_
  refine g_iconst (v := 0) X dX0_worldsOf_3 rfl ?_
  refine g_istore_n X dX0_worldsOf_4 (Nat.le_of_ble_eq_true rfl) ?_
  refine g_loop (σ := Nat) (fun (i : Nat) => S) (fun (i : Nat) => ([some (.ref (E.2.2.1 0)), some (.int b), some (.int (woi i f b)), some (.int (nI i))] : List (Option Value))) (fun (i : Nat) => i ≤ n) (fun (i : Nat) => n - i) (0) ?_ (rfl) (le_1 rfl (le_1 rfl (le_1 rfl (le_1 rfl le_n)))) ?_
  · exact Nat.zero_le _
  intro i hI ih
  try dsimp only at hI ih ⊢
  refine g_iload_n X dX0_worldsOf_5 rfl ?_
  refine g_aload_n X dX0_worldsOf_6 rfl ?_
  refine g_callV (C := RX0) (T := TX0) (N := 13) X (k_X0_claims ho hu) (lw_V q1015 q1017 qs27 q135 q1018) hd_X0_claims dX0_worldsOf_7 (rd0 ho) rfl rfl ⟨Nat.le_of_ble_eq_true rfl, Nat.le_of_ble_eq_true rfl⟩ ⟨Nat.le_of_ble_eq_true rfl, Nat.le_of_ble_eq_true rfl⟩ (Nat.le_of_ble_eq_true rfl) ?_
  rintro _ S1 ⟨rfl, hS1⟩
  obtain rfl := hS1.symm
  refine g_icmp_ge (tgt := 39) X dX0_worldsOf_10 rfl (fun c10 => ?_) (fun c10 => ?_)
  · refine g_iload_n X dX0_worldsOf_39 rfl ?_
    exact g_iret X hr dX0_worldsOf_40 (Nat.le_of_ble_eq_true rfl) (Nat.le_of_ble_eq_true rfl) (⟨by rw [show i = n from Nat.le_antisymm hI ((nI_leI (by omega) (by omega)).mp c10)]; rfl, rfl⟩)
  · have hi : i < n := by
      rcases Nat.lt_or_ge i n with q | q
      · exact q
      · exact absurd (nI_le q (by omega)) c10
    refine g_iload_n X dX0_worldsOf_13 rfl ?_
    refine g_iload_n X dX0_worldsOf_14 rfl ?_
    refine g_callS X (k_X0_has ho) (lw_S q1028 q1029 q135 q1030) hd_X0_has dX0_worldsOf_15 rfl ⟨Nat.le_of_ble_eq_true rfl, Nat.le_of_ble_eq_true rfl⟩ ⟨Nat.le_of_ble_eq_true rfl, Nat.le_of_ble_eq_true rfl⟩ (Nat.le_of_ble_eq_true rfl) ?_
    rintro _ S1 ⟨rfl, hS1⟩
    obtain rfl := hS1.symm
    refine g_ifp_eq (tgt := 33) X dX0_worldsOf_18 rfl (fun c18 => ?_) (fun c18 => ?_)
    · refine g_iinc (v := 1) X dX0_worldsOf_33 rfl rfl (Nat.le_of_ble_eq_true rfl) ?_
      refine g_goto (tgt := 5) X dX0_worldsOf_36 rfl ?_
      refine g_sub (le_1 rfl (le_1 rfl (le_1 (by rw [show woi (i + 1) f b = woi i f b from if_neg c18]) (le_1 e_1 le_n)))) (ih (i + 1) ?_ ?_)
      · omega
      · omega
    · refine g_iload_n X dX0_worldsOf_21 rfl ?_
      obtain ⟨-, -, w0, tb, dl, cl, ht1, ht2⟩ := id hu
      refine g_aload_n X dX0_worldsOf_22 rfl ?_
      refine g_callV (C := RX0) (T := TX0) (N := 13) X (k_X0_rules ho hu) (lw_V q1019 q1021 qs28 q135 q1022) hd_X0_rules dX0_worldsOf_23 (rd0 ho) rfl rfl ⟨Nat.le_of_ble_eq_true rfl, Nat.le_of_ble_eq_true rfl⟩ ⟨Nat.le_of_ble_eq_true rfl, Nat.le_of_ble_eq_true rfl⟩ (Nat.le_of_ble_eq_true rfl) ?_
      rintro _ S1 ⟨rfl, hS1⟩
      obtain rfl := hS1.symm
      refine g_getN (C := RX4) (T := TX4) (N := 5) X 1 in_X4 dX0_worldsOf_26 q393 (rd_dy ht1) rfl (Nat.le_of_ble_eq_true rfl) (fun _ h9 => h9) rfl ?_
      refine g_iload_n X dX0_worldsOf_29 rfl ?_
      refine g_iald (j := i) X dX0_worldsOf_30 (rd_dy ht2) rfl (by omega) (by decide) ?_
      refine g_iand X dX0_worldsOf_31 ?_
      refine g_istore_n X dX0_worldsOf_32 (Nat.le_of_ble_eq_true rfl) ?_
      refine g_iinc (v := 1) X dX0_worldsOf_33 rfl rfl (Nat.le_of_ble_eq_true rfl) ?_
      refine g_goto (tgt := 5) X dX0_worldsOf_36 rfl ?_
      refine g_sub (le_1 rfl (le_1 rfl (le_1 (by rw [show woi (i + 1) f b = woi i f b &&& f i from if_pos c18]) (le_1 e_1 le_n)))) (ih (i + 1) ?_ ?_)
      · omega
      · omega
set_option maxHeartbeats 600000 in
theorem k_X0_heldNow {l : Launch} {E : gk_E} (ho : E.2.2.2.2 = true) {S : gk_S}  {a n q : Nat} {f : Nat → Int32} (hq : gk_kd q = some (0, 122)) (hu : RU E S a n f) : gk_T l E yX0_heldNow cX0_heldNow 2 ((some .int)) 3 60 0 0 [.ref (E.2.2.1 0), .ref (E.2.2.1 q)] S (fun r S' => r = some (.int (S.1 q 2 &&& alC n)) ∧ S' = S) := by
  refine gk_T.of [some (.ref (E.2.2.1 0)), some (.ref (E.2.2.1 q))] (by decide) (Nat.le_of_ble_eq_true rfl) (fun _ _ h => h) ?_
  intro p_ e_ R_ s_ m_ args_ below_ meth_ c_ hR X hr hin
  subst hR
  refine g_aload_n X dX0_heldNow_0 rfl ?_
  refine g_iconst (v := 2) X dX0_heldNow_1 rfl ?_
  refine g_iald (j := 2) X dX0_heldNow_2 (rdi ho (q) (hq)) rfl (by decide) (by decide) ?_
  refine g_aload_n X dX0_heldNow_3 rfl ?_
  refine g_callV (C := RX0) (T := TX0) (N := 13) X (k_X0_allClaims ho hu) (lw_V q1039 q1041 qs31 q135 q1042) hd_X0_allClaims dX0_heldNow_4 (rd0 ho) rfl rfl ⟨Nat.le_of_ble_eq_true rfl, Nat.le_of_ble_eq_true rfl⟩ ⟨Nat.le_of_ble_eq_true rfl, Nat.le_of_ble_eq_true rfl⟩ (Nat.le_of_ble_eq_true rfl) ?_
  rintro _ S1 ⟨rfl, hS1⟩
  obtain rfl := hS1.symm
  refine g_iand X dX0_heldNow_7 ?_
  exact g_iret X hr dX0_heldNow_8 (Nat.le_of_ble_eq_true rfl) (Nat.le_of_ble_eq_true rfl) (⟨rfl, rfl⟩)
set_option maxHeartbeats 600000 in
theorem k_X0_mayHold {l : Launch} {E : gk_E} (ho : E.2.2.2.2 = true) {S : gk_S} {c : Int32} {a n q : Nat} {f : Nat → Int32} (hq : gk_kd q = some (0, 122)) (hu : RU E S a n f) : gk_T l E yX0_mayHold cX0_mayHold 3 ((some .boolean)) 4 81 0 0 [.ref (E.2.2.1 0), .ref (E.2.2.1 q), .int c] S (fun r S' => r = some (.int (bP (wo n f ((S.1 q 2 &&& alC n) ||| one c) ≠ 0))) ∧ S' = S) := by
  refine gk_T.of [some (.ref (E.2.2.1 0)), some (.ref (E.2.2.1 q)), some (.int c)] (by decide) (Nat.le_of_ble_eq_true rfl) (fun _ _ h => h) ?_
  intro p_ e_ R_ s_ m_ args_ below_ meth_ c_ hR X hr hin
  subst hR
  refine g_aload_n X dX0_mayHold_0 rfl ?_
  refine g_aload_n X dX0_mayHold_1 rfl ?_
  refine g_aload_n X dX0_mayHold_2 rfl ?_
  refine g_callV (C := RX0) (T := TX0) (N := 13) X (k_X0_heldNow ho hq hu) (lw_V q1035 q1037 qs30 q135 q1038) hd_X0_heldNow dX0_mayHold_3 (rd0 ho) rfl rfl ⟨Nat.le_of_ble_eq_true rfl, Nat.le_of_ble_eq_true rfl⟩ ⟨Nat.le_of_ble_eq_true rfl, Nat.le_of_ble_eq_true rfl⟩ (Nat.le_of_ble_eq_true rfl) ?_
  rintro _ S1 ⟨rfl, hS1⟩
  obtain rfl := hS1.symm
  refine g_iconst (v := 1) X dX0_mayHold_6 rfl ?_
  refine g_iload_n X dX0_mayHold_7 rfl ?_
  refine g_ishl X dX0_mayHold_8 ?_
  refine g_ior X dX0_mayHold_9 ?_
  refine g_callV (C := RX0) (T := TX0) (N := 13) X (k_X0_worldsOf ho hu) (lw_V q1043 q1045 qs32 q135 q1046) hd_X0_worldsOf dX0_mayHold_10 (rd0 ho) rfl rfl ⟨Nat.le_of_ble_eq_true rfl, Nat.le_of_ble_eq_true rfl⟩ ⟨Nat.le_of_ble_eq_true rfl, Nat.le_of_ble_eq_true rfl⟩ (Nat.le_of_ble_eq_true rfl) ?_
  rintro _ S1 ⟨rfl, hS1⟩
  obtain rfl := hS1.symm
  refine g_if_eq (tgt := 20) X dX0_mayHold_13 rfl (fun c13 => ?_) (fun c13 => ?_)
  · refine g_iconst (v := 0) X dX0_mayHold_20 rfl ?_
    refine g_zret X hr dX0_mayHold_21 ?_ (Nat.le_of_ble_eq_true rfl) (Nat.le_of_ble_eq_true rfl) ?_
    · first | rfl | exact nb_bP
    · exact ⟨lb_0 (by simpa using c13), rfl⟩
  · refine g_iconst (v := 1) X dX0_mayHold_16 rfl ?_
    refine g_goto (tgt := 21) X dX0_mayHold_17 rfl ?_
    refine g_zret X hr dX0_mayHold_21 ?_ (Nat.le_of_ble_eq_true rfl) (Nat.le_of_ble_eq_true rfl) ?_
    · first | rfl | exact nb_bP
    · exact ⟨lb_1 (by simpa using c13), rfl⟩
set_option maxHeartbeats 600000 in
theorem k_X0_drawn {l : Launch} {E : gk_E} (ho : E.2.2.2.2 = true) {S : gk_S} {m : Int32} {q : Nat} (hq : gk_kd q = some (0, 122)) (hm : ¬ m = 0) : gk_T l E yX0_drawn cX0_drawn 3 ((some .int)) 0 0 0 0 [.ref (E.2.2.1 q), .int m] S (fun r S' => r = some (.int (S.1 q 1 - S.1 q 1 / m * m)) ∧ S' = gk_si S q (upd (S.1 q) 1 ((S.1 q 1 * 613 + 487) - (S.1 q 1 * 613 + 487) / 30859 * 30859))) := by
  refine gk_T.of [some (.ref (E.2.2.1 q)), some (.int m), none] (by decide) (Nat.le_of_ble_eq_true rfl) (le_1 rfl (le_1 rfl (le_p le_n))) ?_
  intro p_ e_ R_ s_ m_ args_ below_ meth_ c_ hR X hr hin
  subst hR
  refine g_aload_n X dX0_drawn_0 rfl ?_
  refine g_iconst (v := 1) X dX0_drawn_1 rfl ?_
  refine g_iald (j := 1) X dX0_drawn_2 (rdi ho (q) (hq)) rfl (by decide) (by decide) ?_
  refine g_iload_n X dX0_drawn_3 rfl ?_
  refine g_irem X dX0_drawn_4 hm ?_
  refine g_istore_n X dX0_drawn_5 (Nat.le_of_ble_eq_true rfl) ?_
  refine g_aload_n X dX0_drawn_6 rfl ?_
  refine g_iconst (v := 1) X dX0_drawn_7 rfl ?_
  refine g_aload_n X dX0_drawn_8 rfl ?_
  refine g_iconst (v := 1) X dX0_drawn_9 rfl ?_
  refine g_iald (j := 1) X dX0_drawn_10 (rdi ho (q) (hq)) rfl (by decide) (by decide) ?_
  refine g_sipush (v := 613) X dX0_drawn_11 rfl ?_
  refine g_imul X dX0_drawn_14 ?_
  refine g_sipush (v := 487) X dX0_drawn_15 rfl ?_
  refine g_iadd X dX0_drawn_18 ?_
  refine g_sipush (v := 30859) X dX0_drawn_19 rfl ?_
  refine g_irem X dX0_drawn_22 (by decide) ?_
  refine g_iast X ho (q) (j := 1) dX0_drawn_23 rfl (hq) rfl (by decide) (by decide) ?_
  refine g_iload_n X dX0_drawn_24 rfl ?_
  exact g_iret X hr dX0_drawn_25 (Nat.le_of_ble_eq_true rfl) (Nat.le_of_ble_eq_true rfl) (⟨rfl, rfl⟩)
