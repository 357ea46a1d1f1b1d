/-- the first k with P -/
def fiS (P : Nat → Prop) [DecidablePred P] (n : Nat) : Int32 := itr (fun k r => if r = -1 ∧ P k then nI k else r) n (-1)
theorem fiS_no {P : Nat → Prop} [DecidablePred P] : ∀ {n : Nat}, (∀ j, j < n → ¬ P j) → fiS P n = -1
  | 0, _ => rfl
  | n + 1, h => (if_neg (fun z => h n (by omega) z.2)).trans (fiS_no (n := n) (fun j hj => h j (by omega)))
theorem fiS_at {P : Nat → Prop} [DecidablePred P] {i : Nat} (hi : i < 2 ^ 31) (h1 : P i) (h2 : ∀ j, j < i → ¬ P j) : ∀ {n : Nat}, i < n → fiS P n = nI i
  | 0, h => by omega
  | n + 1, h => by
    rcases Nat.lt_or_ge i n with q | q
    · have e := fiS_at hi h1 h2 q
      exact (if_neg (fun z => nI_ne_m1 hi (by rw [← e]; exact z.1))).trans e
    · have : n = i := by omega
      subst this
      exact if_pos ⟨fiS_no h2, h1⟩
theorem ne_s {P : Nat → Prop} {i : Nat} (h : ∀ j, j < i → ¬ P j) (h2 : ¬ P i) : ∀ j, j < i + 1 → ¬ P j := fun j hj z => by
  rcases Nat.lt_or_ge j i with q | q
  · exact h j q z
  · exact h2 (by rw [show i = j by omega]; exact z)
/-- a claim k wins beside the set s, by the wins W of the greater sets -/
abbrev wnP (n : Nat) (f : Nat → Int32) (s : Int32) (W : Nat → Int32) (k : Nat) : Prop := ¬ hs s (nI k) ∧ wo n f (s ||| one (nI k)) ≠ 0 ∧ W (ix (s ||| one (nI k))) = 0
def wnI (n : Nat) (f : Nat → Int32) (s : Int32) (W : Nat → Int32) (i : Nat) : Nat → Int32 := itr (fun k W => upd W (ix s) (vp_nar .boolean (W (ix s) ||| bP (wnP n f s W k)))) i (upd W (ix s) (vp_nar .boolean 0))
theorem wnI_0 {n : Nat} {f : Nat → Int32} {s : Int32} {W : Nat → Int32} : wnI n f s W 0 = upd W (ix s) (vp_nar .boolean 0) := rfl
theorem wnI_s {n i : Nat} {f : Nat → Int32} {s : Int32} {W : Nat → Int32} : wnI n f s W (i + 1) = upd (wnI n f s W i) (ix s) (vp_nar .boolean (wnI n f s W i (ix s) ||| bP (wnP n f s (wnI n f s W i) i))) := rfl
theorem wnI_t {n i : Nat} {f : Nat → Int32} {s : Int32} {W : Nat → Int32} (h : wnP n f s (wnI n f s W i) i) : wnI n f s W (i + 1) = upd (wnI n f s W i) (ix s) (vp_nar .boolean (wnI n f s W i (ix s) ||| 1)) := by rw [wnI_s, bP_t h]
theorem wnI_f {n i : Nat} {f : Nat → Int32} {s : Int32} {W : Nat → Int32} (h : ¬ wnP n f s (wnI n f s W i) i) : wnI n f s W (i + 1) = upd (wnI n f s W i) (ix s) (vp_nar .boolean (wnI n f s W i (ix s) ||| 0)) := by rw [wnI_s, bP_f h]
/-- the set under way: the i-th from the whole down -/
def dnS (N i : Nat) : Int32 := nI (N - i) - 1
theorem dnS_0 {n : Nat} (h : n ≤ 8) : alC n = dnS (2 ^ n) 0 := by
  rw [(alC_n h).1]
  have : 0 < 2 ^ n := Nat.pow_pos (by decide)
  obtain ⟨q, hq⟩ : ∃ q, 2 ^ n = q + 1 := ⟨2 ^ n - 1, by omega⟩
  unfold dnS
  rw [hq]
  exact (nI_pred q).symm
theorem dnS_s {N i : Nat} (hi : i < N) : dnS N i = nI (N - i - 1) := by
  unfold dnS
  obtain ⟨q, hq⟩ : ∃ q, N - i = q + 1 := ⟨N - i - 1, by omega⟩
  rw [hq]
  exact nI_pred q
theorem dnS_d {N i : Nat} (hi : i < N) : dnS N i + -1 = dnS N (i + 1) := by
  rw [dnS_s hi]
  unfold dnS
  rw [show N - (i + 1) = N - i - 1 by omega]
  rw [Int32.sub_eq_add_neg]
theorem dnS_in {N i : Nat} (h : i ≤ N) (c : ¬ dnS N i < 0) : i < N := by
  rcases Nat.lt_or_ge i N with q | q
  · exact q
  · exact absurd (by unfold dnS; rw [show N - i = 0 by omega]; decide) c
theorem dnS_out {N i : Nat} (hN : N ≤ 256) (h : i ≤ N) (c : dnS N i < 0) : i = N := by
  rcases Nat.lt_or_ge i N with q | q
  · rw [dnS_s q] at c
    exact absurd c (nI_pos (by omega))
  · omega
def wnS (n : Nat) (f : Nat → Int32) (W : Nat → Int32) (i : Nat) : Nat → Int32 := itr (fun i W => wnI n f (dnS (2 ^ n) i) W n) i W
theorem wnS_s {n i : Nat} {f : Nat → Int32} {W : Nat → Int32} : wnS n f W (i + 1) = wnI n f (dnS (2 ^ n) i) (wnS n f W i) n := rfl
theorem or_256 : (List.range 256).all (fun s => (List.range 8).all (fun k => Nat.blt (s ||| 2 ^ k) 256)) = true := by decide +kernel
theorem or_one {s k : Nat} (hs : s < 256) (hk : k < 8) : nI s ||| one (nI k) = nI (s ||| 2 ^ k) ∧ s ||| 2 ^ k < 256 := by
  refine ⟨?_, ?_⟩
  · rw [one_N k (by omega), nx_or]
  · exact Nat.le_of_ble_eq_true (List.all_eq_true.mp (List.all_eq_true.mp or_256 s (List.mem_range.mpr hs)) k (List.mem_range.mpr hk))
theorem or_ix {s : Int32} {k : Nat} (hs : ∃ t, t < 256 ∧ s = nI t) (hk : k < 8) : s ||| one (nI k) = nI (ix (s ||| one (nI k))) ∧ ix (s ||| one (nI k)) < 256 := by
  obtain ⟨t, ht, rfl⟩ := hs
  obtain ⟨e1, e2⟩ := or_one ht hk
  rw [e1, ix_n (by omega)]
  exact ⟨rfl, e2⟩
theorem one_ix : ∀ {k : Nat}, k < 8 → one (nI k) = nI (ix (one (nI k))) ∧ ix (one (nI k)) < 256 := by decide
theorem z_or {x : Int32} : (0 : Int32) ||| x = x := Int32.zero_or
theorem hs_0 : ∀ {k : Nat}, k < 8 → ¬ hs 0 (nI k) := by decide
/-- what a debate answers, by the wins -/
abbrev dbP (n : Nat) (f : Nat → Int32) (W : Nat → Int32) (k : Nat) : Prop := wo n f (one (nI k)) ≠ 0 ∧ W (ix (one (nI k))) = 0
def dbV (n : Nat) (f : Nat → Int32) (q : Int32) (W : Nat → Int32) : Int32 := if q = 0 then (if W 0 = 0 then 0 else 1) else fiS (dbP n f W) n
theorem wn_b {n : Nat} (h : n ≤ 8) : 2 ^ n ≤ 256 := Nat.pow_le_pow_right (by decide) (show n ≤ 8 from h)
theorem dbP_M {n k : Nat} {f W : Nat → Int32} (hk : k < 8) : wnP n f 0 W k ↔ dbP n f W k := by
  unfold wnP dbP
  rw [z_or]
  exact ⟨fun z => z.2, fun z => ⟨hs_0 hk, z⟩⟩
set_option maxHeartbeats 600000 in
theorem k_X0_laysWins {l : Launch} {E : gk_E} (ho : E.2.2.2.2 = true) {S : gk_S}  {a n : Nat} {f : Nat → Int32} (hu : RU E S a n f) : gk_T l E yX0_laysWins cX0_laysWins 3 (none) 4 84 0 0 [.ref (E.2.2.1 0)] S (fun r S' => r = none ∧ S' = gk_si S 305 (wnS n f (S.1 305) (2 ^ n))) := by
  refine gk_T.of [some (.ref (E.2.2.1 0)), none, none] (by decide) (Nat.le_of_ble_eq_true rfl) (le_1 rfl (le_p (le_p le_n))) ?_
  intro p_ e_ R_ s_ m_ args_ below_ meth_ c_ hR X hr hin
  subst hR
  have hn8 : n ≤ 8 := hu.1
  have h256 := wn_b hn8
  refine g_aload_n X dX0_laysWins_0 rfl ?_
  refine g_callV (C := RX0) (T := TX0) (N := 13) X (k_X0_allClaims ho hu) (lw_V q1039 q1041 qs31 q135 q1042) hd_X0_allClaims dX0_laysWins_1 (rd0 ho) rfl rfl ⟨Nat.le_of_ble_eq_true rfl, Nat.le_of_ble_eq_true rfl⟩ ⟨Nat.le_of_ble_eq_true rfl, Nat.le_of_ble_eq_true rfl⟩ (Nat.le_of_ble_eq_true rfl) ?_
  rintro _ S1 ⟨rfl, hS1⟩
  obtain rfl := hS1.symm
  refine g_istore_n X dX0_laysWins_4 (Nat.le_of_ble_eq_true rfl) ?_
  refine g_loop (σ := Nat) (fun (i : Nat) => gk_si S 305 (wnS n f (S.1 305) i)) (fun (i : Nat) => ([some (.ref (E.2.2.1 0)), some (.int (dnS (2 ^ n) i)), none] : List (Option Value))) (fun (i : Nat) => i ≤ 2 ^ n) (fun (i : Nat) => 2 ^ n - i) (0) ?_ (by exact si_id.symm) (le_1 rfl (le_1 (ei (dnS_0 hn8)) (le_0 le_n))) ?_
  · exact Nat.zero_le _
  intro i hI ih
  try dsimp only at hI ih ⊢
  refine g_iload_n X dX0_laysWins_5 rfl ?_
  refine g_if_lt (tgt := 85) X dX0_laysWins_6 rfl (fun c6 => ?_) (fun c6 => ?_)
  · exact g_vret X hr dX0_laysWins_85 (Nat.le_of_ble_eq_true rfl) (Nat.le_of_ble_eq_true rfl) (⟨rfl, by rw [dnS_out h256 hI c6]⟩)
  · have hi : i < 2 ^ n := dnS_in hI c6
    have es := dnS_s hi
    have et : ∃ t, t < 256 ∧ (dnS (2 ^ n) i) = nI t := ⟨_, by omega, es⟩
    have e0 : (0 : Int32) ≤ (dnS (2 ^ n) i) := Int32.not_lt.mp c6
    have e2 : ix (dnS (2 ^ n) i) < 256 := by rw [es, ix_n (by omega)]; omega
    refine g_aload_n X dX0_laysWins_9 rfl ?_
    refine g_get (C := RX0) (T := TX0) (N := 13) X 10 in_X0 dX0_laysWins_10 q251 (rd0 ho) rfl (Nat.le_of_ble_eq_true rfl) (fun _ h9 => h9) rfl ?_
    refine g_iload_n X dX0_laysWins_13 rfl ?_
    refine g_iconst (v := 0) X dX0_laysWins_14 rfl ?_
    refine g_zast X ho (305) (j := ix (dnS (2 ^ n) i)) dX0_laysWins_15 rfl (rfl) (ix_i e0) e2 (by decide) ?_
    refine g_iconst (v := 0) X dX0_laysWins_16 rfl ?_
    refine g_istore_n X dX0_laysWins_17 (Nat.le_of_ble_eq_true rfl) ?_
    refine g_loop (σ := Nat) (fun (k : Nat) => gk_si S 305 (wnI n f (dnS (2 ^ n) i) (wnS n f (S.1 305) i) k)) (fun (k : Nat) => ([some (.ref (E.2.2.1 0)), some (.int (dnS (2 ^ n) i)), some (.int (nI k))] : List (Option Value))) (fun (k : Nat) => k ≤ n) (fun (k : Nat) => n - k) (0) ?_ (by rw [si_si, si_s]; exact congrArg (gk_si S 305) wnI_0.symm) (le_1 rfl (le_1 rfl (le_1 rfl le_n))) ?_
    · exact Nat.zero_le _
    intro k hI2 ih2
    try dsimp only at hI2 ih2 ⊢
    refine g_iload_n X dX0_laysWins_18 rfl ?_
    refine g_aload_n X dX0_laysWins_19 rfl ?_
    refine g_callV (C := RX0) (T := TX0) (N := 13) X (k_X0_claims ho (S := gk_si S 305 _) hu) (lw_V q1015 q1017 qs27 q135 q1018) hd_X0_claims dX0_laysWins_20 (rd0 ho) rfl rfl ⟨Nat.le_of_ble_eq_true rfl, Nat.le_of_ble_eq_true rfl⟩ ⟨Nat.le_of_ble_eq_true rfl, Nat.le_of_ble_eq_true rfl⟩ (Nat.le_of_ble_eq_true rfl) ?_
    rintro _ S1 ⟨rfl, hS1⟩
    obtain rfl := hS1.symm
    refine g_icmp_ge (tgt := 79) X dX0_laysWins_23 rfl (fun c23 => ?_) (fun c23 => ?_)
    · have hk := out_of (by omega) hI2 c23
      subst hk
      refine g_eq (S2 := gk_si S 305 (wnS k f (S.1 305) (i + 1))) rfl ?_
      refine g_iinc (v := (-1)) X dX0_laysWins_79 rfl rfl (Nat.le_of_ble_eq_true rfl) ?_
      refine g_goto (tgt := 5) X dX0_laysWins_82 rfl ?_
      refine g_sub (le_1 rfl (le_1 (ei (dnS_d hi)) (le_0 le_n))) (ih (i + 1) ?_ ?_)
      · try dsimp only
        omega
      · try dsimp only
        omega
    · have hk : k < n := in_of (by omega) hI2 c23
      obtain ⟨o1, o2⟩ := or_ix et (show k < 8 by omega)
      refine g_aload_n X dX0_laysWins_26 rfl ?_
      refine g_get (C := RX0) (T := TX0) (N := 13) X 10 in_X0 dX0_laysWins_27 q251 (rd0 ho) rfl (Nat.le_of_ble_eq_true rfl) (fun _ h9 => h9) rfl ?_
      refine g_iload_n X dX0_laysWins_30 rfl ?_
      refine g_dup2_11 X dX0_laysWins_31 rfl rfl ?_
      refine g_zald (j := ix (dnS (2 ^ n) i)) X dX0_laysWins_32 (rdi ho (305) (rfl)) (ix_i e0) e2 (by decide) ?_
      refine g_iload_n X dX0_laysWins_33 rfl ?_
      refine g_iload_n X dX0_laysWins_34 rfl ?_
      refine g_callS X (k_X0_has ho) (lw_S q1028 q1029 q135 q1030) hd_X0_has dX0_laysWins_35 rfl ⟨Nat.le_of_ble_eq_true rfl, Nat.le_of_ble_eq_true rfl⟩ ⟨Nat.le_of_ble_eq_true rfl, Nat.le_of_ble_eq_true rfl⟩ (Nat.le_of_ble_eq_true rfl) ?_
      rintro _ S1 ⟨rfl, hS1⟩
      obtain rfl := hS1.symm
      refine g_ifp_ne (tgt := 70) X dX0_laysWins_38 rfl (fun c38 => ?_) (fun c38 => ?_)
      · refine g_iconst (v := 0) X dX0_laysWins_70 rfl ?_
        refine g_ior X dX0_laysWins_71 ?_
        refine g_zast X ho (305) (j := ix (dnS (2 ^ n) i)) dX0_laysWins_72 rfl (rfl) (ix_i e0) e2 (by decide) ?_
        refine g_eq (S2 := gk_si S 305 (wnI n f (dnS (2 ^ n) i) (wnS n f (S.1 305) i) (k + 1))) (by rw [si_si, wnI_f (n := n) (f := f) (s := (dnS (2 ^ n) i)) (W := (wnS n f (S.1 305) i)) (fun z => z.1 c38)]; first | rfl | (rw [si_s]; rfl)) ?_
        refine g_iinc (v := 1) X dX0_laysWins_73 rfl rfl (Nat.le_of_ble_eq_true rfl) ?_
        refine g_goto (tgt := 18) X dX0_laysWins_76 rfl ?_
        refine g_sub (le_1 rfl (le_1 rfl (le_1 e_1 le_n))) (ih2 (k + 1) ?_ ?_)
        · try dsimp only
          omega
        · try dsimp only
          omega
      · refine g_aload_n X dX0_laysWins_41 rfl ?_
        refine g_iload_n X dX0_laysWins_42 rfl ?_
        refine g_iconst (v := 1) X dX0_laysWins_43 rfl ?_
        refine g_iload_n X dX0_laysWins_44 rfl ?_
        refine g_ishl X dX0_laysWins_45 ?_
        refine g_ior X dX0_laysWins_46 ?_
        refine g_callV (C := RX0) (T := TX0) (N := 13) X (k_X0_isTogether ho (S := gk_si S 305 _) hu) (lw_V q1221 q1223 qs46 q135 q1224) hd_X0_isTogether dX0_laysWins_47 (rd0 ho) rfl rfl ⟨Nat.le_of_ble_eq_true rfl, Nat.le_of_ble_eq_true rfl⟩ ⟨Nat.le_of_ble_eq_true rfl, Nat.le_of_ble_eq_true rfl⟩ (Nat.le_of_ble_eq_true rfl) ?_
        rintro _ S1 ⟨rfl, hS1⟩
        obtain rfl := hS1.symm
        refine g_ifp_eq (tgt := 70) X dX0_laysWins_50 rfl (fun c50 => ?_) (fun c50 => ?_)
        · refine g_iconst (v := 0) X dX0_laysWins_70 rfl ?_
          refine g_ior X dX0_laysWins_71 ?_
          refine g_zast X ho (305) (j := ix (dnS (2 ^ n) i)) dX0_laysWins_72 rfl (rfl) (ix_i e0) e2 (by decide) ?_
          refine g_eq (S2 := gk_si S 305 (wnI n f (dnS (2 ^ n) i) (wnS n f (S.1 305) i) (k + 1))) (by rw [si_si, wnI_f (n := n) (f := f) (s := (dnS (2 ^ n) i)) (W := (wnS n f (S.1 305) i)) (fun z => c50 z.2.1)]; first | rfl | (rw [si_s]; rfl)) ?_
          refine g_iinc (v := 1) X dX0_laysWins_73 rfl rfl (Nat.le_of_ble_eq_true rfl) ?_
          refine g_goto (tgt := 18) X dX0_laysWins_76 rfl ?_
          refine g_sub (le_1 rfl (le_1 rfl (le_1 e_1 le_n))) (ih2 (k + 1) ?_ ?_)
          · try dsimp only
            omega
          · try dsimp only
            omega
        · refine g_aload_n X dX0_laysWins_53 rfl ?_
          refine g_get (C := RX0) (T := TX0) (N := 13) X 10 in_X0 dX0_laysWins_54 q251 (rd0 ho) rfl (Nat.le_of_ble_eq_true rfl) (fun _ h9 => h9) rfl ?_
          refine g_iload_n X dX0_laysWins_57 rfl ?_
          refine g_iconst (v := 1) X dX0_laysWins_58 rfl ?_
          refine g_iload_n X dX0_laysWins_59 rfl ?_
          refine g_ishl X dX0_laysWins_60 ?_
          refine g_ior X dX0_laysWins_61 ?_
          refine g_zald (j := _) X dX0_laysWins_62 (rdi ho (305) (rfl)) o1 o2 (by decide) ?_
          refine g_if_ne (tgt := 70) X dX0_laysWins_63 rfl (fun c63 => ?_) (fun c63 => ?_)
          · refine g_iconst (v := 0) X dX0_laysWins_70 rfl ?_
            refine g_ior X dX0_laysWins_71 ?_
            refine g_zast X ho (305) (j := ix (dnS (2 ^ n) i)) dX0_laysWins_72 rfl (rfl) (ix_i e0) e2 (by decide) ?_
            refine g_eq (S2 := gk_si S 305 (wnI n f (dnS (2 ^ n) i) (wnS n f (S.1 305) i) (k + 1))) (by rw [si_si, wnI_f (n := n) (f := f) (s := (dnS (2 ^ n) i)) (W := (wnS n f (S.1 305) i)) (fun z => c63 z.2.2)]; first | rfl | (rw [si_s]; rfl)) ?_
            refine g_iinc (v := 1) X dX0_laysWins_73 rfl rfl (Nat.le_of_ble_eq_true rfl) ?_
            refine g_goto (tgt := 18) X dX0_laysWins_76 rfl ?_
            refine g_sub (le_1 rfl (le_1 rfl (le_1 e_1 le_n))) (ih2 (k + 1) ?_ ?_)
            · try dsimp only
              omega
            · try dsimp only
              omega
          · refine g_iconst (v := 1) X dX0_laysWins_66 rfl ?_
            refine g_goto (tgt := 71) X dX0_laysWins_67 rfl ?_
            refine g_ior X dX0_laysWins_71 ?_
            refine g_zast X ho (305) (j := ix (dnS (2 ^ n) i)) dX0_laysWins_72 rfl (rfl) (ix_i e0) e2 (by decide) ?_
            refine g_eq (S2 := gk_si S 305 (wnI n f (dnS (2 ^ n) i) (wnS n f (S.1 305) i) (k + 1))) (by rw [si_si, wnI_t (n := n) (f := f) (s := (dnS (2 ^ n) i)) (W := (wnS n f (S.1 305) i)) ⟨c38, c50, c63⟩]; first | rfl | (rw [si_s]; rfl)) ?_
            refine g_iinc (v := 1) X dX0_laysWins_73 rfl rfl (Nat.le_of_ble_eq_true rfl) ?_
            refine g_goto (tgt := 18) X dX0_laysWins_76 rfl ?_
            refine g_sub (le_1 rfl (le_1 rfl (le_1 e_1 le_n))) (ih2 (k + 1) ?_ ?_)
            · try dsimp only
              omega
            · try dsimp only
              omega
set_option maxHeartbeats 600000 in
theorem k_X0_debate {l : Launch} {E : gk_E} (ho : E.2.2.2.2 = true) {S : gk_S} {q0 : Int32} {a n : Nat} {f : Nat → Int32} (hu : RU E S a n f) : gk_T l E yX0_debate cX0_debate 3 ((some .int)) 5 106 0 0 [.ref (E.2.2.1 0), .int q0] S (fun r S' => r = some (.int (dbV n f q0 (wnS n f (S.1 305) (2 ^ n)))) ∧ S' = gk_si S 305 (wnS n f (S.1 305) (2 ^ n))) := by
  refine gk_T.of [some (.ref (E.2.2.1 0)), some (.int q0), none] (by decide) (Nat.le_of_ble_eq_true rfl) (le_1 rfl (le_1 rfl (le_p le_n))) ?_
  intro p_ e_ R_ s_ m_ args_ below_ meth_ c_ hR X hr hin
  subst hR
  have hn8 : n ≤ 8 := hu.1
  refine g_aload_n X dX0_debate_0 rfl ?_
  refine g_callV (C := RX0) (T := TX0) (N := 13) X (k_X0_laysWins ho hu) (lw_V q1266 q1268 qs48 q135 q1269) hd_X0_laysWins dX0_debate_1 (rd0 ho) rfl rfl ⟨Nat.le_of_ble_eq_true rfl, Nat.le_of_ble_eq_true rfl⟩ ⟨Nat.le_of_ble_eq_true rfl, Nat.le_of_ble_eq_true rfl⟩ (Nat.le_of_ble_eq_true rfl) ?_
  rintro _ S1 ⟨rfl, hS1⟩
  obtain rfl := hS1.symm
  refine g_iload_n X dX0_debate_4 rfl ?_
  refine g_if_ne (tgt := 23) X dX0_debate_5 rfl (fun c5 => ?_) (fun c5 => ?_)
  · refine g_iconst (v := 0) X dX0_debate_23 rfl ?_
    refine g_istore_n X dX0_debate_24 (Nat.le_of_ble_eq_true rfl) ?_
    refine g_loop (σ := Nat) (fun (i : Nat) => gk_si S 305 (wnS n f (S.1 305) (2 ^ n))) (fun (i : Nat) => ([some (.ref (E.2.2.1 0)), some (.int q0), some (.int (nI i))] : List (Option Value))) (fun (i : Nat) => i ≤ n ∧ (∀ j, j < i → ¬ dbP n f (wnS n f (S.1 305) (2 ^ n)) j)) (fun (i : Nat) => n - i) (0) ?_ (rfl) (le_1 rfl (le_1 rfl (le_1 rfl le_n))) ?_
    · exact ⟨Nat.zero_le _, fun j hj => absurd hj (by omega)⟩
    intro i hI ih
    try dsimp only at hI ih ⊢
    refine g_iload_n X dX0_debate_25 rfl ?_
    refine g_aload_n X dX0_debate_26 rfl ?_
    refine g_callV (C := RX0) (T := TX0) (N := 13) X (k_X0_claims ho (S := gk_si S 305 _) hu) (lw_V q1015 q1017 qs27 q135 q1018) hd_X0_claims dX0_debate_27 (rd0 ho) rfl rfl ⟨Nat.le_of_ble_eq_true rfl, Nat.le_of_ble_eq_true rfl⟩ ⟨Nat.le_of_ble_eq_true rfl, Nat.le_of_ble_eq_true rfl⟩ (Nat.le_of_ble_eq_true rfl) ?_
    rintro _ S1 ⟨rfl, hS1⟩
    obtain rfl := hS1.symm
    refine g_icmp_ge (tgt := 62) X dX0_debate_30 rfl (fun c30 => ?_) (fun c30 => ?_)
    · refine g_iconst (v := (-1)) X dX0_debate_62 rfl ?_
      exact g_iret X hr dX0_debate_63 (Nat.le_of_ble_eq_true rfl) (Nat.le_of_ble_eq_true rfl) (⟨by unfold dbV; rw [if_neg c5, fiS_no (fun j hj => hI.2 j (by rw [out_of (by omega) hI.1 c30]; exact hj))], rfl⟩)
    · have hi : i < n := in_of (by omega) hI.1 c30
      obtain ⟨o1, o2⟩ := one_ix (show i < 8 by omega)
      refine g_aload_n X dX0_debate_33 rfl ?_
      refine g_iconst (v := 1) X dX0_debate_34 rfl ?_
      refine g_iload_n X dX0_debate_35 rfl ?_
      refine g_ishl X dX0_debate_36 ?_
      refine g_callV (C := RX0) (T := TX0) (N := 13) X (k_X0_isTogether ho (S := gk_si S 305 _) hu) (lw_V q1221 q1223 qs46 q135 q1224) hd_X0_isTogether dX0_debate_37 (rd0 ho) rfl rfl ⟨Nat.le_of_ble_eq_true rfl, Nat.le_of_ble_eq_true rfl⟩ ⟨Nat.le_of_ble_eq_true rfl, Nat.le_of_ble_eq_true rfl⟩ (Nat.le_of_ble_eq_true rfl) ?_
      rintro _ S1 ⟨rfl, hS1⟩
      obtain rfl := hS1.symm
      refine g_ifp_eq (tgt := 56) X dX0_debate_40 rfl (fun c40 => ?_) (fun c40 => ?_)
      · refine g_iinc (v := 1) X dX0_debate_56 rfl rfl (Nat.le_of_ble_eq_true rfl) ?_
        refine g_goto (tgt := 25) X dX0_debate_59 rfl ?_
        refine g_sub (le_1 rfl (le_1 rfl (le_1 e_1 le_n))) (ih (i + 1) ?_ ?_)
        · try dsimp only
          exact ⟨by omega, ne_s hI.2 (fun z => c40 z.1)⟩
        · try dsimp only
          omega
      · refine g_aload_n X dX0_debate_43 rfl ?_
        refine g_get (C := RX0) (T := TX0) (N := 13) X 10 in_X0 dX0_debate_44 q251 (rd0 ho) rfl (Nat.le_of_ble_eq_true rfl) (fun _ h9 => h9) rfl ?_
        refine g_iconst (v := 1) X dX0_debate_47 rfl ?_
        refine g_iload_n X dX0_debate_48 rfl ?_
        refine g_ishl X dX0_debate_49 ?_
        refine g_zald (j := _) X dX0_debate_50 (rdi ho (305) (rfl)) o1 o2 (by decide) ?_
        refine g_if_ne (tgt := 56) X dX0_debate_51 rfl (fun c51 => ?_) (fun c51 => ?_)
        · refine g_iinc (v := 1) X dX0_debate_56 rfl rfl (Nat.le_of_ble_eq_true rfl) ?_
          refine g_goto (tgt := 25) X dX0_debate_59 rfl ?_
          refine g_sub (le_1 rfl (le_1 rfl (le_1 e_1 le_n))) (ih (i + 1) ?_ ?_)
          · try dsimp only
            exact ⟨by omega, ne_s hI.2 (fun z => c51 z.2)⟩
          · try dsimp only
            omega
        · refine g_iload_n X dX0_debate_54 rfl ?_
          exact g_iret X hr dX0_debate_55 (Nat.le_of_ble_eq_true rfl) (Nat.le_of_ble_eq_true rfl) (⟨by unfold dbV; rw [if_neg c5, fiS_at (P := dbP n f (wnS n f (S.1 305) (2 ^ n))) (by omega) ⟨c40, c51⟩ hI.2 hi], rfl⟩)
  · refine g_aload_n X dX0_debate_8 rfl ?_
    refine g_get (C := RX0) (T := TX0) (N := 13) X 10 in_X0 dX0_debate_9 q251 (rd0 ho) rfl (Nat.le_of_ble_eq_true rfl) (fun _ h9 => h9) rfl ?_
    refine g_iconst (v := 0) X dX0_debate_12 rfl ?_
    refine g_zald (j := 0) X dX0_debate_13 (rdi ho (305) (rfl)) rfl (by decide) (by decide) ?_
    refine g_if_eq (tgt := 21) X dX0_debate_14 rfl (fun c14 => ?_) (fun c14 => ?_)
    · refine g_iconst (v := 0) X dX0_debate_21 rfl ?_
      exact g_iret X hr dX0_debate_22 (Nat.le_of_ble_eq_true rfl) (Nat.le_of_ble_eq_true rfl) (⟨by unfold dbV; rw [if_pos c5, if_pos (show wnS n f (S.1 305) (2 ^ n) 0 = 0 from c14)], rfl⟩)
    · refine g_iconst (v := 1) X dX0_debate_17 rfl ?_
      refine g_goto (tgt := 22) X dX0_debate_18 rfl ?_
      exact g_iret X hr dX0_debate_22 (Nat.le_of_ble_eq_true rfl) (Nat.le_of_ble_eq_true rfl) (⟨by unfold dbV; rw [if_pos c5, if_neg (show ¬ wnS n f (S.1 305) (2 ^ n) 0 = 0 from c14)], rfl⟩)
set_option maxHeartbeats 600000 in
theorem k_X2_isWinning {l : Launch} {E : gk_E} (ho : E.2.2.2.2 = true) {S : gk_S} {s : Int32} {c : Int32} {n k : Nat} {f : Nat → Int32} (hu : MU S n f) (hs : ∃ t, t < 256 ∧ s = nI t) (hc : c = nI k) (hk : k < 8) : gk_T l E yX2_isWinning cX2_isWinning 3 ((some .boolean)) 2 44 0 0 [.ref (E.2.2.1 3), .int s, .int c] S (fun r S' => r = some (.int (bP (wnP n f s (S.1 410) k))) ∧ S' = S) := by
  refine gk_T.of [some (.ref (E.2.2.1 3)), some (.int s), some (.int c)] (by decide) (Nat.le_of_ble_eq_true rfl) (fun _ _ h => h) ?_
  intro p_ e_ R_ s_ m_ args_ below_ meth_ c_ hR X hr hin
  subst hR
  subst hc
  obtain ⟨o1, o2⟩ := or_ix hs hk
  refine g_iload_n X dX2_isWinning_0 rfl ?_
  refine g_iload_n X dX2_isWinning_1 rfl ?_
  refine g_callS X (k_X2_has ho) (lw_S q1711 q1712 q139 q1713) hd_X2_has dX2_isWinning_2 rfl ⟨Nat.le_of_ble_eq_true rfl, Nat.le_of_ble_eq_true rfl⟩ ⟨Nat.le_of_ble_eq_true rfl, Nat.le_of_ble_eq_true rfl⟩ (Nat.le_of_ble_eq_true rfl) ?_
  rintro _ S1 ⟨rfl, hS1⟩
  obtain rfl := hS1.symm
  refine g_ifp_ne (tgt := 37) X dX2_isWinning_5 rfl (fun c5 => ?_) (fun c5 => ?_)
  · refine g_iconst (v := 0) X dX2_isWinning_37 rfl ?_
    refine g_zret X hr dX2_isWinning_38 ?_ (Nat.le_of_ble_eq_true rfl) (Nat.le_of_ble_eq_true rfl) ?_
    · first | rfl | exact nb_bP
    · exact ⟨lb_0 (by grind), rfl⟩
  · refine g_aload_n X dX2_isWinning_8 rfl ?_
    refine g_iload_n X dX2_isWinning_9 rfl ?_
    refine g_iconst (v := 1) X dX2_isWinning_10 rfl ?_
    refine g_iload_n X dX2_isWinning_11 rfl ?_
    refine g_ishl X dX2_isWinning_12 ?_
    refine g_ior X dX2_isWinning_13 ?_
    refine g_callV (C := RX2) (T := TX2) (N := 35) X (k_X2_worldsOf ho hu) (lw_V q1763 q1765 qs99 q139 q1766) hd_X2_worldsOf dX2_isWinning_14 (rd3 ho) rfl rfl ⟨Nat.le_of_ble_eq_true rfl, Nat.le_of_ble_eq_true rfl⟩ ⟨Nat.le_of_ble_eq_true rfl, Nat.le_of_ble_eq_true rfl⟩ (Nat.le_of_ble_eq_true rfl) ?_
    rintro _ S1 ⟨rfl, hS1⟩
    obtain rfl := hS1.symm
    refine g_if_eq (tgt := 37) X dX2_isWinning_17 rfl (fun c17 => ?_) (fun c17 => ?_)
    · refine g_iconst (v := 0) X dX2_isWinning_37 rfl ?_
      refine g_zret X hr dX2_isWinning_38 ?_ (Nat.le_of_ble_eq_true rfl) (Nat.le_of_ble_eq_true rfl) ?_
      · first | rfl | exact nb_bP
      · exact ⟨lb_0 (by grind), rfl⟩
    · refine g_aload_n X dX2_isWinning_20 rfl ?_
      refine g_get (C := RX2) (T := TX2) (N := 35) X 29 in_X2 dX2_isWinning_21 q1434 (rd3 ho) rfl (Nat.le_of_ble_eq_true rfl) (fun _ h9 => h9) rfl ?_
      refine g_iload_n X dX2_isWinning_24 rfl ?_
      refine g_iconst (v := 1) X dX2_isWinning_25 rfl ?_
      refine g_iload_n X dX2_isWinning_26 rfl ?_
      refine g_ishl X dX2_isWinning_27 ?_
      refine g_ior X dX2_isWinning_28 ?_
      refine g_zald (j := _) X dX2_isWinning_29 (rdi ho (410) (rfl)) o1 o2 (by decide) ?_
      refine g_if_ne (tgt := 37) X dX2_isWinning_30 rfl (fun c30 => ?_) (fun c30 => ?_)
      · refine g_iconst (v := 0) X dX2_isWinning_37 rfl ?_
        refine g_zret X hr dX2_isWinning_38 ?_ (Nat.le_of_ble_eq_true rfl) (Nat.le_of_ble_eq_true rfl) ?_
        · first | rfl | exact nb_bP
        · exact ⟨lb_0 (by grind), rfl⟩
      · refine g_iconst (v := 1) X dX2_isWinning_33 rfl ?_
        refine g_goto (tgt := 38) X dX2_isWinning_34 rfl ?_
        refine g_zret X hr dX2_isWinning_38 ?_ (Nat.le_of_ble_eq_true rfl) (Nat.le_of_ble_eq_true rfl) ?_
        · first | rfl | exact nb_bP
        · exact ⟨lb_1 (by grind), rfl⟩
set_option maxHeartbeats 600000 in
theorem k_X2_debate {l : Launch} {E : gk_E} (ho : E.2.2.2.2 = true) {S : gk_S} {q0 : Int32} {n : Nat} {f : Nat → Int32} (hu : MU S n f) : gk_T l E yX2_debate cX2_debate 4 ((some .int)) 3 66 0 0 [.ref (E.2.2.1 3), .int q0] S (fun r S' => r = some (.int (dbV n f q0 (wnS n f (S.1 410) (2 ^ n)))) ∧ S' = gk_si S 410 (wnS n f (S.1 410) (2 ^ n))) := by
  refine gk_T.of [some (.ref (E.2.2.1 3)), some (.int q0), none, none] (by decide) (Nat.le_of_ble_eq_true rfl) (le_1 rfl (le_1 rfl (le_p (le_p le_n)))) ?_
  intro p_ e_ R_ s_ m_ args_ below_ meth_ c_ hR X hr hin
  subst hR
  have hn8 : n ≤ 8 := hu.1
  have h256 := wn_b hn8
  refine g_aload_n X dX2_debate_0 rfl ?_
  refine g_callV (C := RX2) (T := TX2) (N := 35) X (k_X2_every ho hu) (lw_V q1759 q1761 qs98 q139 q1762) hd_X2_every dX2_debate_1 (rd3 ho) rfl rfl ⟨Nat.le_of_ble_eq_true rfl, Nat.le_of_ble_eq_true rfl⟩ ⟨Nat.le_of_ble_eq_true rfl, Nat.le_of_ble_eq_true rfl⟩ (Nat.le_of_ble_eq_true rfl) ?_
  rintro _ S1 ⟨rfl, hS1⟩
  obtain rfl := hS1.symm
  refine g_istore_n X dX2_debate_4 (Nat.le_of_ble_eq_true rfl) ?_
  refine g_loop (σ := Nat) (fun (i : Nat) => gk_si S 410 (wnS n f (S.1 410) i)) (fun (i : Nat) => ([some (.ref (E.2.2.1 3)), some (.int q0), some (.int (dnS (2 ^ n) i)), none] : List (Option Value))) (fun (i : Nat) => i ≤ 2 ^ n) (fun (i : Nat) => 2 ^ n - i) (0) ?_ (by exact si_id.symm) (le_1 rfl (le_1 rfl (le_1 (ei (dnS_0 hn8)) (le_0 le_n)))) ?_
  · exact Nat.zero_le _
  intro i hI ih
  try dsimp only at hI ih ⊢
  refine g_iload_n X dX2_debate_5 rfl ?_
  refine g_if_lt (tgt := 53) X dX2_debate_6 rfl (fun c6 => ?_) (fun c6 => ?_)
  · have hi : i = 2 ^ n := dnS_out h256 hI c6
    subst hi
    refine g_iload_n X dX2_debate_53 rfl ?_
    refine g_if_ne (tgt := 72) X dX2_debate_54 rfl (fun c54 => ?_) (fun c54 => ?_)
    · refine g_iconst (v := 0) X dX2_debate_72 rfl ?_
      refine g_istore_n X dX2_debate_73 (Nat.le_of_ble_eq_true rfl) ?_
      refine g_loop (σ := Nat) (fun (m : Nat) => gk_si S 410 (wnS n f (S.1 410) (2 ^ n))) (fun (m : Nat) => ([some (.ref (E.2.2.1 3)), some (.int q0), some (.int (nI m)), none] : List (Option Value))) (fun (m : Nat) => m ≤ n ∧ (∀ j, j < m → ¬ dbP n f (wnS n f (S.1 410) (2 ^ n)) j)) (fun (m : Nat) => n - m) (0) ?_ (rfl) (le_1 rfl (le_1 rfl (le_1 rfl (le_0 le_n)))) ?_
      · exact ⟨Nat.zero_le _, fun j hj => absurd hj (by omega)⟩
      intro m hI3 ih3
      try dsimp only at hI3 ih3 ⊢
      refine g_iload_n X dX2_debate_74 rfl ?_
      refine g_aload_n X dX2_debate_75 rfl ?_
      refine g_callV (C := RX2) (T := TX2) (N := 35) X (k_X2_claims ho (S := gk_si S 410 _) hu) (lw_V q1707 q1709 qs94 q139 q1710) hd_X2_claims dX2_debate_76 (rd3 ho) rfl rfl ⟨Nat.le_of_ble_eq_true rfl, Nat.le_of_ble_eq_true rfl⟩ ⟨Nat.le_of_ble_eq_true rfl, Nat.le_of_ble_eq_true rfl⟩ (Nat.le_of_ble_eq_true rfl) ?_
      rintro _ S1 ⟨rfl, hS1⟩
      obtain rfl := hS1.symm
      refine g_icmp_ge (tgt := 99) X dX2_debate_79 rfl (fun c79 => ?_) (fun c79 => ?_)
      · refine g_iconst (v := (-1)) X dX2_debate_99 rfl ?_
        exact g_iret X hr dX2_debate_100 (Nat.le_of_ble_eq_true rfl) (Nat.le_of_ble_eq_true rfl) (⟨by unfold dbV; rw [if_neg c54, fiS_no (fun j hj => hI3.2 j (by rw [out_of (by omega) hI3.1 c79]; exact hj))], rfl⟩)
      · have hm : m < n := in_of (by omega) hI3.1 c79
        refine g_aload_n X dX2_debate_82 rfl ?_
        refine g_iconst (v := 0) X dX2_debate_83 rfl ?_
        refine g_iload_n X dX2_debate_84 rfl ?_
        refine g_callV (C := RX2) (T := TX2) (N := 35) X (k_X2_isWinning ho (S := gk_si S 410 _) hu ⟨0, by decide, rfl⟩ rfl (by omega)) (lw_V q1999 q2001 qs123 q139 q2002) hd_X2_isWinning dX2_debate_85 (rd3 ho) rfl rfl ⟨Nat.le_of_ble_eq_true rfl, Nat.le_of_ble_eq_true rfl⟩ ⟨Nat.le_of_ble_eq_true rfl, Nat.le_of_ble_eq_true rfl⟩ (Nat.le_of_ble_eq_true rfl) ?_
        rintro _ S1 ⟨rfl, hS1⟩
        obtain rfl := hS1.symm
        refine g_ifp_eq (tgt := 93) X dX2_debate_88 rfl (fun c88 => ?_) (fun c88 => ?_)
        · refine g_iinc (v := 1) X dX2_debate_93 rfl rfl (Nat.le_of_ble_eq_true rfl) ?_
          refine g_goto (tgt := 74) X dX2_debate_96 rfl ?_
          refine g_sub (le_1 rfl (le_1 rfl (le_1 e_1 (le_0 le_n)))) (ih3 (m + 1) ?_ ?_)
          · try dsimp only
            exact ⟨by omega, ne_s hI3.2 (fun z => c88 ((dbP_M (by omega)).mpr z))⟩
          · try dsimp only
            omega
        · refine g_iload_n X dX2_debate_91 rfl ?_
          exact g_iret X hr dX2_debate_92 (Nat.le_of_ble_eq_true rfl) (Nat.le_of_ble_eq_true rfl) (⟨by unfold dbV; rw [if_neg c54, fiS_at (P := dbP n f (wnS n f (S.1 410) (2 ^ n))) (by omega) ((dbP_M (by omega)).mp c88) hI3.2 hm], rfl⟩)
    · refine g_aload_n X dX2_debate_57 rfl ?_
      refine g_get (C := RX2) (T := TX2) (N := 35) X 29 in_X2 dX2_debate_58 q1434 (rd3 ho) rfl (Nat.le_of_ble_eq_true rfl) (fun _ h9 => h9) rfl ?_
      refine g_iconst (v := 0) X dX2_debate_61 rfl ?_
      refine g_zald (j := 0) X dX2_debate_62 (rdi ho (410) (rfl)) rfl (by decide) (by decide) ?_
      refine g_if_eq (tgt := 70) X dX2_debate_63 rfl (fun c63 => ?_) (fun c63 => ?_)
      · refine g_iconst (v := 0) X dX2_debate_70 rfl ?_
        exact g_iret X hr dX2_debate_71 (Nat.le_of_ble_eq_true rfl) (Nat.le_of_ble_eq_true rfl) (⟨by unfold dbV; rw [if_pos c54, if_pos (show wnS n f (S.1 410) (2 ^ n) 0 = 0 from c63)], rfl⟩)
      · refine g_iconst (v := 1) X dX2_debate_66 rfl ?_
        refine g_goto (tgt := 71) X dX2_debate_67 rfl ?_
        exact g_iret X hr dX2_debate_71 (Nat.le_of_ble_eq_true rfl) (Nat.le_of_ble_eq_true rfl) (⟨by unfold dbV; rw [if_pos c54, if_neg (show ¬ wnS n f (S.1 410) (2 ^ n) 0 = 0 from c63)], rfl⟩)
  · have hi : i < 2 ^ n := dnS_in hI c6
    have es := dnS_s hi
    have et : ∃ t, t < 256 ∧ (dnS (2 ^ n) i) = nI t := ⟨_, by omega, es⟩
    have e0 : (0 : Int32) ≤ (dnS (2 ^ n) i) := Int32.not_lt.mp c6
    have e2 : ix (dnS (2 ^ n) i) < 256 := by rw [es, ix_n (by omega)]; omega
    refine g_aload_n X dX2_debate_9 rfl ?_
    refine g_get (C := RX2) (T := TX2) (N := 35) X 29 in_X2 dX2_debate_10 q1434 (rd3 ho) rfl (Nat.le_of_ble_eq_true rfl) (fun _ h9 => h9) rfl ?_
    refine g_iload_n X dX2_debate_13 rfl ?_
    refine g_iconst (v := 0) X dX2_debate_14 rfl ?_
    refine g_zast X ho (410) (j := ix (dnS (2 ^ n) i)) dX2_debate_15 rfl (rfl) (ix_i e0) e2 (by decide) ?_
    refine g_iconst (v := 0) X dX2_debate_16 rfl ?_
    refine g_istore_n X dX2_debate_17 (Nat.le_of_ble_eq_true rfl) ?_
    refine g_loop (σ := Nat) (fun (k : Nat) => gk_si S 410 (wnI n f (dnS (2 ^ n) i) (wnS n f (S.1 410) i) k)) (fun (k : Nat) => ([some (.ref (E.2.2.1 3)), some (.int q0), some (.int (dnS (2 ^ n) i)), some (.int (nI k))] : List (Option Value))) (fun (k : Nat) => k ≤ n) (fun (k : Nat) => n - k) (0) ?_ (by rw [si_si, si_s]; exact congrArg (gk_si S 410) wnI_0.symm) (le_1 rfl (le_1 rfl (le_1 rfl (le_1 rfl le_n)))) ?_
    · exact Nat.zero_le _
    intro k hI2 ih2
    try dsimp only at hI2 ih2 ⊢
    refine g_iload_n X dX2_debate_18 rfl ?_
    refine g_aload_n X dX2_debate_19 rfl ?_
    refine g_callV (C := RX2) (T := TX2) (N := 35) X (k_X2_claims ho (S := gk_si S 410 _) hu) (lw_V q1707 q1709 qs94 q139 q1710) hd_X2_claims dX2_debate_20 (rd3 ho) rfl rfl ⟨Nat.le_of_ble_eq_true rfl, Nat.le_of_ble_eq_true rfl⟩ ⟨Nat.le_of_ble_eq_true rfl, Nat.le_of_ble_eq_true rfl⟩ (Nat.le_of_ble_eq_true rfl) ?_
    rintro _ S1 ⟨rfl, hS1⟩
    obtain rfl := hS1.symm
    refine g_icmp_ge (tgt := 47) X dX2_debate_23 rfl (fun c23 => ?_) (fun c23 => ?_)
    · have hk := out_of (by omega) hI2 c23
      subst hk
      refine g_eq (S2 := gk_si S 410 (wnS k f (S.1 410) (i + 1))) rfl ?_
      refine g_iinc (v := (-1)) X dX2_debate_47 rfl rfl (Nat.le_of_ble_eq_true rfl) ?_
      refine g_goto (tgt := 5) X dX2_debate_50 rfl ?_
      refine g_sub (le_1 rfl (le_1 rfl (le_1 (ei (dnS_d hi)) (le_0 le_n)))) (ih (i + 1) ?_ ?_)
      · try dsimp only
        omega
      · try dsimp only
        omega
    · have hk : k < n := in_of (by omega) hI2 c23
      refine g_aload_n X dX2_debate_26 rfl ?_
      refine g_get (C := RX2) (T := TX2) (N := 35) X 29 in_X2 dX2_debate_27 q1434 (rd3 ho) rfl (Nat.le_of_ble_eq_true rfl) (fun _ h9 => h9) rfl ?_
      refine g_iload_n X dX2_debate_30 rfl ?_
      refine g_dup2_11 X dX2_debate_31 rfl rfl ?_
      refine g_zald (j := ix (dnS (2 ^ n) i)) X dX2_debate_32 (rdi ho (410) (rfl)) (ix_i e0) e2 (by decide) ?_
      refine g_aload_n X dX2_debate_33 rfl ?_
      refine g_iload_n X dX2_debate_34 rfl ?_
      refine g_iload_n X dX2_debate_35 rfl ?_
      refine g_callV (C := RX2) (T := TX2) (N := 35) X (k_X2_isWinning ho (S := gk_si S 410 _) hu et rfl (by omega)) (lw_V q1999 q2001 qs123 q139 q2002) hd_X2_isWinning dX2_debate_36 (rd3 ho) rfl rfl ⟨Nat.le_of_ble_eq_true rfl, Nat.le_of_ble_eq_true rfl⟩ ⟨Nat.le_of_ble_eq_true rfl, Nat.le_of_ble_eq_true rfl⟩ (Nat.le_of_ble_eq_true rfl) ?_
      rintro _ S1 ⟨rfl, hS1⟩
      obtain rfl := hS1.symm
      refine g_ior X dX2_debate_39 ?_
      refine g_zast X ho (410) (j := ix (dnS (2 ^ n) i)) dX2_debate_40 rfl (rfl) (ix_i e0) e2 (by decide) ?_
      refine g_eq (S2 := gk_si S 410 (wnI n f (dnS (2 ^ n) i) (wnS n f (S.1 410) i) (k + 1))) (by rw [si_si, wnI_s (n := n) (f := f) (s := (dnS (2 ^ n) i)) (W := (wnS n f (S.1 410) i)), si_s]) ?_
      refine g_iinc (v := 1) X dX2_debate_41 rfl rfl (Nat.le_of_ble_eq_true rfl) ?_
      refine g_goto (tgt := 18) X dX2_debate_44 rfl ?_
      refine g_sub (le_1 rfl (le_1 rfl (le_1 rfl (le_1 e_1 le_n)))) (ih2 (k + 1) ?_ ?_)
      · try dsimp only
        omega
      · try dsimp only
        omega
