/-- the masks at the prices p -/
def mW (w : Nat → Nat → Int32) (p : Nat → Int32) (j : Nat) : Nat := ix (whV (w j) p)
theorem mW_e {w : Nat → Nat → Int32} {p : Nat → Int32} {j : Nat} : mW w p j < 32 ∧ whV (w j) p = nI (mW w p j) := by
  obtain ⟨_, m, h2, h3, _⟩ := whS_in (w := w j) (p := p) 5 (by omega)
  have h2' : m < 32 := h2
  unfold mW whV
  rw [h3, ix_n (by omega)]
  exact ⟨h2', rfl⟩
theorem slM_p {S : gk_S} {p : Nat → Int32} {nf : Nat} (h : nf ≤ 5) : slM (gk_si S 307 p) (mW (fun d => S.1 (20 + d)) p) nf := fun j hj => ⟨mW_e.1, by
  show whV ((gk_si S 307 p).1 (20 + j)) p = _
  rw [si_n (by omega)]
  exact mW_e.2⟩
/-- what a farmer is sold, of the first choice -/
def soV (m : Nat → Nat) (o : Option (Nat → Nat)) (f : Nat) : Int32 := match o with
  | none => -1
  | some c => if m f = 0 then -1 else nI (c f)
set_option maxHeartbeats 600000 in
theorem k_X0_sold {l : Launch} {E : gk_E} (ho : E.2.2.2.2 = true) {S : gk_S} {x : Int32} {nf : Nat} (h0 : S.1 10 0 = nI nf) (h1 : nf ≤ 5) (hw : wOk (fun d => S.1 (20 + d)) nf) : gk_T l E yX0_sold cX0_sold 2 ((some .int)) 7 174 0 0 [.ref (E.2.2.1 0), .int x] S (fun r S' => if 0 ≤ x ∧ x ≤ nI nf - 1 then ∃ j g, prQ (fun d => S.1 (20 + d)) nf (p00 (S.1 307)) j ∧ r = some (.int (soV (mW (fun d => S.1 (20 + d)) (pr (fun d => S.1 (20 + d)) nf (p00 (S.1 307)) j)) (slO (mW (fun d => S.1 (20 + d)) (pr (fun d => S.1 (20 + d)) nf (p00 (S.1 307)) j)) nf 0 31) (ix x))) ∧ S' = gk_si (gk_si S 307 (pr (fun d => S.1 (20 + d)) nf (p00 (S.1 307)) j)) 306 g else r = some (.int (-1)) ∧ S' = S) := by
  refine gk_T.of [some (.ref (E.2.2.1 0)), some (.int x)] (by decide) (Nat.le_of_ble_eq_true rfl) (fun _ _ h => h) ?_
  intro p_ e_ R_ s_ m_ args_ below_ meth_ c_ hR X hr hin
  subst hR
  refine g_aload_n X dX0_sold_0 rfl ?_
  refine g_iload_n X dX0_sold_1 rfl ?_
  refine g_callV (C := RX0) (T := TX0) (N := 13) X (k_X0_isFarmer ho) (lw_V q1161 q1163 qs42 q135 q1164) hd_X0_isFarmer dX0_sold_2 (rd0 ho) rfl rfl ⟨Nat.le_of_ble_eq_true rfl, Nat.le_of_ble_eq_true rfl⟩ ⟨Nat.le_of_ble_eq_true rfl, Nat.le_of_ble_eq_true rfl⟩ (Nat.le_of_ble_eq_true rfl) ?_
  rintro _ S1 ⟨rfl, hS1⟩
  obtain rfl := hS1.symm
  refine g_ifp_ne (tgt := 10) X dX0_sold_5 rfl (fun c5 => ?_) (fun c5 => ?_)
  · rw [h0] at c5
    have hx : ix x < nf := cl_lt (by omega) c5
    refine g_aload_n X dX0_sold_10 rfl ?_
    refine g_callV (C := RX0) (T := TX0) (N := 13) X (k_X0_laysPrices ho h0 h1 hw) (lw_V q1317 q1319 qs53 q135 q1320) hd_X0_laysPrices dX0_sold_11 (rd0 ho) rfl rfl ⟨Nat.le_of_ble_eq_true rfl, Nat.le_of_ble_eq_true rfl⟩ ⟨Nat.le_of_ble_eq_true rfl, Nat.le_of_ble_eq_true rfl⟩ (Nat.le_of_ble_eq_true rfl) ?_
    rintro _ S1 ⟨rfl, j, hj1, hS1⟩
    obtain rfl := hS1.symm
    try skip
    refine g_aload_n X dX0_sold_14 rfl ?_
    refine g_iconst (v := 0) X dX0_sold_15 rfl ?_
    refine g_bipush (v := 31) X dX0_sold_16 rfl ?_
    refine g_callV (C := RX0) (T := TX0) (N := 13) X (k_X0_sells ho h1 nf (S := gk_si S 307 _) (i := 0) (lf := 31) rfl rfl ⟨Nat.zero_add _, by decide⟩ h0 (slM_p h1)) (lw_V q1340 q1342 qs57 q135 q1343) hd_X0_sells dX0_sold_18 (rd0 ho) rfl rfl ⟨by show nf + 1 + 1 ≤ 7; omega, by show 8 + (5 + 11) + (25 * nf + 25) ≤ 174; omega⟩ ⟨Nat.le_of_ble_eq_true rfl, Nat.le_of_ble_eq_true rfl⟩ (Nat.le_of_ble_eq_true rfl) ?_
    rintro _ S1 ⟨rfl, g1, hS1, ha1, hb1⟩
    obtain rfl := hS1.symm
    refine g_ifp_eq (tgt := 33) X dX0_sold_21 rfl (fun c21 => ?_) (fun c21 => ?_)
    · refine g_iconst (v := (-1)) X dX0_sold_33 rfl ?_
      exact g_iret X hr dX0_sold_34 (Nat.le_of_ble_eq_true rfl) (Nat.le_of_ble_eq_true rfl) ((by rw [if_pos c5]; exact ⟨j, g1, hj1, by rw [Option.not_isSome_iff_eq_none.mp c21]; rfl, rfl⟩))
    · refine g_aload_n X dX0_sold_24 rfl ?_
      refine g_get (C := RX0) (T := TX0) (N := 13) X 11 in_X0 dX0_sold_25 q252 (rd0 ho) rfl (Nat.le_of_ble_eq_true rfl) (fun _ h9 => h9) rfl ?_
      refine g_iload_n X dX0_sold_28 rfl ?_
      refine g_iald (j := ix x) X dX0_sold_29 (rdi ho (306) (rfl)) (ix_i c5.1) (by omega) (by decide) ?_
      refine g_goto (tgt := 34) X dX0_sold_30 rfl ?_
      exact g_iret X hr dX0_sold_34 (Nat.le_of_ble_eq_true rfl) (Nat.le_of_ble_eq_true rfl) ((by
      rw [if_pos c5]
      obtain ⟨c, hc⟩ := Option.isSome_iff_exists.mp c21
      refine ⟨j, g1, hj1, ?_, rfl⟩
      rw [si_s, hb1 c hc _ (Nat.zero_le _) hx, hc]
      rfl))
  · refine g_iconst (v := (-1)) X dX0_sold_8 rfl ?_
    exact g_iret X hr dX0_sold_9 (Nat.le_of_ble_eq_true rfl) (Nat.le_of_ble_eq_true rfl) ((by rw [h0] at c5; rw [if_neg c5]; exact ⟨rfl, rfl⟩))
/-- the digit of a number in fives: the first is farmer 0's -/
def d5 (N i : Nat) : Nat := N / 5 ^ (4 - i) % 5
theorem d5_lt {N i : Nat} : d5 N i < 5 := Nat.mod_lt _ (by decide)
set_option maxHeartbeats 600000 in
theorem k_X2_digitBy {l : Launch} {E : gk_E} (ho : E.2.2.2.2 = true) {S : gk_S} {x : Int32} {y : Int32} {N k : Nat} (hx : x = nI N) (hN : N < 100000) (hy : y = nI k) (hk : k < 5) : gk_T l E yX2_digitBy cX2_digitBy 4 ((some .int)) 0 0 0 0 [.int x, .int y] S (fun r S' => r = some (.int (nI (N / 5 ^ k % 5))) ∧ S' = S) := by
  refine gk_T.of [some (.int x), some (.int y), none, none] (by decide) (Nat.le_of_ble_eq_true rfl) (le_1 rfl (le_1 rfl (le_p (le_p le_n)))) ?_
  intro p_ e_ R_ s_ m_ args_ below_ meth_ c_ hR X hr hin
  subst hR
  subst hy
  refine g_iload_n X dX2_digitBy_0 rfl ?_
  refine g_istore_n X dX2_digitBy_1 (Nat.le_of_ble_eq_true rfl) ?_
  refine g_iconst (v := 0) X dX2_digitBy_2 rfl ?_
  refine g_istore_n X dX2_digitBy_3 (Nat.le_of_ble_eq_true rfl) ?_
  refine g_loop (σ := Nat) (fun (i : Nat) => S) (fun (i : Nat) => ([some (.int x), some (.int (nI k)), some (.int (nI (N / 5 ^ i))), some (.int (nI i))] : List (Option Value))) (fun (i : Nat) => i ≤ k) (fun (i : Nat) => k - i) (0) ?_ (rfl) (le_1 rfl (le_1 rfl (le_1 (ei (by rw [hx, Nat.pow_zero, Nat.div_one])) (le_1 rfl le_n)))) ?_
  · omega
  intro i hI ih
  try dsimp only at hI ih ⊢
  refine g_iload_n X dX2_digitBy_4 rfl ?_
  refine g_iload_n X dX2_digitBy_5 rfl ?_
  refine g_icmp_ge (tgt := 19) X dX2_digitBy_6 rfl (fun c6 => ?_) (fun c6 => ?_)
  · have hi := out_of (by omega) hI c6
    subst hi
    refine g_iload_n X dX2_digitBy_19 rfl ?_
    refine g_iconst (v := 5) X dX2_digitBy_20 rfl ?_
    refine g_irem X dX2_digitBy_21 (by decide) ?_
    exact g_iret X hr dX2_digitBy_22 (Nat.le_of_ble_eq_true rfl) (Nat.le_of_ble_eq_true rfl) (⟨by show some (Value.int (nI (N / 5 ^ i) - nI (N / 5 ^ i) / nI 5 * nI 5)) = _; rw [pk_rem (Nat.lt_of_le_of_lt (Nat.div_le_self _ _) (by omega)) (by decide) (by decide)], rfl⟩)
  · have hi : i < k := in_of (by omega) hI c6
    refine g_iload_n X dX2_digitBy_9 rfl ?_
    refine g_iconst (v := 5) X dX2_digitBy_10 rfl ?_
    refine g_idiv X dX2_digitBy_11 (by decide) ?_
    refine g_istore_n X dX2_digitBy_12 (Nat.le_of_ble_eq_true rfl) ?_
    refine g_iinc (v := 1) X dX2_digitBy_13 rfl rfl (Nat.le_of_ble_eq_true rfl) ?_
    refine g_goto (tgt := 4) X dX2_digitBy_16 rfl ?_
    refine g_sub (le_1 rfl (le_1 rfl (le_1 (ei (by show nI (N / 5 ^ i) / nI 5 = _; rw [pk_div (Nat.lt_of_le_of_lt (Nat.div_le_self _ _) (by omega)) (by decide) (by decide), Nat.div_div_eq_div_mul, ← Nat.pow_succ])) (le_1 e_1 le_n)))) (ih (i + 1) ?_ ?_)
    · try dsimp only
      omega
    · try dsimp only
      omega
theorem f4 : ∀ k, k < 5 → (4 : Int32) - nI k = nI (4 - k) := by decide
set_option maxHeartbeats 600000 in
theorem k_X2_fieldBy {l : Launch} {E : gk_E} (ho : E.2.2.2.2 = true) {S : gk_S} {x : Int32} {y : Int32} {N k : Nat} (hx : x = nI N) (hN : N < 100000) (hy : y = nI k) (hk : k < 5) : gk_T l E yX2_fieldBy cX2_fieldBy 2 ((some .int)) 1 23 0 0 [.int x, .int y] S (fun r S' => r = some (.int (nI (d5 N k))) ∧ S' = S) := by
  refine gk_T.of [some (.int x), some (.int y)] (by decide) (Nat.le_of_ble_eq_true rfl) (fun _ _ h => h) ?_
  intro p_ e_ R_ s_ m_ args_ below_ meth_ c_ hR X hr hin
  subst hR
  refine g_iload_n X dX2_fieldBy_0 rfl ?_
  refine g_iconst (v := 4) X dX2_fieldBy_1 rfl ?_
  refine g_iload_n X dX2_fieldBy_2 rfl ?_
  refine g_isub X dX2_fieldBy_3 ?_
  refine g_callS X (k_X2_digitBy ho hx hN (by rw [hy]; exact f4 k hk) (by omega : 4 - k < 5)) (lw_S q2073 q2074 q139 q2075) hd_X2_digitBy dX2_fieldBy_4 rfl ⟨Nat.le_of_ble_eq_true rfl, Nat.le_of_ble_eq_true rfl⟩ ⟨Nat.le_of_ble_eq_true rfl, Nat.le_of_ble_eq_true rfl⟩ (Nat.le_of_ble_eq_true rfl) ?_
  rintro _ S1 ⟨rfl, hS1⟩
  obtain rfl := hS1.symm
  exact g_iret X hr dX2_fieldBy_7 (Nat.le_of_ble_eq_true rfl) (Nat.le_of_ble_eq_true rfl) (⟨rfl, rfl⟩)
