abbrev wX (i : Nat) : Prop := i = 301
theorem k_X0_worthF {l : Launch} {E : gk_E} (ho : E.2.2.2.2 = true) {S : gk_S} {ic : Nat → Nat} {x y : Int32} {a n f k a1 : Nat} {g o A : Nat → Int32} {W : Option mnB} (hu : RU E S a n g) (hx : x = nI f) (hf : f < 5) (hy : y = nI k) (hk : k < 5) (hw : wtO E ic S.2.2.2 a1 W) (hic : icA S ic) (hW : WOK W) (hco : coR (S.1 11) A) (hl : ldR S A) (hsm : smA A) : gk_T l E yX0_worthBy cX0_worthBy 7 (some .int) 250 8000 0 0 [.ref (E.2.2.1 0), .ref a1, .ref (E.2.2.1 11), .int x, .int y] S (fun r S' => r = some (.int (wvM W (vcA o A f k n))) ∧ FrC wX S S' ∧ S'.1 11 = S.1 11) := by
  refine gk_T.imp (k_X0_worthBy_11 ho hu hx hf hy hk hw hic) ?_
  rintro r S' ⟨h1, h2⟩
  subst h2
  refine ⟨?_, ⟨rfl, fun i hi => si_n hi, by rw [si_s]; exact nmC_o⟩, si_n (by decide)⟩
  rw [h1, wv_eq hW (ag_CM (o := o) hu.1 hf hk hl hsm hco.1 hco.2.2.1) (by rw [nmC_9, hl.2.2.1 f k hf hk]; exact hl.2.2.2 f k hf hk)]
theorem lwI_at {P : Nat → Bool} : ∀ {n i : Nat}, lwI P n = true → i < n → P i = true
  | n + 1, i, h, hi => by
    rw [lwI_s] at h
    obtain ⟨h1, h2⟩ := Bool.and_eq_true_iff.mp h
    by_cases e : i = n
    · rw [e]
      exact h2
    · exact lwI_at h1 (by omega)
set_option maxHeartbeats 600000 in
theorem k_X0_worth {l : Launch} {E : gk_E} (ho : E.2.2.2.2 = true) {S : gk_S} {x : Int32} {y : Int32} {ic : Nat → Nat} {a n nf : Nat} {g o A : Nat → Int32} {W : Option mnB} (he : EnC E ic S a n nf g W) (hA0 : A 0 = nI nf) (hco : coR (S.1 11) A) (hl : ldR S A) (hsm : smA A) : gk_T l E yX0_worth cX0_worth 3 ((some .int)) 251 8026 0 0 [.ref (E.2.2.1 0), .int x, .int y] S (fun r S' => r = some (.int (if woP A x y then wvM W (vcA o A (ix x) (ix y) n) else -100)) ∧ FrC wX S S') := by
  refine gk_T.of [some (.ref (E.2.2.1 0)), some (.int x), some (.int y)] (by decide) (Nat.le_of_ble_eq_true rfl) (fun _ _ h => h) ?_
  intro p_ e_ R_ s_ m_ args_ below_ meth_ c_ hR X hr hin
  subst hR
  refine g_aload_n X dX0_worth_0 rfl ?_
  refine g_iload_n X dX0_worth_1 rfl ?_
  refine g_callV (C := RX0) (T := TX0) (N := 13) X (k_X0_isFarmer ho) (lw_V q1161 q1163 qs42 q135 q1164) hd_X0_isFarmer dX0_worth_2 (rd0 ho) rfl rfl ⟨Nat.le_of_ble_eq_true rfl, Nat.le_of_ble_eq_true rfl⟩ ⟨Nat.le_of_ble_eq_true rfl, Nat.le_of_ble_eq_true rfl⟩ (Nat.le_of_ble_eq_true rfl) ?_
  rintro _ S1 ⟨rfl, hS1⟩
  obtain rfl := hS1.symm
  refine g_ifp_eq (tgt := 35) X dX0_worth_5 rfl (fun c5 => ?_) (fun c5 => ?_)
  · refine g_bipush (v := (-100)) X dX0_worth_35 rfl ?_
    exact g_iret X hr dX0_worth_37 (Nat.le_of_ble_eq_true rfl) (Nat.le_of_ble_eq_true rfl) (⟨by rw [if_neg (fun w => c5 (by rw [he.2.1, ← hA0]; exact w.1))], FrC.rf⟩)
  · refine g_iload_n X dX0_worth_8 rfl ?_
    refine g_callS X (k_X0_isField ho) (lw_S q298 q299 q135 q300) hd_X0_isField dX0_worth_9 rfl ⟨Nat.le_of_ble_eq_true rfl, Nat.le_of_ble_eq_true rfl⟩ ⟨Nat.le_of_ble_eq_true rfl, Nat.le_of_ble_eq_true rfl⟩ (Nat.le_of_ble_eq_true rfl) ?_
    rintro _ S1 ⟨rfl, hS1⟩
    obtain rfl := hS1.symm
    refine g_ifp_eq (tgt := 35) X dX0_worth_12 rfl (fun c12 => ?_) (fun c12 => ?_)
    · refine g_bipush (v := (-100)) X dX0_worth_35 rfl ?_
      exact g_iret X hr dX0_worth_37 (Nat.le_of_ble_eq_true rfl) (Nat.le_of_ble_eq_true rfl) (⟨by rw [if_neg (fun w => c12 w.2)], FrC.rf⟩)
    · have hP : woP A x y := ⟨by rw [hA0, ← he.2.1]; exact c5, c12⟩
      have hxx := ix_i c5.1
      have hxb : ix x ≤ 4 := ix_le 4 (by decide) c5.1 (Int32.le_trans c5.2 (by rw [he.2.1]; exact nf_4 he.2.2.1))
      have hyy := ix_i c12.1
      have hyb : ix y ≤ 4 := ix_le 4 (by decide) c12.1 c12.2
      refine g_aload_n X dX0_worth_15 rfl ?_
      refine g_aload_n X dX0_worth_16 rfl ?_
      refine g_callV (C := RX0) (T := TX0) (N := 13) X (k_X0_rules ho he.1) (lw_V q1019 q1021 qs28 q135 q1022) hd_X0_rules dX0_worth_17 (rd0 ho) rfl rfl ⟨Nat.le_of_ble_eq_true rfl, Nat.le_of_ble_eq_true rfl⟩ ⟨Nat.le_of_ble_eq_true rfl, Nat.le_of_ble_eq_true rfl⟩ (Nat.le_of_ble_eq_true rfl) ?_
      rintro _ S1 ⟨rfl, hS1⟩
      obtain rfl := hS1.symm
      refine g_aload_n X dX0_worth_20 rfl ?_
      refine g_get (C := RX0) (T := TX0) (N := 13) X 0 in_X0 dX0_worth_21 q241 (rd0 ho) rfl (Nat.le_of_ble_eq_true rfl) (fun _ h9 => h9) rfl ?_
      refine g_getN (C := RX1) (T := TX1) (N := 8) X 1 in_X1 dX0_worth_24 q197 (rd1 ho) rfl (Nat.le_of_ble_eq_true rfl) (fun _ h9 => h9) rfl ?_
      refine g_iload_n X dX0_worth_27 rfl ?_
      refine g_iload_n X dX0_worth_28 rfl ?_
      refine g_callV (C := RX0) (T := TX0) (N := 13) X (k_X0_worthF ho (o := o) (A := A) he.1 hxx (by omega) hyy (by omega) he.2.2.2.1 he.2.2.2.2.1 he.2.2.2.2.2 hco hl hsm) (lw_V q1053 q1055 qs34 q135 q1056) hd_X0_worthBy dX0_worth_29 (rd0 ho) rfl rfl ⟨Nat.le_of_ble_eq_true rfl, Nat.le_of_ble_eq_true rfl⟩ ⟨Nat.le_of_ble_eq_true rfl, Nat.le_of_ble_eq_true rfl⟩ (Nat.le_of_ble_eq_true rfl) ?_
      rintro _ S2 ⟨rfl, hF2, hR2⟩
      refine g_goto (tgt := 37) X dX0_worth_32 rfl ?_
      exact g_iret X hr dX0_worth_37 (Nat.le_of_ble_eq_true rfl) (Nat.le_of_ble_eq_true rfl) (⟨by rw [if_pos hP], hF2⟩)
/-- what is told, of the two -/
def TdR (S : gk_S) (A : Nat → Int32) (nt : Nat) : Prop := S.1 10 4 = nI nt ∧ ∀ i, i < nt → S.1 (30 + i) 0 = A (62 + 3 * i) ∧ S.1 (30 + i) 1 = A (62 + 3 * i + 1) ∧ S.1 (30 + i) 2 = A (62 + 3 * i + 2)
set_option maxHeartbeats 1000000 in
theorem k_X0_isLaw {l : Launch} {E : gk_E} (ho : E.2.2.2.2 = true) {S : gk_S}  {ic : Nat → Nat} {a n nt a1 : Nat} {g o A : Nat → Int32} {W : Option mnB} (hu : RU E S a n g) (hw : wtO E ic S.2.2.2 a1 W) (hic : icA S ic) (hW : WOK W) (hco : coR (S.1 11) A) (hl : ldR S A) (hsm : smA A) (htd : tdM A nt) (htR : TdR S A nt) : gk_T l E yX0_isLaw cX0_isLaw 3 ((some .boolean)) 251 8026 0 0 [.ref (E.2.2.1 0), .ref a1] S (fun r S' => r = some (.int (bP (lwI (toA o A n W) nt = true))) ∧ FrC wX S S' ∧ S'.1 11 = S.1 11) := by
  have ht8 : nt ≤ 8 := htd.1
  refine gk_T.of [some (.ref (E.2.2.1 0)), some (.ref a1), none] (by decide) (Nat.le_of_ble_eq_true rfl) (le_1 rfl (le_1 rfl (le_p le_n))) ?_
  intro p_ e_ R_ s_ m_ args_ below_ meth_ c_ hR X hr hin
  subst hR
  refine g_iconst (v := 0) X dX0_isLaw_0 rfl ?_
  refine g_istore_n X dX0_isLaw_1 (Nat.le_of_ble_eq_true rfl) ?_
  refine g_loop (σ := Nat × gk_S) (fun (q : Nat × gk_S) => match q with | (i, S1) => S1) (fun (q : Nat × gk_S) => match q with | (i, S1) => ([some (.ref (E.2.2.1 0)), some (.ref a1), some (.int (nI i))] : List (Option Value))) (fun (q : Nat × gk_S) => match q with | (i, S1) => i ≤ nt ∧ lwI (toA o A n W) i = true ∧ FrC wX S S1 ∧ S1.1 11 = S.1 11) (fun (q : Nat × gk_S) => match q with | (i, S1) => nt - i) ((0, S)) ?_ (rfl) (le_1 rfl (le_1 rfl (le_1 rfl le_n))) ?_
  · exact ⟨Nat.zero_le _, lwI_0, FrC.rf, rfl⟩
  rintro ⟨i, S1⟩ hI ih
  try dsimp only at hI ih ⊢
  obtain ⟨hI1, hI2, hI3, hI4⟩ := hI
  refine g_iload_n X dX0_isLaw_2 rfl ?_
  refine g_aload_n X dX0_isLaw_3 rfl ?_
  refine g_get (C := RX0) (T := TX0) (N := 13) X 0 in_X0 dX0_isLaw_4 q241 (rd0 ho) rfl (Nat.le_of_ble_eq_true rfl) (fun _ h9 => h9) rfl ?_
  refine g_getN (C := RX1) (T := TX1) (N := 8) X 0 in_X1 dX0_isLaw_7 q195 (rd1 ho) rfl (Nat.le_of_ble_eq_true rfl) (fun _ h9 => h9) rfl ?_
  refine g_iconst (v := 4) X dX0_isLaw_10 rfl ?_
  refine g_iald (j := 4) X dX0_isLaw_11 (rdi ho (10) (rfl)) rfl (by decide) (by decide) ?_
  refine g_top (y := nI nt) ((hI3.2.1 10 (by decide) ▸ rfl : S1.1 10 4 = S.1 10 4).trans htR.1) ?_
  refine g_icmp_ge (tgt := 71) X dX0_isLaw_12 rfl (fun c12 => ?_) (fun c12 => ?_)
  · have hin : nt = i := Nat.le_antisymm ((nI_leI (by omega) (by omega)).mp c12) hI1
    subst hin
    refine g_iconst (v := 1) X dX0_isLaw_71 rfl ?_
    refine g_zret X hr dX0_isLaw_72 ?_ (Nat.le_of_ble_eq_true rfl) (Nat.le_of_ble_eq_true rfl) ?_
    · first | rfl | exact nb_bP
    · exact ⟨lb_1 hI2, hI3, hI4⟩
  · have hin : i < nt := (nI_ltI (by omega) (by omega)).mp (Int32.not_le.mp c12)
    obtain ⟨f, k, hf, hk, hf2, hk2⟩ := htd.2.2 i hin
    obtain ⟨t0, t1, t2⟩ := htR.2 i hin
    have e30 : S1.1 (30 + i) = S.1 (30 + i) := hI3.2.1 _ (by show ¬ 30 + i = 301; omega)
    have hu1 : RU E S1 a n g := RU_c hu (by rw [hI3.2.1 10 (by decide)]) hI3.1
    have hw1 : wtO E ic S1.2.2.2 a1 W := by rw [hI3.1]; exact hw
    have hic1 : icA S1 ic := by unfold icA; rw [hI3.1]; exact hic
    have hl1 : ldR S1 A := ldR_f hl hI3 (fun j hj => by have : j = 301 := hj; omega) (fun _ _ => rfl)
    refine g_aload_n X dX0_isLaw_15 rfl ?_
    refine g_aload_n X dX0_isLaw_16 rfl ?_
    refine g_aload_n X dX0_isLaw_17 rfl ?_
    refine g_get (C := RX0) (T := TX0) (N := 13) X 0 in_X0 dX0_isLaw_18 q241 (rd0 ho) rfl (Nat.le_of_ble_eq_true rfl) (fun _ h9 => h9) rfl ?_
    refine g_getN (C := RX1) (T := TX1) (N := 8) X 1 in_X1 dX0_isLaw_21 q197 (rd1 ho) rfl (Nat.le_of_ble_eq_true rfl) (fun _ h9 => h9) rfl ?_
    refine g_aload_n X dX0_isLaw_24 rfl ?_
    refine g_get (C := RX0) (T := TX0) (N := 13) X 0 in_X0 dX0_isLaw_25 q241 (rd0 ho) rfl (Nat.le_of_ble_eq_true rfl) (fun _ h9 => h9) rfl ?_
    refine g_getN (C := RX1) (T := TX1) (N := 8) X 5 in_X1 dX0_isLaw_28 q205 (rd1 ho) rfl (Nat.le_of_ble_eq_true rfl) (fun _ h9 => h9) rfl ?_
    refine g_iload_n X dX0_isLaw_31 rfl ?_
    refine g_aald (t := 4) (j := i) X dX0_isLaw_32 (rd15 ho) rfl rfl rfl (by omega) (by decide) rfl ?_
    refine g_iconst (v := 0) X dX0_isLaw_33 rfl ?_
    refine g_iald (j := 0) X dX0_isLaw_34 (rdi ho (30 + (i)) (kd_told (by omega))) rfl (by decide) (by decide) ?_
    refine g_top (y := nI f) (by rw [e30, t0]; exact hf2) ?_
    refine g_aload_n X dX0_isLaw_35 rfl ?_
    refine g_get (C := RX0) (T := TX0) (N := 13) X 0 in_X0 dX0_isLaw_36 q241 (rd0 ho) rfl (Nat.le_of_ble_eq_true rfl) (fun _ h9 => h9) rfl ?_
    refine g_getN (C := RX1) (T := TX1) (N := 8) X 5 in_X1 dX0_isLaw_39 q205 (rd1 ho) rfl (Nat.le_of_ble_eq_true rfl) (fun _ h9 => h9) rfl ?_
    refine g_iload_n X dX0_isLaw_42 rfl ?_
    refine g_aald (t := 4) (j := i) X dX0_isLaw_43 (rd15 ho) rfl rfl rfl (by omega) (by decide) rfl ?_
    refine g_iconst (v := 1) X dX0_isLaw_44 rfl ?_
    refine g_iald (j := 1) X dX0_isLaw_45 (rdi ho (30 + (i)) (kd_told (by omega))) rfl (by decide) (by decide) ?_
    refine g_top (y := nI k) (by rw [e30, t1]; exact hk2) ?_
    refine g_callV (C := RX0) (T := TX0) (N := 13) X (k_X0_worthF ho (S := S1) (o := o) (A := A) hu1 rfl hf rfl hk hw1 hic1 hW (by rw [hI4]; exact hco) hl1 hsm) (lw_V q1053 q1055 qs34 q135 q1056) hd_X0_worthBy dX0_isLaw_46 (rd0 ho) rfl rfl ⟨Nat.le_of_ble_eq_true rfl, Nat.le_of_ble_eq_true rfl⟩ ⟨Nat.le_of_ble_eq_true rfl, Nat.le_of_ble_eq_true rfl⟩ (Nat.le_of_ble_eq_true rfl) ?_
    rintro _ S2 ⟨rfl, hF2, hR2⟩
    refine g_aload_n X dX0_isLaw_49 rfl ?_
    refine g_get (C := RX0) (T := TX0) (N := 13) X 0 in_X0 dX0_isLaw_50 q241 (rd0 ho) rfl (Nat.le_of_ble_eq_true rfl) (fun _ h9 => h9) rfl ?_
    refine g_getN (C := RX1) (T := TX1) (N := 8) X 5 in_X1 dX0_isLaw_53 q205 (rd1 ho) rfl (Nat.le_of_ble_eq_true rfl) (fun _ h9 => h9) rfl ?_
    refine g_iload_n X dX0_isLaw_56 rfl ?_
    refine g_aald (t := 4) (j := i) X dX0_isLaw_57 (rd15 ho) rfl rfl rfl (by omega) (by decide) rfl ?_
    refine g_iconst (v := 2) X dX0_isLaw_58 rfl ?_
    refine g_iald (j := 2) X dX0_isLaw_59 (rdi ho (30 + (i)) (kd_told (by omega))) rfl (by decide) (by decide) ?_
    refine g_top (y := A (62 + 3 * i + 2)) ((hF2.2.1 _ (by show ¬ 30 + i = 301; omega) ▸ rfl : S2.1 (30 + i) 2 = S1.1 (30 + i) 2).trans (by rw [e30, t2])) ?_
    refine g_icmp_eq (tgt := 65) X dX0_isLaw_60 rfl (fun c60 => ?_) (fun c60 => ?_)
    · have htw : wvM W (vcA o A (ix (A (62 + 3 * i))) (ix (A (62 + 3 * i + 1))) n) = A (62 + 3 * i + 2) := by
        rw [hf2, hk2, ix_n (by omega), ix_n (by omega)]
        exact c60
      refine g_iinc (v := 1) X dX0_isLaw_65 rfl rfl (Nat.le_of_ble_eq_true rfl) ?_
      refine g_goto (tgt := 2) X dX0_isLaw_68 rfl ?_
      refine g_sub (le_1 rfl (le_1 rfl (le_1 e_1 le_n))) (ih (i + 1, S2) ?_ ?_)
      · exact ⟨by omega, by rw [lwI_s, hI2]; exact decide_eq_true htw, hI3.tr hF2, hR2.trans hI4⟩
      · show nt - (i + 1) < nt - i; omega
    · have hfl : ¬ toA o A n W i = true := fun z => c60 (by
        have := of_decide_eq_true z
        rw [hf2, hk2, ix_n (by omega), ix_n (by omega)] at this
        exact this)
      have hnl : ¬ lwI (toA o A n W) nt = true := fun z => hfl (lwI_at z hin)
      refine g_iconst (v := 0) X dX0_isLaw_63 rfl ?_
      refine g_zret X hr dX0_isLaw_64 ?_ (Nat.le_of_ble_eq_true rfl) (Nat.le_of_ble_eq_true rfl) ?_
      · first | rfl | exact nb_bP
      · exact ⟨lb_0 hnl, hI3.tr hF2, hR2.trans hI4⟩
set_option maxHeartbeats 1000000 in
theorem k_X0_whose {l : Launch} {E : gk_E} (ho : E.2.2.2.2 = true) {S : gk_S}  {ic : Nat → Nat} {a n nt nx : Nat} {g o A : Nat → Int32} {Wt : Nat → Option mnB} {at_ : Nat → Nat} (hu : RU E S a n g) (hx1 : S.1 10 1 = nI nx) (hx2 : nx ≤ 4) (hat : ∀ t, t < nx → S.2.2.1 0 t = some (at_ t) ∧ wtO E ic S.2.2.2 (at_ t) (Wt t) ∧ WOK (Wt t)) (hic : icA S ic) (hco : coR (S.1 11) A) (hl : ldR S A) (hsm : smA A) (htd : tdM A nt) (htR : TdR S A nt) : gk_T l E yX0_whose cX0_whose 3 ((some .int)) 252 8048 0 0 [.ref (E.2.2.1 0)] S (fun r S' => r = some (.int (whI (fun t => lwI (toA o A n (Wt t)) nt) nx)) ∧ FrC wX S S') := by
  refine gk_T.of [some (.ref (E.2.2.1 0)), none, none] (by decide) (Nat.le_of_ble_eq_true rfl) (le_1 rfl (le_p (le_p le_n))) ?_
  intro p_ e_ R_ s_ m_ args_ below_ meth_ c_ hR X hr hin
  subst hR
  refine g_iconst (v := 0) X dX0_whose_0 rfl ?_
  refine g_istore_n X dX0_whose_1 (Nat.le_of_ble_eq_true rfl) ?_
  refine g_iconst (v := 0) X dX0_whose_2 rfl ?_
  refine g_istore_n X dX0_whose_3 (Nat.le_of_ble_eq_true rfl) ?_
  refine g_loop (σ := Nat × gk_S) (fun (q : Nat × gk_S) => match q with | (t, S1) => S1) (fun (q : Nat × gk_S) => match q with | (t, S1) => ([some (.ref (E.2.2.1 0)), some (.int (whI (fun t => lwI (toA o A n (Wt t)) nt) t)), some (.int (nI t))] : List (Option Value))) (fun (q : Nat × gk_S) => match q with | (t, S1) => t ≤ nx ∧ FrC wX S S1 ∧ S1.1 11 = S.1 11) (fun (q : Nat × gk_S) => match q with | (t, S1) => nx - t) ((0, S)) ?_ (rfl) (le_1 rfl (le_1 (congrArg (fun z => some (Value.int z)) (whI_0.symm)) (le_1 rfl le_n))) ?_
  · exact ⟨Nat.zero_le _, FrC.rf, rfl⟩
  rintro ⟨t, S1⟩ hI ih
  try dsimp only at hI ih ⊢
  obtain ⟨hI1, hI2, hI3⟩ := hI
  refine g_iload_n X dX0_whose_4 rfl ?_
  refine g_aload_n X dX0_whose_5 rfl ?_
  refine g_get (C := RX0) (T := TX0) (N := 13) X 0 in_X0 dX0_whose_6 q241 (rd0 ho) rfl (Nat.le_of_ble_eq_true rfl) (fun _ h9 => h9) rfl ?_
  refine g_getN (C := RX1) (T := TX1) (N := 8) X 0 in_X1 dX0_whose_9 q195 (rd1 ho) rfl (Nat.le_of_ble_eq_true rfl) (fun _ h9 => h9) rfl ?_
  refine g_iconst (v := 1) X dX0_whose_12 rfl ?_
  refine g_iald (j := 1) X dX0_whose_13 (rdi ho (10) (rfl)) rfl (by decide) (by decide) ?_
  refine g_top (y := nI nx) ((hI2.2.1 10 (by decide) ▸ rfl : S1.1 10 1 = S.1 10 1).trans hx1) ?_
  refine g_icmp_ge (tgt := 49) X dX0_whose_14 rfl (fun c14 => ?_) (fun c14 => ?_)
  · have htx : nx = t := Nat.le_antisymm ((nI_leI (by omega) (by omega)).mp c14) hI1
    subst htx
    refine g_iload_n X dX0_whose_49 rfl ?_
    exact g_iret X hr dX0_whose_50 (Nat.le_of_ble_eq_true rfl) (Nat.le_of_ble_eq_true rfl) (⟨rfl, hI2⟩)
  · have htx : t < nx := (nI_ltI (by omega) (by omega)).mp (Int32.not_le.mp c14)
    obtain ⟨a1, a2, a3⟩ := hat t htx
    have hu1 : RU E S1 a n g := RU_c hu (by rw [hI2.2.1 10 (by decide)]) hI2.1
    have hw1 : wtO E ic S1.2.2.2 (at_ t) (Wt t) := by rw [hI2.1]; exact a2
    have hic1 : icA S1 ic := by unfold icA; rw [hI2.1]; exact hic
    have hl1 : ldR S1 A := ldR_f hl hI2 (fun j hj => by have : j = 301 := hj; omega) (fun _ _ => rfl)
    have htR1 : TdR S1 A nt := ⟨(hI2.2.1 10 (by decide) ▸ rfl : S1.1 10 4 = S.1 10 4).trans htR.1, fun i hi => by
      have e30 : S1.1 (30 + i) = S.1 (30 + i) := hI2.2.1 _ (by show ¬ 30 + i = 301; have := htd.1; omega)
      rw [e30]
      exact htR.2 i hi⟩
    have hat1 : S1.2.2.1 0 t = some (at_ t) := by rw [hI2.1]; exact a1
    refine g_iload_n X dX0_whose_17 rfl ?_
    refine g_aload_n X dX0_whose_18 rfl ?_
    refine g_aload_n X dX0_whose_19 rfl ?_
    refine g_get (C := RX0) (T := TX0) (N := 13) X 0 in_X0 dX0_whose_20 q241 (rd0 ho) rfl (Nat.le_of_ble_eq_true rfl) (fun _ h9 => h9) rfl ?_
    refine g_getN (C := RX1) (T := TX1) (N := 8) X 7 in_X1 dX0_whose_23 q209 (rd1 ho) rfl (Nat.le_of_ble_eq_true rfl) (fun _ h9 => h9) rfl ?_
    refine g_iload_n X dX0_whose_26 rfl ?_
    refine g_aald (t := 5) (j := t) X dX0_whose_27 (rd17 ho) rfl rfl rfl (by omega) (by decide) (v := .ref (at_ t)) (by rw [hat1]; rfl) ?_
    refine g_callV (C := RX0) (T := TX0) (N := 13) X (k_X0_isLaw ho (S := S1) (o := o) (A := A) (W := Wt t) hu1 hw1 hic1 a3 (by rw [hI3]; exact hco) hl1 hsm htd htR1) (lw_V q1360 q1362 qs59 q135 q1363) hd_X0_isLaw dX0_whose_28 (rd0 ho) rfl rfl ⟨Nat.le_of_ble_eq_true rfl, Nat.le_of_ble_eq_true rfl⟩ ⟨Nat.le_of_ble_eq_true rfl, Nat.le_of_ble_eq_true rfl⟩ (Nat.le_of_ble_eq_true rfl) ?_
    rintro _ S2 ⟨rfl, hF2, hR2⟩
    refine g_ifp_eq (tgt := 40) X dX0_whose_31 rfl (fun c31 => ?_) (fun c31 => ?_)
    · refine g_iconst (v := 0) X dX0_whose_40 rfl ?_
      refine g_ior X dX0_whose_41 ?_
      refine g_istore_n X dX0_whose_42 (Nat.le_of_ble_eq_true rfl) ?_
      refine g_iinc (v := 1) X dX0_whose_43 rfl rfl (Nat.le_of_ble_eq_true rfl) ?_
      refine g_goto (tgt := 4) X dX0_whose_46 rfl ?_
      refine g_sub (le_1 rfl (le_1 (congrArg (fun z => some (Value.int z)) ((whI_f (Q := (fun t => lwI (toA o A n (Wt t)) nt)) (i := t) c31).symm)) (le_1 e_1 le_n))) (ih (t + 1, S2) ?_ ?_)
      · exact ⟨by omega, hI2.tr hF2, hR2.trans hI3⟩
      · show nx - (t + 1) < nx - t; omega
    · refine g_iconst (v := 1) X dX0_whose_34 rfl ?_
      refine g_iload_n X dX0_whose_35 rfl ?_
      refine g_ishl X dX0_whose_36 ?_
      refine g_goto (tgt := 41) X dX0_whose_37 rfl ?_
      refine g_ior X dX0_whose_41 ?_
      refine g_istore_n X dX0_whose_42 (Nat.le_of_ble_eq_true rfl) ?_
      refine g_iinc (v := 1) X dX0_whose_43 rfl rfl (Nat.le_of_ble_eq_true rfl) ?_
      refine g_goto (tgt := 4) X dX0_whose_46 rfl ?_
      refine g_sub (le_1 rfl (le_1 (congrArg (fun z => some (Value.int z)) ((whI_t (Q := (fun t => lwI (toA o A n (Wt t)) nt)) (i := t) c31).symm)) (le_1 e_1 le_n))) (ih (t + 1, S2) ?_ ?_)
      · exact ⟨by omega, hI2.tr hF2, hR2.trans hI3⟩
      · show nx - (t + 1) < nx - t; omega
