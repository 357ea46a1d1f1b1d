theorem FrM.dt {S : gk_S} {F T : Nat → Int32} {L : Nat → Int64} (h1 : offM F (S.1 405)) (h2 : lwB L) : FrM S (gk_dt S F L T) := by
  refine ⟨fun i a b c d e f => dt_i c d, fun j hj => by rw [dt_i (by decide) (by decide)], h1, h2, fun i hi => ?_, rfl⟩
  show va_up S.2.1 0 L i = _
  unfold va_up
  rw [if_neg hi]
abbrev woP (A : Nat → Int32) (x y : Int32) : Prop := (0 ≤ x ∧ x ≤ A 0 - 1) ∧ (0 ≤ y ∧ y ≤ 4)
theorem k_X2_worthF {l : Launch} {E : gk_E} (ho : E.2.2.2.2 = true) {S : gk_S} {x y z : Int32} {f k n : Nat} {g o : Nat → Int32} {W : Option mnB} (hy : y = nI f) (hf : f < 5) (hz : z = nI k) (hk : k < 5) (hw : wtM (S.1 402) x W) (hcl : S.1 201 24 = 0) (hu : MU S n g) (hsm : smA (S.1 400)) (hlw : lwB (S.2.1 0)) (hoff : offM (S.1 405) o) : gk_T l E yX2_worthBy cX2_worthBy 5 (some .int) 3 74 0 0 [.ref (E.2.2.1 3), .int x, .int y, .int z] S (fun r S' => r = some (.int (wvM W (vcA o (S.1 400) f k n))) ∧ S'.1 400 = S.1 400 ∧ FrM S S' ∧ S'.1 201 = S.1 201) := by
  refine gk_T.imp (k_X2_worthBy (n := n) ho hy hf hz hk hw hcl hu (ag_nm hsm hf hk) hlw) ?_
  rintro r S' ⟨A, B, h1, h2, h3⟩
  subst h2
  refine ⟨?_, dt_i (by decide) (by decide), FrM.dt nmM_o h3, dt_i (by decide) (by decide)⟩
  rw [h1, vcM_A, vcA_off hoff]
set_option maxHeartbeats 600000 in
theorem k_X2_worth {l : Launch} {E : gk_E} (ho : E.2.2.2.2 = true) {S : gk_S} {x : Int32} {y : Int32} {n nf : Nat} {g o : Nat → Int32} {W : Option mnB} (he : EnM S n nf g W) (hsm : smA (S.1 400)) (hlw : lwB (S.2.1 0)) (hoff : offM (S.1 405) o) : gk_T l E yX2_worth cX2_worth 3 ((some .int)) 4 98 0 0 [.ref (E.2.2.1 3), .int x, .int y] S (fun r S' => r = some (.int (if woP (S.1 400) x y then wvM W (vcA o (S.1 400) (ix x) (ix y) n) else -100)) ∧ S'.1 400 = S.1 400 ∧ FrM S S') := by
  refine gk_T.of [some (.ref (E.2.2.1 3)), some (.int x), some (.int y)] (by decide) (Nat.le_of_ble_eq_true rfl) (fun _ _ h => h) ?_
  intro p_ e_ R_ s_ m_ args_ below_ meth_ c_ hR X hr hin
  subst hR
  refine g_aload_n X dX2_worth_0 rfl ?_
  refine g_iload_n X dX2_worth_1 rfl ?_
  refine g_callV (C := RX2) (T := TX2) (N := 35) X (k_X2_isFarmer ho) (lw_V q1871 q1873 qs116 q139 q1874) hd_X2_isFarmer dX2_worth_2 (rd3 ho) rfl rfl ⟨Nat.le_of_ble_eq_true rfl, Nat.le_of_ble_eq_true rfl⟩ ⟨Nat.le_of_ble_eq_true rfl, Nat.le_of_ble_eq_true rfl⟩ (Nat.le_of_ble_eq_true rfl) ?_
  rintro _ S1 ⟨rfl, hS1⟩
  obtain rfl := hS1.symm
  refine g_ifp_eq (tgt := 30) X dX2_worth_5 rfl (fun c5 => ?_) (fun c5 => ?_)
  · refine g_bipush (v := (-100)) X dX2_worth_30 rfl ?_
    exact g_iret X hr dX2_worth_32 (Nat.le_of_ble_eq_true rfl) (Nat.le_of_ble_eq_true rfl) (⟨by rw [if_neg (fun w => c5 w.1)], rfl, FrM.rf hlw⟩)
  · refine g_iload_n X dX2_worth_8 rfl ?_
    refine g_callS X (k_X2_isField ho) (lw_S q1523 q1524 q139 q1525) hd_X2_isField dX2_worth_9 rfl ⟨Nat.le_of_ble_eq_true rfl, Nat.le_of_ble_eq_true rfl⟩ ⟨Nat.le_of_ble_eq_true rfl, Nat.le_of_ble_eq_true rfl⟩ (Nat.le_of_ble_eq_true rfl) ?_
    rintro _ S1 ⟨rfl, hS1⟩
    obtain rfl := hS1.symm
    refine g_ifp_eq (tgt := 30) X dX2_worth_12 rfl (fun c12 => ?_) (fun c12 => ?_)
    · refine g_bipush (v := (-100)) X dX2_worth_30 rfl ?_
      exact g_iret X hr dX2_worth_32 (Nat.le_of_ble_eq_true rfl) (Nat.le_of_ble_eq_true rfl) (⟨by rw [if_neg (fun w => c12 w.2)], rfl, FrM.rf hlw⟩)
    · have hP : woP (S.1 400) x y := ⟨c5, c12⟩
      have hxx := ix_i c5.1
      have hxb : ix x ≤ 4 := ix_le 4 (by decide) c5.1 (Int32.le_trans c5.2 (by rw [he.2.1]; exact nf_4 he.2.2.1))
      have hyy := ix_i c12.1
      have hyb : ix y ≤ 4 := ix_le 4 (by decide) c12.1 c12.2
      refine g_aload_n X dX2_worth_15 rfl ?_
      refine g_aload_n X dX2_worth_16 rfl ?_
      refine g_get (C := RX2) (T := TX2) (N := 35) X 0 in_X2 dX2_worth_17 q1405 (rd3 ho) rfl (Nat.le_of_ble_eq_true rfl) (fun _ h9 => h9) rfl ?_
      refine g_iconst (v := 2) X dX2_worth_20 rfl ?_
      refine g_iald (j := 2) X dX2_worth_21 (rdi ho (400) (rfl)) rfl (by decide) (by decide) ?_
      refine g_iload_n X dX2_worth_22 rfl ?_
      refine g_iload_n X dX2_worth_23 rfl ?_
      refine g_callV (C := RX2) (T := TX2) (N := 35) X (k_X2_worthF ho hxx (by omega) hyy (by omega) he.2.2.2.1 he.2.2.2.2 he.1 hsm hlw hoff) (lw_V q1829 q1831 qs110 q139 q1832) hd_X2_worthBy dX2_worth_24 (rd3 ho) rfl rfl ⟨Nat.le_of_ble_eq_true rfl, Nat.le_of_ble_eq_true rfl⟩ ⟨Nat.le_of_ble_eq_true rfl, Nat.le_of_ble_eq_true rfl⟩ (Nat.le_of_ble_eq_true rfl) ?_
      rintro _ S2 ⟨rfl, hA2, hF2, h201⟩
      refine g_goto (tgt := 32) X dX2_worth_27 rfl ?_
      exact g_iret X hr dX2_worth_32 (Nat.le_of_ble_eq_true rfl) (Nat.le_of_ble_eq_true rfl) (⟨by rw [if_pos hP], hA2, hF2⟩)
def lwI (P : Nat → Bool) (i : Nat) : Bool := itr (fun k b => b && P k) i true
theorem lwI_0 {P : Nat → Bool} : lwI P 0 = true := itr_0
theorem lwI_s {P : Nat → Bool} {i : Nat} : lwI P (i + 1) = (lwI P i && P i) := itr_s
/-- whether what is told by i agrees with a worth -/
def toA (o A : Nat → Int32) (n : Nat) (W : Option mnB) (i : Nat) : Bool := decide (wvM W (vcA o A (ix (A (62 + 3 * i))) (ix (A (62 + 3 * i + 1))) n) = A (62 + 3 * i + 2))
def whI (Q : Nat → Bool) (i : Nat) : Int32 := itr (fun t b => b ||| (if Q t = true then one (nI t) else 0)) i 0
theorem whI_0 {Q : Nat → Bool} : whI Q 0 = 0 := itr_0
theorem whI_t {Q : Nat → Bool} {i : Nat} (h : Q i = true) : whI Q (i + 1) = whI Q i ||| one (nI i) := congrArg (fun z => whI Q i ||| z) (if_pos h)
theorem whI_f {Q : Nat → Bool} {i : Nat} (h : ¬ Q i = true) : whI Q (i + 1) = whI Q i ||| 0 := congrArg (fun z => whI Q i ||| z) (if_neg h)
/-- what is told, of nt -/
def tdM (A : Nat → Int32) (nt : Nat) : Prop := nt ≤ 8 ∧ A 4 = nI nt ∧ ∀ i, i < nt → ∃ f k, f < 5 ∧ k < 5 ∧ A (62 + 3 * i) = nI f ∧ A (62 + 3 * i + 1) = nI k
theorem wh_y {P : Prop} [Decidable P] (h : ¬ bP P = 0) : P := Decidable.not_not.mp (fun z => h (bP_0.mpr z))
set_option maxHeartbeats 1000000 in
theorem k_X2_whose {l : Launch} {E : gk_E} (ho : E.2.2.2.2 = true) {S : gk_S}  {n nx nt : Nat} {g o : Nat → Int32} {Wt : Nat → Option mnB} (hu : MU S n g) (hcl : S.1 201 24 = 0) (hx1 : S.1 400 1 = nI nx) (hx2 : nx ≤ 4) (htd : tdM (S.1 400) nt) (hwt : ∀ t, t < nx → wtM (S.1 402) (nI t) (Wt t)) (hsm : smA (S.1 400)) (hlw : lwB (S.2.1 0)) (hoff : offM (S.1 405) o) : gk_T l E yX2_whose cX2_whose 5 ((some .int)) 4 98 0 0 [.ref (E.2.2.1 3)] S (fun r S' => r = some (.int (whI (fun t => lwI (toA o (S.1 400) n (Wt t)) nt) nx)) ∧ S'.1 400 = S.1 400 ∧ FrM S S') := by
  have ht8 : nt ≤ 8 := htd.1
  refine gk_T.of [some (.ref (E.2.2.1 3)), none, none, none, none] (by decide) (Nat.le_of_ble_eq_true rfl) (le_1 rfl (le_p (le_p (le_p (le_p le_n))))) ?_
  intro p_ e_ R_ s_ m_ args_ below_ meth_ c_ hR X hr hin
  subst hR
  refine g_iconst (v := 0) X dX2_whose_0 rfl ?_
  refine g_istore_n X dX2_whose_1 (Nat.le_of_ble_eq_true rfl) ?_
  refine g_iconst (v := 0) X dX2_whose_2 rfl ?_
  refine g_istore_n X dX2_whose_3 (Nat.le_of_ble_eq_true rfl) ?_
  refine g_loop (σ := Nat × gk_S) (fun (q : Nat × gk_S) => match q with | (t, S1) => S1) (fun (q : Nat × gk_S) => match q with | (t, S1) => ([some (.ref (E.2.2.1 3)), some (.int (whI (fun t => lwI (toA o (S.1 400) n (Wt t)) nt) t)), some (.int (nI t)), none, none] : List (Option Value))) (fun (q : Nat × gk_S) => match q with | (t, S1) => t ≤ nx ∧ S1.1 400 = S.1 400 ∧ FrM S S1 ∧ S1.1 201 = S.1 201) (fun (q : Nat × gk_S) => match q with | (t, S1) => nx - t) ((0, S)) ?_ (rfl) (le_1 rfl (le_1 (congrArg (fun z => some (Value.int z)) (whI_0.symm)) (le_1 rfl (le_0 (le_0 le_n))))) ?_
  · exact ⟨Nat.zero_le _, rfl, FrM.rf hlw, rfl⟩
  rintro ⟨t, S1⟩ hI ih
  try dsimp only at hI ih ⊢
  obtain ⟨hI1, hI2, hI3, hI4⟩ := hI
  refine g_iload_n X dX2_whose_4 rfl ?_
  refine g_aload_n X dX2_whose_5 rfl ?_
  refine g_get (C := RX2) (T := TX2) (N := 35) X 0 in_X2 dX2_whose_6 q1405 (rd3 ho) rfl (Nat.le_of_ble_eq_true rfl) (fun _ h9 => h9) rfl ?_
  refine g_iconst (v := 1) X dX2_whose_9 rfl ?_
  refine g_iald (j := 1) X dX2_whose_10 (rdi ho (400) (rfl)) rfl (by decide) (by decide) ?_
  refine g_top (y := nI nx) (by rw [hI2]; exact hx1) ?_
  refine g_icmp_ge (tgt := 105) X dX2_whose_11 rfl (fun c11 => ?_) (fun c11 => ?_)
  · have htx : nx = t := Nat.le_antisymm ((nI_leI (by omega) (by omega)).mp c11) hI1
    subst htx
    refine g_iload_n X dX2_whose_105 rfl ?_
    exact g_iret X hr dX2_whose_106 (Nat.le_of_ble_eq_true rfl) (Nat.le_of_ble_eq_true rfl) (⟨rfl, hI2, hI3⟩)
  · have htx : t < nx := (nI_ltI (by omega) (by omega)).mp (Int32.not_le.mp c11)
    refine g_iconst (v := 1) X dX2_whose_14 rfl ?_
    refine g_istore_n X dX2_whose_15 (Nat.le_of_ble_eq_true rfl) ?_
    refine g_bipush (v := 62) X dX2_whose_16 rfl ?_
    refine g_istore X dX2_whose_18 (Nat.le_of_ble_eq_true rfl) ?_
    refine g_loop (σ := Nat × gk_S) (fun (q : Nat × gk_S) => match q with | (i, S2) => S2) (fun (q : Nat × gk_S) => match q with | (i, S2) => ([some (.ref (E.2.2.1 3)), some (.int (whI (fun t => lwI (toA o (S.1 400) n (Wt t)) nt) t)), some (.int (nI t)), some (.int (bP (lwI (toA o (S.1 400) n (Wt t)) i = true))), some (.int (nI (62 + 3 * i)))] : List (Option Value))) (fun (q : Nat × gk_S) => match q with | (i, S2) => i ≤ nt ∧ S2.1 400 = S.1 400 ∧ FrM S S2 ∧ S2.1 201 = S.1 201) (fun (q : Nat × gk_S) => match q with | (i, S2) => nt - i) ((0, S1)) ?_ (rfl) (le_1 rfl (le_1 rfl (le_1 rfl (le_1 (congrArg (fun z => some (Value.int z)) ((bP_t lwI_0).symm)) (le_1 rfl le_n))))) ?_
    · exact ⟨Nat.zero_le _, hI2, hI3, hI4⟩
    rintro ⟨i, S2⟩ hJ ih2
    try dsimp only at hJ ih2 ⊢
    obtain ⟨hJ1, hJ2, hJ3, hJ4⟩ := hJ
    refine g_iload X dX2_whose_20 rfl ?_
    refine g_bipush (v := 62) X dX2_whose_22 rfl ?_
    refine g_iconst (v := 3) X dX2_whose_24 rfl ?_
    refine g_aload_n X dX2_whose_25 rfl ?_
    refine g_get (C := RX2) (T := TX2) (N := 35) X 0 in_X2 dX2_whose_26 q1405 (rd3 ho) rfl (Nat.le_of_ble_eq_true rfl) (fun _ h9 => h9) rfl ?_
    refine g_iconst (v := 4) X dX2_whose_29 rfl ?_
    refine g_iald (j := 4) X dX2_whose_30 (rdi ho (400) (rfl)) rfl (by decide) (by decide) ?_
    refine g_top (y := nI nt) (by rw [hJ2]; exact htd.2.1) ?_
    refine g_imul X dX2_whose_31 ?_
    refine g_iadd X dX2_whose_32 ?_
    refine g_top (y := nI (62 + 3 * nt)) (by show nI 62 + nI 3 * nI nt = _; rw [pk_mul, nI_add]) ?_
    refine g_icmp_ge (tgt := 85) X dX2_whose_33 rfl (fun c33 => ?_) (fun c33 => ?_)
    · have hin : nt = i := by
        have := (nI_leI (a := 62 + 3 * nt) (b := 62 + 3 * i) (by omega) (by omega)).mp c33
        omega
      subst hin
      refine g_iload_n X dX2_whose_85 rfl ?_
      refine g_iload_n X dX2_whose_86 rfl ?_
      refine g_if_eq (tgt := 96) X dX2_whose_87 rfl (fun c87 => ?_) (fun c87 => ?_)
      · refine g_iconst (v := 0) X dX2_whose_96 rfl ?_
        refine g_ior X dX2_whose_97 ?_
        refine g_istore_n X dX2_whose_98 (Nat.le_of_ble_eq_true rfl) ?_
        refine g_iinc (v := 1) X dX2_whose_99 rfl rfl (Nat.le_of_ble_eq_true rfl) ?_
        refine g_goto (tgt := 4) X dX2_whose_102 rfl ?_
        refine g_sub (le_1 rfl (le_1 (congrArg (fun z => some (Value.int z)) ((whI_f (Q := (fun t => lwI (toA o (S.1 400) n (Wt t)) nt)) (i := t) (bP_0.mp c87)).symm)) (le_1 e_1 (le_0 (le_0 le_n))))) (ih (t + 1, S2) ?_ ?_)
        · exact ⟨by omega, hJ2, hJ3, hJ4⟩
        · show nx - (t + 1) < nx - t; omega
      · refine g_iconst (v := 1) X dX2_whose_90 rfl ?_
        refine g_iload_n X dX2_whose_91 rfl ?_
        refine g_ishl X dX2_whose_92 ?_
        refine g_goto (tgt := 97) X dX2_whose_93 rfl ?_
        refine g_ior X dX2_whose_97 ?_
        refine g_istore_n X dX2_whose_98 (Nat.le_of_ble_eq_true rfl) ?_
        refine g_iinc (v := 1) X dX2_whose_99 rfl rfl (Nat.le_of_ble_eq_true rfl) ?_
        refine g_goto (tgt := 4) X dX2_whose_102 rfl ?_
        refine g_sub (le_1 rfl (le_1 (congrArg (fun z => some (Value.int z)) ((whI_t (Q := (fun t => lwI (toA o (S.1 400) n (Wt t)) nt)) (i := t) (wh_y c87)).symm)) (le_1 e_1 (le_0 (le_0 le_n))))) (ih (t + 1, S2) ?_ ?_)
        · exact ⟨by omega, hJ2, hJ3, hJ4⟩
        · show nx - (t + 1) < nx - t; omega
    · have hin : i < nt := by
        have := (nI_ltI (a := 62 + 3 * i) (b := 62 + 3 * nt) (by omega) (by omega)).mp (Int32.not_le.mp c33)
        omega
      refine g_iload_n X dX2_whose_36 rfl ?_
      refine g_if_eq (tgt := 77) X dX2_whose_37 rfl (fun c37 => ?_) (fun c37 => ?_)
      · refine g_iconst (v := 0) X dX2_whose_77 rfl ?_
        refine g_istore_n X dX2_whose_78 (Nat.le_of_ble_eq_true rfl) ?_
        refine g_iinc (v := 3) X dX2_whose_79 rfl rfl (Nat.le_of_ble_eq_true rfl) ?_
        refine g_goto (tgt := 20) X dX2_whose_82 rfl ?_
        refine g_sub (le_1 rfl (le_1 rfl (le_1 rfl (le_1 (congrArg (fun z => some (Value.int z)) ((bP_f (fun z => by rw [lwI_s] at z; exact absurd (Bool.and_eq_true_iff.mp z).1 (bP_0.mp c37))).symm)) (le_1 (congrArg (fun z => some (Value.int z)) (nI_add _ 3)) le_n))))) (ih2 (i + 1, S2) ?_ ?_)
        · exact ⟨by omega, hJ2, hJ3, hJ4⟩
        · show nt - (i + 1) < nt - i; omega
      · obtain ⟨f, k, hf, hk, hf2, hk2⟩ := htd.2.2 i hin
        refine g_aload_n X dX2_whose_40 rfl ?_
        refine g_iload_n X dX2_whose_41 rfl ?_
        refine g_aload_n X dX2_whose_42 rfl ?_
        refine g_get (C := RX2) (T := TX2) (N := 35) X 0 in_X2 dX2_whose_43 q1405 (rd3 ho) rfl (Nat.le_of_ble_eq_true rfl) (fun _ h9 => h9) rfl ?_
        refine g_iload X dX2_whose_46 rfl ?_
        refine g_iald (j := 62 + 3 * i) X dX2_whose_48 (rdi ho (400) (rfl)) rfl (by omega) (by decide) ?_
        refine g_top (y := nI f) (by rw [hJ2]; exact hf2) ?_
        refine g_aload_n X dX2_whose_49 rfl ?_
        refine g_get (C := RX2) (T := TX2) (N := 35) X 0 in_X2 dX2_whose_50 q1405 (rd3 ho) rfl (Nat.le_of_ble_eq_true rfl) (fun _ h9 => h9) rfl ?_
        refine g_iload X dX2_whose_53 rfl ?_
        refine g_iconst (v := 1) X dX2_whose_55 rfl ?_
        refine g_iadd X dX2_whose_56 ?_
        refine g_iald (j := 62 + 3 * i + 1) X dX2_whose_57 (rdi ho (400) (rfl)) (nI_1 _) (by omega) (by decide) ?_
        refine g_top (y := nI k) (by rw [hJ2]; exact hk2) ?_
        refine g_callV (C := RX2) (T := TX2) (N := 35) X (k_X2_worthF ho (S := S2) (n := n) (g := g) (o := o) (W := Wt t) rfl hf rfl hk (by rw [hJ3.1 402 (by decide) (by decide) (by decide) (by decide) (by decide) (by decide)]; exact hwt t htx) (by rw [hJ4]; exact hcl) (MU_a hu (by rw [hJ2]) (hJ3.1 402 (by decide) (by decide) (by decide) (by decide) (by decide) (by decide))) (by rw [hJ2]; exact hsm) hJ3.2.2.2.1 (fun z hz => (hJ3.2.2.1 z hz).trans (hoff z hz))) (lw_V q1829 q1831 qs110 q139 q1832) hd_X2_worthBy dX2_whose_58 (rd3 ho) rfl rfl ⟨Nat.le_of_ble_eq_true rfl, Nat.le_of_ble_eq_true rfl⟩ ⟨Nat.le_of_ble_eq_true rfl, Nat.le_of_ble_eq_true rfl⟩ (Nat.le_of_ble_eq_true rfl) ?_
        rintro _ S3 ⟨rfl, hA3, hF3, h203⟩
        rw [hJ2] at hA3
        refine g_top (y := wvM (Wt t) (vcA o (S.1 400) (ix (S.1 400 (62 + 3 * i))) (ix (S.1 400 (62 + 3 * i + 1))) n)) (by rw [hJ2, hf2, hk2, ix_n (by omega), ix_n (by omega)]) ?_
        refine g_aload_n X dX2_whose_61 rfl ?_
        refine g_get (C := RX2) (T := TX2) (N := 35) X 0 in_X2 dX2_whose_62 q1405 (rd3 ho) rfl (Nat.le_of_ble_eq_true rfl) (fun _ h9 => h9) rfl ?_
        refine g_iload X dX2_whose_65 rfl ?_
        refine g_iconst (v := 2) X dX2_whose_67 rfl ?_
        refine g_iadd X dX2_whose_68 ?_
        refine g_iald (j := 62 + 3 * i + 2) X dX2_whose_69 (rdi ho (400) (rfl)) (nI_add _ 2) (by omega) (by decide) ?_
        refine g_icmp_ne (tgt := 77) X dX2_whose_70 rfl (fun c70 => ?_) (fun c70 => ?_)
        · refine g_iconst (v := 0) X dX2_whose_77 rfl ?_
          refine g_istore_n X dX2_whose_78 (Nat.le_of_ble_eq_true rfl) ?_
          refine g_iinc (v := 3) X dX2_whose_79 rfl rfl (Nat.le_of_ble_eq_true rfl) ?_
          refine g_goto (tgt := 20) X dX2_whose_82 rfl ?_
          refine g_sub (le_1 rfl (le_1 rfl (le_1 rfl (le_1 (congrArg (fun z => some (Value.int z)) ((bP_f (fun z => by rw [lwI_s] at z; exact c70 (by rw [hA3]; exact of_decide_eq_true (Bool.and_eq_true_iff.mp z).2))).symm)) (le_1 (congrArg (fun z => some (Value.int z)) (nI_add _ 3)) le_n))))) (ih2 (i + 1, S3) ?_ ?_)
          · exact ⟨by omega, hA3, hJ3.tr hF3, h203.trans hJ4⟩
          · show nt - (i + 1) < nt - i; omega
        · refine g_iconst (v := 1) X dX2_whose_73 rfl ?_
          refine g_goto (tgt := 78) X dX2_whose_74 rfl ?_
          refine g_istore_n X dX2_whose_78 (Nat.le_of_ble_eq_true rfl) ?_
          refine g_iinc (v := 3) X dX2_whose_79 rfl rfl (Nat.le_of_ble_eq_true rfl) ?_
          refine g_goto (tgt := 20) X dX2_whose_82 rfl ?_
          refine g_sub (le_1 rfl (le_1 rfl (le_1 rfl (le_1 (congrArg (fun z => some (Value.int z)) ((bP_t (by rw [lwI_s]; exact Bool.and_eq_true_iff.mpr ⟨wh_y c37, decide_eq_true (by rw [hA3] at c70; exact c70)⟩)).symm)) (le_1 (congrArg (fun z => some (Value.int z)) (nI_add _ 3)) le_n))))) (ih2 (i + 1, S3) ?_ ?_)
          · exact ⟨by omega, hA3, hJ3.tr hF3, h203.trans hJ4⟩
          · show nt - (i + 1) < nt - i; omega
