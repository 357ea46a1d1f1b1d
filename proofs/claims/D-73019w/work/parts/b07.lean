theorem foA_st {o : Nat → Int32} {n nf : Nat} {g : Nat → Int32} {W : Option mnB} {A : Nat → Int32} {i : Nat} (h : ¬ foA o n nf g W A i 5 < 9999) : ∀ {d : Nat}, foA o n nf g W A (i + d) = foA o n nf g W A i
  | 0 => rfl
  | d + 1 => by
    have e := foA_st (d := d) h
    show foA o n nf g W A (i + d + 1) = _
    rw [foA_f (by rw [e]; exact h), e]
theorem rwR_ff {R A : Nat → Int32} (h : rwR true R A) : rwR false R A := by
  obtain ⟨h1, nb, h2, h3, -⟩ := h
  exact ⟨h1, nb, h2, h3, fun z => by cases z⟩
abbrev ftX (i : Nat) : Prop := i = 304 ∨ i = 301 ∨ i = 302 ∨ i = 303
def trS (S : gk_S) : gk_S := gk_si S 304 (va_cpy (S.1 11) (S.1 304) 0 0 122)
theorem trS_r {S : gk_S} {A : Nat → Int32} (h : rwR true (S.1 11) A) : rwR false ((trS S).1 304) A := by
  refine rwR_R (rwR_ff h) (fun k hk => ?_)
  unfold trS
  rw [si_s]
  unfold va_cpy
  rw [if_pos (by omega)]
  exact congrArg (S.1 11) (by omega)
theorem trS_F {S : gk_S} : FrC ftX S (trS S) := FrC.si (Or.inl rfl) (by decide)
set_option maxHeartbeats 1000000 in
theorem k_X0_foretold {l : Launch} {E : gk_E} (ho : E.2.2.2.2 = true) {S : gk_S} {x : Int32} {y : Int32} {z : Int32} {ic : Nat → Nat} {a n nf : Nat} {g o A : Nat → Int32} {W : Option mnB} (he : EnC E ic S a n nf g W) (hA0 : A 0 = nI nf) (hrw : rwR true (S.1 11) A) (hA : rwM A) (hl : ldR S A) : gk_T l E yX0_foretold cX0_foretold 6 ((some .int)) 253 8078 0 0 [.ref (E.2.2.1 0), .int x, .int y, .int z] S (fun r S' => r = some (.int (if ftP A x y z then foA o n nf g W A (ix x) (17 + 2 * ix y + ix z) else -2)) ∧ FrC ftX S S') := by
  refine gk_T.of [some (.ref (E.2.2.1 0)), some (.int x), some (.int y), some (.int z), none, none] (by decide) (Nat.le_of_ble_eq_true rfl) (le_1 rfl (le_1 rfl (le_1 rfl (le_1 rfl (le_p (le_p le_n)))))) ?_
  intro p_ e_ R_ s_ m_ args_ below_ meth_ c_ hR X hr hin
  subst hR
  refine g_iload_n X dX0_foretold_0 rfl ?_
  refine g_iconst (v := 1) X dX0_foretold_1 rfl ?_
  refine g_bipush (v := 60) X dX0_foretold_2 rfl ?_
  refine g_callS X (k_X0_in ho) (lw_S q291 q292 q135 q293) hd_X0_in dX0_foretold_4 rfl ⟨Nat.le_of_ble_eq_true rfl, Nat.le_of_ble_eq_true rfl⟩ ⟨Nat.le_of_ble_eq_true rfl, Nat.le_of_ble_eq_true rfl⟩ (Nat.le_of_ble_eq_true rfl) ?_
  rintro _ S1 ⟨rfl, hS1⟩
  obtain rfl := hS1.symm
  refine g_ifp_eq (tgt := 27) X dX0_foretold_7 rfl (fun c7 => ?_) (fun c7 => ?_)
  · refine g_bipush (v := (-2)) X dX0_foretold_27 rfl ?_
    exact g_iret X hr dX0_foretold_29 (Nat.le_of_ble_eq_true rfl) (Nat.le_of_ble_eq_true rfl) (⟨by rw [if_neg (fun w => c7 w.1)], FrC.rf⟩)
  · refine g_aload_n X dX0_foretold_10 rfl ?_
    refine g_iload_n X dX0_foretold_11 rfl ?_
    refine g_callV (C := RX0) (T := TX0) (N := 13) X (k_X0_isFarmer ho) (lw_V q1161 q1163 qs42 q135 q1164) hd_X0_isFarmer dX0_foretold_12 (rd0 ho) rfl rfl ⟨Nat.le_of_ble_eq_true rfl, Nat.le_of_ble_eq_true rfl⟩ ⟨Nat.le_of_ble_eq_true rfl, Nat.le_of_ble_eq_true rfl⟩ (Nat.le_of_ble_eq_true rfl) ?_
    rintro _ S1 ⟨rfl, hS1⟩
    obtain rfl := hS1.symm
    refine g_ifp_eq (tgt := 27) X dX0_foretold_15 rfl (fun c15 => ?_) (fun c15 => ?_)
    · refine g_bipush (v := (-2)) X dX0_foretold_27 rfl ?_
      exact g_iret X hr dX0_foretold_29 (Nat.le_of_ble_eq_true rfl) (Nat.le_of_ble_eq_true rfl) (⟨by rw [if_neg (fun w => c15 (by rw [he.2.1, ← hA0]; exact w.2.1))], FrC.rf⟩)
    · refine g_iload_n X dX0_foretold_18 rfl ?_
      refine g_iconst (v := 0) X dX0_foretold_19 rfl ?_
      refine g_iconst (v := 1) X dX0_foretold_20 rfl ?_
      refine g_callS X (k_X0_in ho) (lw_S q291 q292 q135 q293) hd_X0_in dX0_foretold_21 rfl ⟨Nat.le_of_ble_eq_true rfl, Nat.le_of_ble_eq_true rfl⟩ ⟨Nat.le_of_ble_eq_true rfl, Nat.le_of_ble_eq_true rfl⟩ (Nat.le_of_ble_eq_true rfl) ?_
      rintro _ S1 ⟨rfl, hS1⟩
      obtain rfl := hS1.symm
      refine g_ifp_ne (tgt := 30) X dX0_foretold_24 rfl (fun c24 => ?_) (fun c24 => ?_)
      · have hP : ftP A x y z := ⟨c7, by rw [hA0, ← he.2.1]; exact c15, c24⟩
        have hxx := ix_i (Int32.le_trans (by decide) c7.1)
        have hxb : ix x ≤ 60 := ix_le 60 (by decide) (Int32.le_trans (by decide) c7.1) c7.2
        obtain ⟨xx, hxe⟩ : ∃ xx, xx = ix x := ⟨_, rfl⟩
        have hyy := ix_i c15.1
        have hyb : ix y ≤ 4 := ix_le 4 (by decide) c15.1 (Int32.le_trans c15.2 (by rw [he.2.1]; exact nf_4 he.2.2.1))
        have hzz := ix_i c24.1
        have hzb : ix z ≤ 1 := ix_le 1 (by decide) c24.1 c24.2
        refine g_aload_n X dX0_foretold_30 rfl ?_
        refine g_get (C := RX0) (T := TX0) (N := 13) X 0 in_X0 dX0_foretold_31 q241 (rd0 ho) rfl (Nat.le_of_ble_eq_true rfl) (fun _ h9 => h9) rfl ?_
        refine g_getN (C := RX1) (T := TX1) (N := 8) X 1 in_X1 dX0_foretold_34 q197 (rd1 ho) rfl (Nat.le_of_ble_eq_true rfl) (fun _ h9 => h9) rfl ?_
        refine g_aload_n X dX0_foretold_37 rfl ?_
        refine g_get (C := RX0) (T := TX0) (N := 13) X 9 in_X0 dX0_foretold_38 q250 (rd0 ho) rfl (Nat.le_of_ble_eq_true rfl) (fun _ h9 => h9) rfl ?_
        refine g_callSN X (k_X1_copy ho (rdi ho 11 rfl) (rfl : gk_kd 304 = some (0, 122)) (by decide)) q234 q1156 q136 q233 hd_X1_copy dX0_foretold_41 rfl ⟨Nat.le_of_ble_eq_true rfl, Nat.le_of_ble_eq_true rfl⟩ ⟨Nat.le_of_ble_eq_true rfl, Nat.le_of_ble_eq_true rfl⟩ (Nat.le_of_ble_eq_true rfl) ?_
        rintro _ S1 ⟨rfl, hS1⟩
        obtain rfl := hS1.symm
        refine g_eq (S2 := trS S) rfl ?_
        refine g_iconst (v := 0) X dX0_foretold_44 rfl ?_
        refine g_istore X dX0_foretold_45 (Nat.le_of_ble_eq_true rfl) ?_
        refine g_iconst (v := 0) X dX0_foretold_47 rfl ?_
        refine g_istore X dX0_foretold_48 (Nat.le_of_ble_eq_true rfl) ?_
        refine g_loop (σ := Nat × gk_S × Int32) (fun (q : Nat × gk_S × Int32) => match q with | (i, S1, lo) => S1) (fun (q : Nat × gk_S × Int32) => match q with | (i, S1, lo) => ([some (.ref (E.2.2.1 0)), some (.int x), some (.int y), some (.int z), some (.int lo), some (.int (nI i))] : List (Option Value))) (fun (q : Nat × gk_S × Int32) => match q with | (i, S1, lo) => i ≤ xx ∧ rwR false (S1.1 304) (foA o n nf g W A i) ∧ rwM (foA o n nf g W A i) ∧ EnC E ic S1 a n nf g W ∧ ldR S1 (foA o n nf g W A i) ∧ FrC ftX S S1) (fun (q : Nat × gk_S × Int32) => match q with | (i, S1, lo) => xx - i) ((0, trS S, 0)) ?_ (rfl) (le_1 rfl (le_1 rfl (le_1 rfl (le_1 rfl (le_1 rfl (le_1 rfl le_n)))))) ?_
        · exact ⟨Nat.zero_le _, by rw [foA_0]; exact trS_r hrw, by rw [foA_0]; exact hA, he.c (trS_F.2.1 10 (by omega) ▸ rfl) (trS_F.2.1 10 (by omega) ▸ rfl) rfl, by rw [foA_0]; exact ldR_f hl trS_F (fun i hi => by omega) (fun _ _ => rfl), trS_F⟩
        rintro ⟨i, S1, lo⟩ hI ih
        try dsimp only at hI ih ⊢
        obtain ⟨hI1, hI2, hI3, hI4, hI5, hI6⟩ := hI
        refine g_iload X dX0_foretold_50 rfl ?_
        refine g_iload_n X dX0_foretold_52 rfl ?_
        refine g_icmp_ge (tgt := 87) X dX0_foretold_53 rfl (fun c53 => ?_) (fun c53 => ?_)
        · have hix : xx = i := Nat.le_antisymm ((nI_leI (by omega) (by omega)).mp (by rw [hxe, ← hxx]; exact c53)) hI1
          have hfin : foA o n nf g W A xx = foA o n nf g W A i := by rw [hix]
          have hco := hI2.1
          refine g_aload_n X dX0_foretold_87 rfl ?_
          refine g_get (C := RX0) (T := TX0) (N := 13) X 9 in_X0 dX0_foretold_88 q250 (rd0 ho) rfl (Nat.le_of_ble_eq_true rfl) (fun _ h9 => h9) rfl ?_
          refine g_iload_n X dX0_foretold_91 rfl ?_
          refine g_if_ne (tgt := 100) X dX0_foretold_92 rfl (fun c92 => ?_) (fun c92 => ?_)
          · have hz1 : ix z = 1 := by
              have : ix z ≠ 0 := fun w => c92 (by rw [hzz, w]; rfl)
              omega
            refine g_bipush (v := 16) X dX0_foretold_100 rfl ?_
            refine g_iload_n X dX0_foretold_102 rfl ?_
            refine g_iadd X dX0_foretold_103 ?_
            refine g_iald (j := 16 + ix y) X dX0_foretold_104 (rdi ho (304) (rfl)) (by rw [hyy]; show nI 16 + nI _ = _; rw [nI_add, ix_n (by omega)]) (by omega) (by decide) ?_
            exact g_iret X hr dX0_foretold_105 (Nat.le_of_ble_eq_true rfl) (Nat.le_of_ble_eq_true rfl) (⟨by rw [if_pos hP, ← hxe, hfin, hz1, (hco.2.2.2.2.2 _ (by omega)).1, show 18 + 2 * ix y = 17 + 2 * ix y + 1 by omega], hI6⟩)
          · have hz0 : ix z = 0 := by rw [c92]; rfl
            refine g_bipush (v := 11) X dX0_foretold_95 rfl ?_
            refine g_goto (tgt := 102) X dX0_foretold_97 rfl ?_
            refine g_iload_n X dX0_foretold_102 rfl ?_
            refine g_iadd X dX0_foretold_103 ?_
            refine g_iald (j := 11 + ix y) X dX0_foretold_104 (rdi ho (304) (rfl)) (by rw [hyy]; show nI 11 + nI _ = _; rw [nI_add, ix_n (by omega)]) (by omega) (by decide) ?_
            exact g_iret X hr dX0_foretold_105 (Nat.le_of_ble_eq_true rfl) (Nat.le_of_ble_eq_true rfl) (⟨by rw [if_pos hP, ← hxe, hfin, hz0, hco.2.2.2.2.1 _ (by omega), Nat.add_zero], hI6⟩)
        · have hix : i < xx := (nI_ltI (by omega) (by omega)).mp (Int32.not_le.mp (by rw [hxe, ← hxx]; exact c53))
          refine g_aload_n X dX0_foretold_56 rfl ?_
          refine g_get (C := RX0) (T := TX0) (N := 13) X 9 in_X0 dX0_foretold_57 q250 (rd0 ho) rfl (Nat.le_of_ble_eq_true rfl) (fun _ h9 => h9) rfl ?_
          refine g_iconst (v := 0) X dX0_foretold_60 rfl ?_
          refine g_iald (j := 0) X dX0_foretold_61 (rdi ho (304) (rfl)) rfl (by decide) (by decide) ?_
          refine g_sipush (v := 9999) X dX0_foretold_62 rfl ?_
          refine g_icmp_ge (tgt := 87) X dX0_foretold_65 rfl (fun c65 => ?_) (fun c65 => ?_)
          · have hfin : foA o n nf g W A xx = foA o n nf g W A i := by
              have e := foA_st (o := o) (n := n) (nf := nf) (g := g) (W := W) (A := A) (i := i) (by rw [← hI2.1.1]; exact Int32.not_lt.mpr c65) (d := xx - i)
              rwa [show i + (xx - i) = xx by omega] at e
            have hco := hI2.1
            refine g_aload_n X dX0_foretold_87 rfl ?_
            refine g_get (C := RX0) (T := TX0) (N := 13) X 9 in_X0 dX0_foretold_88 q250 (rd0 ho) rfl (Nat.le_of_ble_eq_true rfl) (fun _ h9 => h9) rfl ?_
            refine g_iload_n X dX0_foretold_91 rfl ?_
            refine g_if_ne (tgt := 100) X dX0_foretold_92 rfl (fun c92 => ?_) (fun c92 => ?_)
            · have hz1 : ix z = 1 := by
                have : ix z ≠ 0 := fun w => c92 (by rw [hzz, w]; rfl)
                omega
              refine g_bipush (v := 16) X dX0_foretold_100 rfl ?_
              refine g_iload_n X dX0_foretold_102 rfl ?_
              refine g_iadd X dX0_foretold_103 ?_
              refine g_iald (j := 16 + ix y) X dX0_foretold_104 (rdi ho (304) (rfl)) (by rw [hyy]; show nI 16 + nI _ = _; rw [nI_add, ix_n (by omega)]) (by omega) (by decide) ?_
              exact g_iret X hr dX0_foretold_105 (Nat.le_of_ble_eq_true rfl) (Nat.le_of_ble_eq_true rfl) (⟨by rw [if_pos hP, ← hxe, hfin, hz1, (hco.2.2.2.2.2 _ (by omega)).1, show 18 + 2 * ix y = 17 + 2 * ix y + 1 by omega], hI6⟩)
            · have hz0 : ix z = 0 := by rw [c92]; rfl
              refine g_bipush (v := 11) X dX0_foretold_95 rfl ?_
              refine g_goto (tgt := 102) X dX0_foretold_97 rfl ?_
              refine g_iload_n X dX0_foretold_102 rfl ?_
              refine g_iadd X dX0_foretold_103 ?_
              refine g_iald (j := 11 + ix y) X dX0_foretold_104 (rdi ho (304) (rfl)) (by rw [hyy]; show nI 11 + nI _ = _; rw [nI_add, ix_n (by omega)]) (by omega) (by decide) ?_
              exact g_iret X hr dX0_foretold_105 (Nat.le_of_ble_eq_true rfl) (Nat.le_of_ble_eq_true rfl) (⟨by rw [if_pos hP, ← hxe, hfin, hz0, hco.2.2.2.2.1 _ (by omega), Nat.add_zero], hI6⟩)
          · have h5l : (foA o n nf g W A i) 5 < 9999 := by rw [← hI2.1.1]; exact Int32.not_le.mp c65
            refine g_iload X dX0_foretold_68 rfl ?_
            refine g_aload_n X dX0_foretold_70 rfl ?_
            refine g_aload_n X dX0_foretold_71 rfl ?_
            refine g_get (C := RX0) (T := TX0) (N := 13) X 9 in_X0 dX0_foretold_72 q250 (rd0 ho) rfl (Nat.le_of_ble_eq_true rfl) (fun _ h9 => h9) rfl ?_
            refine g_callV (C := RX0) (T := TX0) (N := 13) X (k_X0_passR_304 ho (S := S1) (A := foA o n nf g W A i) (o := o) hI4 hI3 hI5 hI2 (lt9 h5l)) (lw_V q1007 q1009 qs25 q135 q1010) hd_X0_passes dX0_foretold_75 (rd0 ho) rfl rfl ⟨Nat.le_of_ble_eq_true rfl, Nat.le_of_ble_eq_true rfl⟩ ⟨Nat.le_of_ble_eq_true rfl, Nat.le_of_ble_eq_true rfl⟩ (Nat.le_of_ble_eq_true rfl) ?_
            rintro _ S2 ⟨rfl, hR2, hF2⟩
            refine g_ior X dX0_foretold_78 ?_
            refine g_istore X dX0_foretold_79 (Nat.le_of_ble_eq_true rfl) ?_
            refine g_iinc (v := 1) X dX0_foretold_81 rfl rfl (Nat.le_of_ble_eq_true rfl) ?_
            refine g_goto (tgt := 50) X dX0_foretold_84 rfl ?_
            refine g_sub (le_1 rfl (le_1 rfl (le_1 rfl (le_1 rfl (le_1 rfl (le_1 e_1 le_n)))))) (ih (i + 1, S2, lo ||| (pmA false o n nf g W (foA o n nf g W A i)).2) ?_ ?_)
            · exact ⟨by omega, by rw [foA_t h5l]; exact hR2, by rw [foA_t h5l]; exact pmA_rw hI4.1.1 hI4.2.2.1 hI3 (lt9 h5l), hI4.c (by rw [hF2.2.1 10 (by omega)]) (by rw [hF2.2.1 10 (by omega)]) hF2.1, by rw [foA_t h5l]; exact ldR_f hI5 hF2 (fun i hi => by omega) (fun k hk => pmA_fo hI4.1.1 hI4.2.2.1 hI3 (by omega)), hI6.tr hF2⟩
            · show xx - (i + 1) < xx - i; omega
      · refine g_bipush (v := (-2)) X dX0_foretold_27 rfl ?_
        exact g_iret X hr dX0_foretold_29 (Nat.le_of_ble_eq_true rfl) (Nat.le_of_ble_eq_true rfl) (⟨by rw [if_neg (fun w => c24 w.2.2)], FrC.rf⟩)
theorem or_lt : ∀ i, i < 5 → ∀ w, w < 32 → w < 2 ^ i → nI w ||| one (nI i) = nI (w ||| 2 ^ i) ∧ (w ||| 2 ^ i) < 2 ^ (i + 1) := by decide +kernel
theorem bad_lt {n v : Nat} {g A cl : Nat → Int32} : ∀ {i : Nat}, i ≤ 5 → ∃ w, w < 2 ^ i ∧ (bMs n g (A, v, cl, 0) i).2.2.2 = nI w
  | 0, _ => ⟨0, by decide, by rw [bMs_0]; rfl⟩
  | i + 1, h => by
    obtain ⟨w, hw, e⟩ := bad_lt (n := n) (v := v) (g := g) (A := A) (cl := cl) (i := i) (by omega)
    have h32 : 2 ^ i ≤ 32 := by
      rcases (show i = 0 ∨ i = 1 ∨ i = 2 ∨ i = 3 ∨ i = 4 by omega) with z | z | z | z | z <;> subst z <;> decide
    by_cases c : (rfM n g (bMs n g (A, v, cl, 0) i).2.1 i (bMs n g (A, v, cl, 0) i).1).2 = true
    · rw [bMs_t c]
      dsimp only
      rw [e]
      exact ⟨_, (or_lt i (by omega) w (by omega) hw).2, (or_lt i (by omega) w (by omega) hw).1⟩
    · rw [bMs_f c]
      exact ⟨w, Nat.lt_of_lt_of_le hw (Nat.pow_le_pow_right (by decide) (Nat.le_succ i)), e⟩
theorem all_dec : ∀ nf, nf < 6 → ∀ w, w < 32 → w < 2 ^ nf → (bcN w = nf ↔ w = 2 ^ nf - 1) := by decide +kernel
theorem all_one : ∀ nf, nf < 6 → one (nI nf) - 1 = nI (2 ^ nf - 1) ∧ 2 ^ nf - 1 < 32 ∧ 2 ^ nf ≤ 32 := by decide +kernel
theorem all_iff {wr : Bool} {o A g : Nat → Int32} {n nf : Nat} {W : Option mnB} (hf : nf ≤ 5) : (bcI (pmA wr o n nf g W A).2 = nI nf ↔ (pmA wr o n nf g W A).2 = one (nI nf) - 1) := by
  obtain ⟨w, hw, e⟩ : ∃ w, w < 2 ^ nf ∧ (pmA wr o n nf g W A).2 = nI w := by
    unfold pmA pbA
    exact bad_lt hf
  obtain ⟨a1, a2, a3⟩ := all_one nf (by omega)
  rw [e, bcI_N (by omega), a1]
  have h1 := all_dec nf (by omega) w (by omega) hw
  have h2 := nI_eq (a := bcN w) (b := nf) (by have := bcN_le (w := w); omega) (by omega)
  have h3 := nI_eq (a := w) (b := 2 ^ nf - 1) (by omega) (by omega)
  rw [h2, h3]
  exact h1
set_option maxHeartbeats 1000000 in
theorem k_X0_lasts {l : Launch} {E : gk_E} (ho : E.2.2.2.2 = true) {S : gk_S}  {ic : Nat → Nat} {a n nf : Nat} {g o A : Nat → Int32} {W : Option mnB} (he : EnC E ic S a n nf g W) (hrw : rwR true (S.1 11) A) (hA : rwM A) (hl : ldR S A) : gk_T l E yX0_lasts cX0_lasts 2 ((some .int)) 253 8078 0 0 [.ref (E.2.2.1 0)] S (fun r S' => r = some (.int (if n = 0 then 0 else nI (laA o n nf g W 60 1 A))) ∧ FrC ftX S S') := by
  have hn8 : n ≤ 8 := he.1.1
  have hnf5 : nf ≤ 5 := he.2.2.1
  refine gk_T.of [some (.ref (E.2.2.1 0)), none] (by decide) (Nat.le_of_ble_eq_true rfl) (le_1 rfl (le_p le_n)) ?_
  intro p_ e_ R_ s_ m_ args_ below_ meth_ c_ hR X hr hin
  subst hR
  refine g_aload_n X dX0_lasts_0 rfl ?_
  refine g_callV (C := RX0) (T := TX0) (N := 13) X (k_X0_claims ho he.1) (lw_V q1015 q1017 qs27 q135 q1018) hd_X0_claims dX0_lasts_1 (rd0 ho) rfl rfl ⟨Nat.le_of_ble_eq_true rfl, Nat.le_of_ble_eq_true rfl⟩ ⟨Nat.le_of_ble_eq_true rfl, Nat.le_of_ble_eq_true rfl⟩ (Nat.le_of_ble_eq_true rfl) ?_
  rintro _ S1 ⟨rfl, hS1⟩
  obtain rfl := hS1.symm
  refine g_if_ne (tgt := 9) X dX0_lasts_4 rfl (fun c4 => ?_) (fun c4 => ?_)
  · have hn0 : ¬ n = 0 := fun z => c4 (by rw [z]; rfl)
    refine g_aload_n X dX0_lasts_9 rfl ?_
    refine g_get (C := RX0) (T := TX0) (N := 13) X 0 in_X0 dX0_lasts_10 q241 (rd0 ho) rfl (Nat.le_of_ble_eq_true rfl) (fun _ h9 => h9) rfl ?_
    refine g_getN (C := RX1) (T := TX1) (N := 8) X 1 in_X1 dX0_lasts_13 q197 (rd1 ho) rfl (Nat.le_of_ble_eq_true rfl) (fun _ h9 => h9) rfl ?_
    refine g_aload_n X dX0_lasts_16 rfl ?_
    refine g_get (C := RX0) (T := TX0) (N := 13) X 9 in_X0 dX0_lasts_17 q250 (rd0 ho) rfl (Nat.le_of_ble_eq_true rfl) (fun _ h9 => h9) rfl ?_
    refine g_callSN X (k_X1_copy ho (rdi ho 11 rfl) (rfl : gk_kd 304 = some (0, 122)) (by decide)) q234 q1156 q136 q233 hd_X1_copy dX0_lasts_20 rfl ⟨Nat.le_of_ble_eq_true rfl, Nat.le_of_ble_eq_true rfl⟩ ⟨Nat.le_of_ble_eq_true rfl, Nat.le_of_ble_eq_true rfl⟩ (Nat.le_of_ble_eq_true rfl) ?_
    rintro _ S1 ⟨rfl, hS1⟩
    obtain rfl := hS1.symm
    refine g_eq (S2 := trS S) rfl ?_
    refine g_iconst (v := 1) X dX0_lasts_23 rfl ?_
    refine g_istore_n X dX0_lasts_24 (Nat.le_of_ble_eq_true rfl) ?_
    refine g_loop (σ := Nat × gk_S × (Nat → Int32)) (fun (q : Nat × gk_S × (Nat → Int32)) => match q with | (k, S1, B) => S1) (fun (q : Nat × gk_S × (Nat → Int32)) => match q with | (k, S1, B) => ([some (.ref (E.2.2.1 0)), some (.int (nI k))] : List (Option Value))) (fun (q : Nat × gk_S × (Nat → Int32)) => match q with | (k, S1, B) => 1 ≤ k ∧ k ≤ 61 ∧ laA o n nf g W (61 - k) k B = laA o n nf g W 60 1 A ∧ rwR false (S1.1 304) B ∧ rwM B ∧ EnC E ic S1 a n nf g W ∧ ldR S1 B ∧ FrC ftX S S1) (fun (q : Nat × gk_S × (Nat → Int32)) => match q with | (k, S1, B) => 61 - k) ((1, trS S, A)) ?_ (rfl) (le_1 rfl (le_1 rfl le_n)) ?_
    · exact ⟨by omega, by omega, rfl, trS_r hrw, hA, he.c (trS_F.2.1 10 (by omega) ▸ rfl) (trS_F.2.1 10 (by omega) ▸ rfl) rfl, ldR_f hl trS_F (fun i hi => by omega) (fun _ _ => rfl), trS_F⟩
    rintro ⟨k, S1, B⟩ hI ih
    try dsimp only at hI ih ⊢
    obtain ⟨hI0, hI1, hI2, hI3, hI4, hI5, hI6, hI7⟩ := hI
    refine g_iload_n X dX0_lasts_25 rfl ?_
    refine g_bipush (v := 60) X dX0_lasts_26 rfl ?_
    refine g_icmp_gt (tgt := 77) X dX0_lasts_28 rfl (fun c28 => ?_) (fun c28 => ?_)
    · have hk61 : k = 61 := by
        have := (nI_ltI (a := 60) (b := k) (by decide) (by omega)).mp c28
        omega
      subst hk61
      rw [show 61 - 61 = 0 from rfl, laA_0] at hI2
      refine g_bipush (v := 60) X dX0_lasts_77 rfl ?_
      exact g_iret X hr dX0_lasts_79 (Nat.le_of_ble_eq_true rfl) (Nat.le_of_ble_eq_true rfl) (⟨by rw [if_neg hn0, ← hI2]; rfl, hI7⟩)
    · have hk60 : k ≤ 60 := Nat.not_lt.mp (fun z => c28 (nI_lt z (by omega)))
      refine g_aload_n X dX0_lasts_31 rfl ?_
      refine g_get (C := RX0) (T := TX0) (N := 13) X 9 in_X0 dX0_lasts_32 q250 (rd0 ho) rfl (Nat.le_of_ble_eq_true rfl) (fun _ h9 => h9) rfl ?_
      refine g_iconst (v := 0) X dX0_lasts_35 rfl ?_
      refine g_iald (j := 0) X dX0_lasts_36 (rdi ho (304) (rfl)) rfl (by decide) (by decide) ?_
      refine g_sipush (v := 9999) X dX0_lasts_37 rfl ?_
      refine g_icmp_ge (tgt := 71) X dX0_lasts_40 rfl (fun c40 => ?_) (fun c40 => ?_)
      · refine g_iinc (v := 1) X dX0_lasts_71 rfl rfl (Nat.le_of_ble_eq_true rfl) ?_
        refine g_goto (tgt := 25) X dX0_lasts_74 rfl ?_
        have h5n : ¬ B 5 < 9999 := by rw [← hI3.1.1]; exact Int32.not_lt.mpr c40
        refine g_sub (le_1 rfl (le_1 e_1 le_n)) (ih (k + 1, S1, B) ?_ ?_)
        · exact ⟨by omega, by omega, by rw [← hI2, laA_n (m := 61 - (k + 1)) h5n, laA_n (m := 61 - k) h5n], hI3, hI4, hI5, hI6, hI7⟩
        · show 61 - (k + 1) < 61 - k; omega
      · have h5l : B 5 < 9999 := by rw [← hI3.1.1]; exact Int32.not_le.mp c40
        refine g_aload_n X dX0_lasts_43 rfl ?_
        refine g_aload_n X dX0_lasts_44 rfl ?_
        refine g_get (C := RX0) (T := TX0) (N := 13) X 9 in_X0 dX0_lasts_45 q250 (rd0 ho) rfl (Nat.le_of_ble_eq_true rfl) (fun _ h9 => h9) rfl ?_
        refine g_callV (C := RX0) (T := TX0) (N := 13) X (k_X0_passR_304 ho (S := S1) (A := B) (o := o) hI5 hI4 hI6 hI3 (lt9 h5l)) (lw_V q1007 q1009 qs25 q135 q1010) hd_X0_passes dX0_lasts_48 (rd0 ho) rfl rfl ⟨Nat.le_of_ble_eq_true rfl, Nat.le_of_ble_eq_true rfl⟩ ⟨Nat.le_of_ble_eq_true rfl, Nat.le_of_ble_eq_true rfl⟩ (Nat.le_of_ble_eq_true rfl) ?_
        rintro _ S2 ⟨rfl, hR2, hF2⟩
        refine g_iconst (v := 1) X dX0_lasts_51 rfl ?_
        refine g_aload_n X dX0_lasts_52 rfl ?_
        refine g_callV (C := RX0) (T := TX0) (N := 13) X (k_X0_farmers ho) (lw_V q287 q289 qs0 q135 q290) hd_X0_farmers dX0_lasts_53 (rd0 ho) rfl rfl ⟨Nat.le_of_ble_eq_true rfl, Nat.le_of_ble_eq_true rfl⟩ ⟨Nat.le_of_ble_eq_true rfl, Nat.le_of_ble_eq_true rfl⟩ (Nat.le_of_ble_eq_true rfl) ?_
        rintro _ S1 ⟨rfl, hS1⟩
        obtain rfl := hS1.symm
        refine g_top (y := nI nf) ((hF2.2.1 10 (by omega) ▸ rfl : S2.1 10 0 = S1.1 10 0).trans hI5.2.1) ?_
        refine g_ishl X dX0_lasts_56 ?_
        refine g_iconst (v := 1) X dX0_lasts_57 rfl ?_
        refine g_isub X dX0_lasts_58 ?_
        refine g_icmp_ne (tgt := 71) X dX0_lasts_59 rfl (fun c59 => ?_) (fun c59 => ?_)
        · refine g_iinc (v := 1) X dX0_lasts_71 rfl rfl (Nat.le_of_ble_eq_true rfl) ?_
          refine g_goto (tgt := 25) X dX0_lasts_74 rfl ?_
          have hno : ¬ (0 < nf ∧ bcI (pmA false o n nf g W B).2 = nI nf) := fun z => c59 ((all_iff hI5.2.2.1).mp z.2)
          refine g_sub (le_1 rfl (le_1 e_1 le_n)) (ih (k + 1, S2, (pmA false o n nf g W B).1) ?_ ?_)
          · exact ⟨by omega, by omega, by rw [← hI2, laA_f (m := 61 - k) (by omega) h5l hno, show 61 - k - 1 = 61 - (k + 1) by omega], hR2, pmA_rw hI5.1.1 hI5.2.2.1 hI4 (lt9 h5l), hI5.c (by rw [hF2.2.1 10 (by omega)]) (by rw [hF2.2.1 10 (by omega)]) hF2.1, ldR_f hI6 hF2 (fun i hi => by omega) (fun k hk => pmA_fo hI5.1.1 hI5.2.2.1 hI4 (by omega)), hI7.tr hF2⟩
          · show 61 - (k + 1) < 61 - k; omega
        · refine g_aload_n X dX0_lasts_62 rfl ?_
          refine g_callV (C := RX0) (T := TX0) (N := 13) X (k_X0_farmers ho) (lw_V q287 q289 qs0 q135 q290) hd_X0_farmers dX0_lasts_63 (rd0 ho) rfl rfl ⟨Nat.le_of_ble_eq_true rfl, Nat.le_of_ble_eq_true rfl⟩ ⟨Nat.le_of_ble_eq_true rfl, Nat.le_of_ble_eq_true rfl⟩ (Nat.le_of_ble_eq_true rfl) ?_
          rintro _ S1 ⟨rfl, hS1⟩
          obtain rfl := hS1.symm
          refine g_top (y := nI nf) ((hF2.2.1 10 (by omega) ▸ rfl : S2.1 10 0 = S1.1 10 0).trans hI5.2.1) ?_
          refine g_if_le (tgt := 71) X dX0_lasts_66 rfl (fun c66 => ?_) (fun c66 => ?_)
          · refine g_iinc (v := 1) X dX0_lasts_71 rfl rfl (Nat.le_of_ble_eq_true rfl) ?_
            refine g_goto (tgt := 25) X dX0_lasts_74 rfl ?_
            have hno : ¬ (0 < nf ∧ bcI (pmA false o n nf g W B).2 = nI nf) := fun z => nI_nle z.1 (by omega) c66
            refine g_sub (le_1 rfl (le_1 e_1 le_n)) (ih (k + 1, S2, (pmA false o n nf g W B).1) ?_ ?_)
            · exact ⟨by omega, by omega, by rw [← hI2, laA_f (m := 61 - k) (by omega) h5l hno, show 61 - k - 1 = 61 - (k + 1) by omega], hR2, pmA_rw hI5.1.1 hI5.2.2.1 hI4 (lt9 h5l), hI5.c (by rw [hF2.2.1 10 (by omega)]) (by rw [hF2.2.1 10 (by omega)]) hF2.1, ldR_f hI6 hF2 (fun i hi => by omega) (fun k hk => pmA_fo hI5.1.1 hI5.2.2.1 hI4 (by omega)), hI7.tr hF2⟩
            · show 61 - (k + 1) < 61 - k; omega
          · refine g_iload_n X dX0_lasts_69 rfl ?_
            exact g_iret X hr dX0_lasts_70 (Nat.le_of_ble_eq_true rfl) (Nat.le_of_ble_eq_true rfl) (⟨by rw [if_neg hn0, ← hI2, laA_t (m := 61 - k) (by omega) h5l ⟨Nat.pos_of_ne_zero (fun z => c66 (by rw [z]; decide)), (all_iff hnf5).mpr c59⟩], hI7.tr hF2⟩)
  · refine g_iconst (v := 0) X dX0_lasts_7 rfl ?_
    exact g_iret X hr dX0_lasts_8 (Nat.le_of_ble_eq_true rfl) (Nat.le_of_ble_eq_true rfl) (⟨by rw [if_pos ((nI_eq (b := 0) (by omega) (by decide)).mp c4)], FrC.rf⟩)
