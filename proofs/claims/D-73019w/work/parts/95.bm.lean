/-! FORETOLD, LASTS of the model -/
theorem cM_f {V : Nat → Nat → Int32} {cl : Nat → Int32} {z : Int32} {f k : Nat} {q : pC} (hf : f < 5) (hk : k < 5 ∨ 27 ≤ k) : (cM false V cl z f q).1 k = q.1 k := by
  unfold cM
  dsimp only
  rw [if_neg (by decide), upd_n (by omega)]
theorem cM1_fo {V : Nat → Nat → Int32} {cl : Nat → Int32} {bad : Int32} {q0 : pC} {k : Nat} (hk : k < 5 ∨ 27 ≤ k) : ∀ {i : Nat}, i ≤ 5 → (cM1 false V cl bad q0 i).1 k = q0.1 k
  | 0, _ => by rw [cM1_0]
  | i + 1, h => by
    by_cases c : hs bad (nI i)
    · rw [cM1_t c]
      exact cM1_fo hk (by omega)
    · rw [cM1_f c, cM_f (by omega) hk]
      exact cM1_fo hk (by omega)
theorem cM2_fo {V : Nat → Nat → Int32} {cl : Nat → Int32} {bad : Int32} {q0 : pC} {k nf : Nat} (hf : nf ≤ 5) (hk : k < 5 ∨ 27 ≤ k) : ∀ {i : Nat}, i ≤ nf → (cM2 false V cl bad nf q0 i).1 k = q0.1 k
  | 0, _ => by rw [cM2_0]
  | i + 1, h => by
    by_cases c : hs bad (nI (nf - 1 - i))
    · rw [cM2_t rfl c, cM_f (by omega) hk]
      exact cM2_fo hf hk (by omega)
    · rw [cM2_f rfl c]
      exact cM2_fo hf hk (by omega)
theorem pmA_fo {o A : Nat → Int32} {n nf k : Nat} {g : Nat → Int32} {W : Option mnB} (hn : n ≤ 8) (hf : nf ≤ 5) (h : rwM A) (hk : k < 5 ∨ 27 ≤ k) : (pmA false o n nf g W A).1 k = A k := by
  obtain ⟨⟨⟨v, hv2, hv⟩, -, -⟩, -⟩ := h
  have e6 : ix (A 6) = v := by rw [hv, ix_n (by omega)]
  obtain ⟨k1, k2, k3⟩ : bOM (clA A 8) (pbA n nf g A) := by
    unfold pbA
    rw [e6]
    exact bMs_ok hn ((clA_n (by omega)).trans ((upd_n (by decide)).trans hv)) hv2 hf
  unfold pmA
  dsimp only
  rw [upd_n (by omega)]
  unfold pdA
  rw [cM2_fo hf hk (Nat.le_refl _), cM1_fo hk hf]
  dsimp only
  rw [k3 k (by omega)]
  exact (clA_n (by omega)).trans (upd_n (by omega))
/-- springs to come -/
def foA (o : Nat → Int32) (n nf : Nat) (g : Nat → Int32) (W : Option mnB) (A : Nat → Int32) (i : Nat) : Nat → Int32 := itr (fun _ A => if A 5 < 9999 then (pmA false o n nf g W A).1 else A) i A
theorem foA_0 {o : Nat → Int32} {n nf : Nat} {g : Nat → Int32} {W : Option mnB} {A : Nat → Int32} : foA o n nf g W A 0 = A := itr_0
theorem foA_t {o : Nat → Int32} {n nf i : Nat} {g : Nat → Int32} {W : Option mnB} {A : Nat → Int32} (h : foA o n nf g W A i 5 < 9999) : foA o n nf g W A (i + 1) = (pmA false o n nf g W (foA o n nf g W A i)).1 := if_pos h
theorem foA_f {o : Nat → Int32} {n nf i : Nat} {g : Nat → Int32} {W : Option mnB} {A : Nat → Int32} (h : ¬ foA o n nf g W A i 5 < 9999) : foA o n nf g W A (i + 1) = foA o n nf g W A i := if_neg h
theorem EnM.eq {S S' : gk_S} {n nf : Nat} {g : Nat → Int32} {W : Option mnB} (h : EnM S n nf g W) (h0 : S'.1 400 0 = S.1 400 0) (h2 : S'.1 400 2 = S.1 400 2) (h3 : S'.1 402 = S.1 402) (h4 : S'.1 201 24 = S.1 201 24) : EnM S' n nf g W :=
  ⟨MU_a h.1 h2 h3, h0.trans h.2.1, h.2.2.1, by rw [h3, h2]; exact h.2.2.2.1, h4.trans h.2.2.2.2⟩
/-- the model set aside -/
def saS (S : gk_S) : gk_S := gk_si (gk_si S 409 (fun x => if 5 ≤ x ∧ x < 27 then S.1 400 x else S.1 409 x)) 201 (upd (S.1 201) 25 0)
def pbS (S : gk_S) : gk_S := gk_si (gk_si S 400 (fun x => if 5 ≤ x ∧ x < 27 then S.1 409 x else S.1 400 x)) 201 (upd (S.1 201) 25 1)
theorem saS_4 {S : gk_S} : (saS S).1 400 = S.1 400 := by unfold saS; rw [si_n (by decide), si_n (by decide)]
theorem saS_2 {S : gk_S} : (saS S).1 402 = S.1 402 := by unfold saS; rw [si_n (by decide), si_n (by decide)]
theorem saS_5 {S : gk_S} : (saS S).1 405 = S.1 405 := by unfold saS; rw [si_n (by decide), si_n (by decide)]
theorem saS_1 {S : gk_S} : (saS S).1 201 = upd (S.1 201) 25 0 := by unfold saS; rw [si_s]
theorem saS_9 {S : gk_S} : (saS S).1 409 = fun x => if 5 ≤ x ∧ x < 27 then S.1 400 x else S.1 409 x := by unfold saS; rw [si_n (by decide), si_s]
theorem pb_fin {S S1 : gk_S} (hco : coM S) (hF : FrM (saS S) S1) (h9 : S1.1 409 = (saS S).1 409) (hA : ∀ k, (k < 5 ∨ 27 ≤ k) → S1.1 400 k = S.1 400 k) : (pbS S1).1 400 = S.1 400 ∧ FrM S (pbS S1) := by
  have e4 : (pbS S1).1 400 = S.1 400 := by
    unfold pbS
    rw [si_n (by decide), si_s]
    funext x
    by_cases hx : 5 ≤ x ∧ x < 27
    · rw [if_pos hx, h9, saS_9]
      exact if_pos hx
    · rw [if_neg hx]
      exact hA x (by omega)
  refine ⟨e4, fun i a b c d e f => ?_, fun j hj => ?_, fun i hi => ?_, hF.2.2.2.1, fun i hi => hF.2.2.2.2.1 i hi, hF.2.2.2.2.2⟩
  · unfold pbS
    rw [si_n a, si_n b, hF.1 i a b c d e f]
    unfold saS
    rw [si_n a, si_n f]
  · unfold pbS
    rw [si_s]
    by_cases h : j = 25
    · subst h
      rw [upd_s]
      exact hco.2.2.2.symm
    · rw [upd_n h]
      show S1.1 201 j = _
      rw [hF.2.1 j hj, saS_1, upd_n h]
  · unfold pbS
    rw [si_n (by decide), si_n (by decide), hF.2.2.1 i hi, saS_5]
theorem nf_4 {nf : Nat} (h : nf ≤ 5) : nI nf - 1 ≤ 4 := by
  rcases (show nf = 0 ∨ nf = 1 ∨ nf = 2 ∨ nf = 3 ∨ nf = 4 ∨ nf = 5 by omega) with e | e | e | e | e | e <;> subst e <;> decide
abbrev ftP (A : Nat → Int32) (x y z : Int32) : Prop := (1 ≤ x ∧ x ≤ 60) ∧ (0 ≤ y ∧ y ≤ A 0 - 1) ∧ (0 ≤ z ∧ z ≤ 1)
set_option maxHeartbeats 1000000 in
theorem k_X2_foretold {l : Launch} {E : gk_E} (ho : E.2.2.2.2 = true) {S : gk_S} {x : Int32} {y : Int32} {z : Int32} {n nf : Nat} {g o : Nat → Int32} {W : Option mnB} (he : EnM S n nf g W) (hco : coM S) (hoff : offM (S.1 405) o) : gk_T l E yX2_foretold cX2_foretold 5 ((some .int)) 6 145 0 0 [.ref (E.2.2.1 3), .int x, .int y, .int z] S (fun r S' => r = some (.int (if ftP (S.1 400) x y z then foA o n nf g W (S.1 400) (ix x) (17 + 2 * ix y + ix z) else -2)) ∧ S'.1 400 = S.1 400 ∧ FrM S S') := by
  refine gk_T.of [some (.ref (E.2.2.1 3)), some (.int x), some (.int y), some (.int z), none] (by decide) (Nat.le_of_ble_eq_true rfl) (le_1 rfl (le_1 rfl (le_1 rfl (le_1 rfl (le_p le_n))))) ?_
  intro p_ e_ R_ s_ m_ args_ below_ meth_ c_ hR X hr hin
  subst hR
  refine g_iload_n X dX2_foretold_0 rfl ?_
  refine g_iconst (v := 1) X dX2_foretold_1 rfl ?_
  refine g_bipush (v := 60) X dX2_foretold_2 rfl ?_
  refine g_callS X (k_X2_isIn ho) (lw_S q1516 q1517 q139 q1518) hd_X2_isIn dX2_foretold_4 rfl ⟨Nat.le_of_ble_eq_true rfl, Nat.le_of_ble_eq_true rfl⟩ ⟨Nat.le_of_ble_eq_true rfl, Nat.le_of_ble_eq_true rfl⟩ (Nat.le_of_ble_eq_true rfl) ?_
  rintro _ S1 ⟨rfl, hS1⟩
  obtain rfl := hS1.symm
  refine g_ifp_eq (tgt := 27) X dX2_foretold_7 rfl (fun c7 => ?_) (fun c7 => ?_)
  · refine g_bipush (v := (-2)) X dX2_foretold_27 rfl ?_
    exact g_iret X hr dX2_foretold_29 (Nat.le_of_ble_eq_true rfl) (Nat.le_of_ble_eq_true rfl) (⟨by rw [if_neg (fun w => c7 w.1)], rfl, FrM.rf hco.2.2.1⟩)
  · refine g_aload_n X dX2_foretold_10 rfl ?_
    refine g_iload_n X dX2_foretold_11 rfl ?_
    refine g_callV (C := RX2) (T := TX2) (N := 35) X (k_X2_isFarmer ho) (lw_V q1871 q1873 qs116 q139 q1874) hd_X2_isFarmer dX2_foretold_12 (rd3 ho) rfl rfl ⟨Nat.le_of_ble_eq_true rfl, Nat.le_of_ble_eq_true rfl⟩ ⟨Nat.le_of_ble_eq_true rfl, Nat.le_of_ble_eq_true rfl⟩ (Nat.le_of_ble_eq_true rfl) ?_
    rintro _ S1 ⟨rfl, hS1⟩
    obtain rfl := hS1.symm
    refine g_ifp_eq (tgt := 27) X dX2_foretold_15 rfl (fun c15 => ?_) (fun c15 => ?_)
    · refine g_bipush (v := (-2)) X dX2_foretold_27 rfl ?_
      exact g_iret X hr dX2_foretold_29 (Nat.le_of_ble_eq_true rfl) (Nat.le_of_ble_eq_true rfl) (⟨by rw [if_neg (fun w => c15 w.2.1)], rfl, FrM.rf hco.2.2.1⟩)
    · refine g_iload_n X dX2_foretold_18 rfl ?_
      refine g_iconst (v := 0) X dX2_foretold_19 rfl ?_
      refine g_iconst (v := 1) X dX2_foretold_20 rfl ?_
      refine g_callS X (k_X2_isIn ho) (lw_S q1516 q1517 q139 q1518) hd_X2_isIn dX2_foretold_21 rfl ⟨Nat.le_of_ble_eq_true rfl, Nat.le_of_ble_eq_true rfl⟩ ⟨Nat.le_of_ble_eq_true rfl, Nat.le_of_ble_eq_true rfl⟩ (Nat.le_of_ble_eq_true rfl) ?_
      rintro _ S1 ⟨rfl, hS1⟩
      obtain rfl := hS1.symm
      refine g_ifp_ne (tgt := 30) X dX2_foretold_24 rfl (fun c24 => ?_) (fun c24 => ?_)
      · have hP : ftP (S.1 400) x y z := ⟨c7, c15, c24⟩
        have hxx := ix_i (Int32.le_trans (by decide) c7.1)
        have hxb : ix x ≤ 60 := ix_le 60 (by decide) (Int32.le_trans (by decide) c7.1) c7.2
        obtain ⟨xx, hxe⟩ : ∃ xx, xx = ix x := ⟨_, rfl⟩
        have hyy := ix_i c15.1
        have hyb : ix y ≤ 4 := ix_le 4 (by decide) c15.1 (Int32.le_trans c15.2 (by rw [he.2.1]; exact nf_4 he.2.2.1))
        have hzz := ix_i c24.1
        have hzb : ix z ≤ 1 := ix_le 1 (by decide) c24.1 c24.2
        refine g_aload_n X dX2_foretold_30 rfl ?_
        refine g_callV (C := RX2) (T := TX2) (N := 35) X (k_X2_setAside ho) (lw_V q1923 q1925 qs119 q139 q1926) hd_X2_setAside dX2_foretold_31 (rd3 ho) rfl rfl ⟨Nat.le_of_ble_eq_true rfl, Nat.le_of_ble_eq_true rfl⟩ ⟨Nat.le_of_ble_eq_true rfl, Nat.le_of_ble_eq_true rfl⟩ (Nat.le_of_ble_eq_true rfl) ?_
        rintro _ S1 ⟨rfl, hS1⟩
        obtain rfl := hS1.symm
        refine g_eq (S2 := saS S) rfl ?_
        refine g_iconst (v := 0) X dX2_foretold_34 rfl ?_
        refine g_istore X dX2_foretold_35 (Nat.le_of_ble_eq_true rfl) ?_
        refine g_loop (σ := Nat × gk_S) (fun (q : Nat × gk_S) => match q with | (i, S1) => S1) (fun (q : Nat × gk_S) => match q with | (i, S1) => ([some (.ref (E.2.2.1 3)), some (.int x), some (.int y), some (.int z), some (.int (nI i))] : List (Option Value))) (fun (q : Nat × gk_S) => match q with | (i, S1) => i ≤ xx ∧ S1.1 400 = foA o n nf g W (S.1 400) i ∧ rwM (S1.1 400) ∧ EnM S1 n nf g W ∧ FrM (saS S) S1 ∧ S1.1 409 = (saS S).1 409 ∧ (∀ k, (k < 5 ∨ 27 ≤ k) → S1.1 400 k = S.1 400 k)) (fun (q : Nat × gk_S) => match q with | (i, S1) => xx - i) ((0, saS S)) ?_ (rfl) (le_1 rfl (le_1 rfl (le_1 rfl (le_1 rfl (le_1 rfl le_n))))) ?_
        · exact ⟨Nat.zero_le _, by rw [foA_0]; exact saS_4, by rw [saS_4]; exact hco.1, he.eq (by rw [saS_4]) (by rw [saS_4]) saS_2 (by rw [saS_1, upd_n (by decide)]), FrM.rf hco.2.2.1, rfl, fun k _ => by rw [saS_4]⟩
        rintro ⟨i, S1⟩ hI ih
        try dsimp only at hI ih ⊢
        obtain ⟨hI1, hI2, hI3, hI4, hI5, hI6, hI7⟩ := hI
        refine g_iload X dX2_foretold_37 rfl ?_
        refine g_iload_n X dX2_foretold_39 rfl ?_
        refine g_icmp_ge (tgt := 65) X dX2_foretold_40 rfl (fun c40 => ?_) (fun c40 => ?_)
        · have hix : xx = i := Nat.le_antisymm ((nI_leI (by omega) (by omega)).mp (by rw [hxe, ← hxx]; exact c40)) hI1
          subst hix
          refine g_aload_n X dX2_foretold_65 rfl ?_
          refine g_get (C := RX2) (T := TX2) (N := 35) X 0 in_X2 dX2_foretold_66 q1405 (rd3 ho) rfl (Nat.le_of_ble_eq_true rfl) (fun _ h9 => h9) rfl ?_
          refine g_bipush (v := 17) X dX2_foretold_69 rfl ?_
          refine g_iconst (v := 2) X dX2_foretold_71 rfl ?_
          refine g_iload_n X dX2_foretold_72 rfl ?_
          refine g_imul X dX2_foretold_73 ?_
          refine g_iadd X dX2_foretold_74 ?_
          refine g_iload_n X dX2_foretold_75 rfl ?_
          refine g_iadd X dX2_foretold_76 ?_
          refine g_iald (j := 17 + 2 * ix y + ix z) X dX2_foretold_77 (rdi ho (400) (rfl)) (by rw [hyy, hzz]; show nI 17 + nI 2 * nI _ + nI _ = _; rw [pk_mul, nI_add, nI_add, ix_n (by omega), ix_n (by omega)]) (by omega) (by decide) ?_
          refine g_istore X dX2_foretold_78 (Nat.le_of_ble_eq_true rfl) ?_
          refine g_aload_n X dX2_foretold_80 rfl ?_
          refine g_callV (C := RX2) (T := TX2) (N := 35) X (k_X2_putBack ho) (lw_V q1927 q1929 qs120 q139 q1930) hd_X2_putBack dX2_foretold_81 (rd3 ho) rfl rfl ⟨Nat.le_of_ble_eq_true rfl, Nat.le_of_ble_eq_true rfl⟩ ⟨Nat.le_of_ble_eq_true rfl, Nat.le_of_ble_eq_true rfl⟩ (Nat.le_of_ble_eq_true rfl) ?_
          rintro _ S1 ⟨rfl, hS1⟩
          obtain rfl := hS1.symm
          obtain ⟨e4, eF⟩ := pb_fin hco hI5 hI6 hI7
          refine g_iload X dX2_foretold_84 rfl ?_
          exact g_iret X hr dX2_foretold_86 (Nat.le_of_ble_eq_true rfl) (Nat.le_of_ble_eq_true rfl) (⟨by rw [if_pos hP, ← hxe, ← hI2], e4, eF⟩)
        · have hix : i < xx := (nI_ltI (by omega) (by omega)).mp (Int32.not_le.mp (by rw [hxe, ← hxx]; exact c40))
          refine g_aload_n X dX2_foretold_43 rfl ?_
          refine g_get (C := RX2) (T := TX2) (N := 35) X 0 in_X2 dX2_foretold_44 q1405 (rd3 ho) rfl (Nat.le_of_ble_eq_true rfl) (fun _ h9 => h9) rfl ?_
          refine g_iconst (v := 5) X dX2_foretold_47 rfl ?_
          refine g_iald (j := 5) X dX2_foretold_48 (rdi ho (400) (rfl)) rfl (by decide) (by decide) ?_
          refine g_sipush (v := 9999) X dX2_foretold_49 rfl ?_
          refine g_icmp_ge (tgt := 59) X dX2_foretold_52 rfl (fun c52 => ?_) (fun c52 => ?_)
          · refine g_iinc (v := 1) X dX2_foretold_59 rfl rfl (Nat.le_of_ble_eq_true rfl) ?_
            refine g_goto (tgt := 37) X dX2_foretold_62 rfl ?_
            refine g_sub (le_1 rfl (le_1 rfl (le_1 rfl (le_1 rfl (le_1 e_1 le_n))))) (ih (i + 1, S1) ?_ ?_)
            · exact ⟨by omega, by rw [foA_f (by rw [← hI2]; exact Int32.not_lt.mpr c52)]; exact hI2, hI3, hI4, hI5, hI6, hI7⟩
            · show xx - (i + 1) < xx - i; omega
          · refine g_aload_n X dX2_foretold_55 rfl ?_
            refine g_callV (C := RX2) (T := TX2) (N := 35) X (k_X2_passF ho (S := S1) (n := n) (nf := nf) (g := g) (W := W) (wr := false) (o := o) hI4 hI3 hI5.2.2.2.1 ⟨fun w => (by cases w), fun w => (w (by rw [hI5.2.1 25 (by decide), saS_1, upd_s])).elim⟩ (fun z hz => (hI5.2.2.1 z hz).trans (by rw [saS_5]; exact hoff z hz))) (lw_V q1800 q1802 qs105 q139 q1803) hd_X2_pass dX2_foretold_56 (rd3 ho) rfl rfl ⟨Nat.le_of_ble_eq_true rfl, Nat.le_of_ble_eq_true rfl⟩ ⟨Nat.le_of_ble_eq_true rfl, Nat.le_of_ble_eq_true rfl⟩ (Nat.le_of_ble_eq_true rfl) ?_
            rintro _ S2 ⟨rfl, hA2, hU2, hF2, h9F⟩
            refine g_iinc (v := 1) X dX2_foretold_59 rfl rfl (Nat.le_of_ble_eq_true rfl) ?_
            refine g_goto (tgt := 37) X dX2_foretold_62 rfl ?_
            have hk := fun k hk => pmA_fo (o := o) (g := g) (W := W) (k := k) hI4.1.1 hI4.2.2.1 hI3 hk
            have h5l : S1.1 400 5 < 9999 := Int32.not_le.mp c52
            refine g_sub (le_1 rfl (le_1 rfl (le_1 rfl (le_1 rfl (le_1 e_1 le_n))))) (ih (i + 1, S2) ?_ ?_)
            · exact ⟨by omega, by rw [foA_t (by rw [← hI2]; exact h5l), ← hI2]; exact hA2, by rw [hA2]; exact pmA_rw hI4.1.1 hI4.2.2.1 hI3 (lt9 h5l), hI4.fr hF2 (by rw [hA2]; exact hk 0 (by omega)) (by rw [hA2]; exact hk 2 (by omega)), hI5.tr hF2, h9F.trans hI6, fun k hk2 => by rw [hA2, hk k hk2]; exact hI7 k hk2⟩
            · show xx - (i + 1) < xx - i; omega
      · refine g_bipush (v := (-2)) X dX2_foretold_27 rfl ?_
        exact g_iret X hr dX2_foretold_29 (Nat.le_of_ble_eq_true rfl) (Nat.le_of_ble_eq_true rfl) (⟨by rw [if_neg (fun w => c24 w.2.2)], rfl, FrM.rf hco.2.2.1⟩)
/-- in how many springs all are refuted -/
def laA (o : Nat → Int32) (n nf : Nat) (g : Nat → Int32) (W : Option mnB) : Nat → Nat → (Nat → Int32) → Nat
  | 0, _, _ => 60
  | m + 1, k, A => if A 5 < 9999 then (if 0 < nf ∧ bcI (pmA false o n nf g W A).2 = nI nf then k else laA o n nf g W m (k + 1) (pmA false o n nf g W A).1) else 60
theorem laA_0 {o : Nat → Int32} {n nf k : Nat} {g : Nat → Int32} {W : Option mnB} {A : Nat → Int32} : laA o n nf g W 0 k A = 60 := rfl
theorem laA_n {o : Nat → Int32} {n nf m k : Nat} {g : Nat → Int32} {W : Option mnB} {A : Nat → Int32} (h : ¬ A 5 < 9999) : laA o n nf g W m k A = 60 := by
  cases m with
  | zero => rfl
  | succ m => exact if_neg h
theorem laA_t {o : Nat → Int32} {n nf m k : Nat} {g : Nat → Int32} {W : Option mnB} {A : Nat → Int32} (hm : 0 < m) (h : A 5 < 9999) (h2 : 0 < nf ∧ bcI (pmA false o n nf g W A).2 = nI nf) : laA o n nf g W m k A = k := by
  cases m with
  | zero => omega
  | succ m => exact (if_pos h).trans (if_pos h2)
theorem laA_f {o : Nat → Int32} {n nf m k : Nat} {g : Nat → Int32} {W : Option mnB} {A : Nat → Int32} (hm : 0 < m) (h : A 5 < 9999) (h2 : ¬ (0 < nf ∧ bcI (pmA false o n nf g W A).2 = nI nf)) : laA o n nf g W m k A = laA o n nf g W (m - 1) (k + 1) (pmA false o n nf g W A).1 := by
  cases m with
  | zero => omega
  | succ m => exact (if_pos h).trans (if_neg h2)
set_option maxHeartbeats 2000000 in
theorem k_X2_lasts {l : Launch} {E : gk_E} (ho : E.2.2.2.2 = true) {S : gk_S}  {n nf : Nat} {g o : Nat → Int32} {W : Option mnB} (he : EnM S n nf g W) (hco : coM S) (hoff : offM (S.1 405) o) : gk_T l E yX2_lasts cX2_lasts 3 ((some .int)) 6 145 0 0 [.ref (E.2.2.1 3)] S (fun r S' => r = some (.int (if n = 0 then 0 else nI (laA o n nf g W 60 1 (S.1 400)))) ∧ S'.1 400 = S.1 400 ∧ FrM S S') := by
  have hn8 : n ≤ 8 := he.1.1
  have hnf5 : nf ≤ 5 := he.2.2.1
  refine gk_T.of [some (.ref (E.2.2.1 3)), none, none] (by decide) (Nat.le_of_ble_eq_true rfl) (le_1 rfl (le_p (le_p le_n))) ?_
  intro p_ e_ R_ s_ m_ args_ below_ meth_ c_ hR X hr hin
  subst hR
  refine g_aload_n X dX2_lasts_0 rfl ?_
  refine g_callV (C := RX2) (T := TX2) (N := 35) X (k_X2_claims ho he.1) (lw_V q1707 q1709 qs94 q139 q1710) hd_X2_claims dX2_lasts_1 (rd3 ho) rfl rfl ⟨Nat.le_of_ble_eq_true rfl, Nat.le_of_ble_eq_true rfl⟩ ⟨Nat.le_of_ble_eq_true rfl, Nat.le_of_ble_eq_true rfl⟩ (Nat.le_of_ble_eq_true rfl) ?_
  rintro _ S1 ⟨rfl, hS1⟩
  obtain rfl := hS1.symm
  refine g_if_ne (tgt := 9) X dX2_lasts_4 rfl (fun c4 => ?_) (fun c4 => ?_)
  · have hn0 : ¬ n = 0 := fun z => c4 (by rw [z]; rfl)
    refine g_aload_n X dX2_lasts_9 rfl ?_
    refine g_callV (C := RX2) (T := TX2) (N := 35) X (k_X2_setAside ho) (lw_V q1923 q1925 qs119 q139 q1926) hd_X2_setAside dX2_lasts_10 (rd3 ho) rfl rfl ⟨Nat.le_of_ble_eq_true rfl, Nat.le_of_ble_eq_true rfl⟩ ⟨Nat.le_of_ble_eq_true rfl, Nat.le_of_ble_eq_true rfl⟩ (Nat.le_of_ble_eq_true rfl) ?_
    rintro _ S1 ⟨rfl, hS1⟩
    obtain rfl := hS1.symm
    refine g_eq (S2 := saS S) rfl ?_
    refine g_bipush (v := 60) X dX2_lasts_13 rfl ?_
    refine g_istore_n X dX2_lasts_15 (Nat.le_of_ble_eq_true rfl) ?_
    refine g_iconst (v := 1) X dX2_lasts_16 rfl ?_
    refine g_istore_n X dX2_lasts_17 (Nat.le_of_ble_eq_true rfl) ?_
    refine g_loop (σ := Nat × Nat × gk_S) (fun (q : Nat × Nat × gk_S) => match q with | (k, d, S1) => S1) (fun (q : Nat × Nat × gk_S) => match q with | (k, d, S1) => ([some (.ref (E.2.2.1 3)), some (.int (nI d)), some (.int (nI k))] : List (Option Value))) (fun (q : Nat × Nat × gk_S) => match q with | (k, d, S1) => 1 ≤ k ∧ k ≤ 61 ∧ ((d = 60 ∧ (k ≤ 60 → laA o n nf g W (61 - k) k (S1.1 400) = laA o n nf g W 60 1 (S.1 400)) ∧ (k = 61 → laA o n nf g W 60 1 (S.1 400) = 60)) ∨ (d ≠ 60 ∧ d < 60 ∧ d = laA o n nf g W 60 1 (S.1 400))) ∧ rwM (S1.1 400) ∧ EnM S1 n nf g W ∧ FrM (saS S) S1 ∧ S1.1 409 = (saS S).1 409 ∧ (∀ k, (k < 5 ∨ 27 ≤ k) → S1.1 400 k = S.1 400 k)) (fun (q : Nat × Nat × gk_S) => match q with | (k, d, S1) => 61 - k) ((1, 60, saS S)) ?_ (rfl) (le_1 rfl (le_1 rfl (le_1 rfl le_n))) ?_
    · exact ⟨by omega, by omega, Or.inl ⟨rfl, fun _ => by rw [saS_4], fun z => absurd z (by decide)⟩, by rw [saS_4]; exact hco.1, he.eq (by rw [saS_4]) (by rw [saS_4]) saS_2 (by rw [saS_1, upd_n (by decide)]), FrM.rf hco.2.2.1, rfl, fun k _ => by rw [saS_4]⟩
    rintro ⟨k, d, S1⟩ hI ih
    try dsimp only at hI ih ⊢
    obtain ⟨hI0, hI1, hI2, hI3, hI4, hI5, hI6, hI7⟩ := hI
    refine g_iload_n X dX2_lasts_18 rfl ?_
    refine g_bipush (v := 60) X dX2_lasts_19 rfl ?_
    refine g_icmp_gt (tgt := 81) X dX2_lasts_21 rfl (fun c21 => ?_) (fun c21 => ?_)
    · have hres : d = laA o n nf g W 60 1 (S.1 400) := by
        rcases hI2 with z | z
        · have hk : k = 61 := by
            have := (nI_ltI (a := 60) (b := k) (by decide) (by omega)).mp c21
            omega
          rw [z.1, z.2.2 hk]
        · exact z.2.2
      refine g_aload_n X dX2_lasts_81 rfl ?_
      refine g_callV (C := RX2) (T := TX2) (N := 35) X (k_X2_putBack ho) (lw_V q1927 q1929 qs120 q139 q1930) hd_X2_putBack dX2_lasts_82 (rd3 ho) rfl rfl ⟨Nat.le_of_ble_eq_true rfl, Nat.le_of_ble_eq_true rfl⟩ ⟨Nat.le_of_ble_eq_true rfl, Nat.le_of_ble_eq_true rfl⟩ (Nat.le_of_ble_eq_true rfl) ?_
      rintro _ S1 ⟨rfl, hS1⟩
      obtain rfl := hS1.symm
      obtain ⟨e4, eF⟩ := pb_fin hco hI5 hI6 hI7
      refine g_iload_n X dX2_lasts_85 rfl ?_
      exact g_iret X hr dX2_lasts_86 (Nat.le_of_ble_eq_true rfl) (Nat.le_of_ble_eq_true rfl) (⟨by rw [if_neg hn0, ← hres], e4, eF⟩)
    · have hk61 : k ≤ 60 := Nat.not_lt.mp (fun z => c21 (nI_lt z (by omega)))
      refine g_iload_n X dX2_lasts_24 rfl ?_
      refine g_bipush (v := 60) X dX2_lasts_25 rfl ?_
      refine g_icmp_ne (tgt := 81) X dX2_lasts_27 rfl (fun c27 => ?_) (fun c27 => ?_)
      · have hres : d = laA o n nf g W 60 1 (S.1 400) := by
          rcases hI2 with z | z
          · exact absurd (by rw [z.1]; rfl) c27
          · exact z.2.2
        refine g_aload_n X dX2_lasts_81 rfl ?_
        refine g_callV (C := RX2) (T := TX2) (N := 35) X (k_X2_putBack ho) (lw_V q1927 q1929 qs120 q139 q1930) hd_X2_putBack dX2_lasts_82 (rd3 ho) rfl rfl ⟨Nat.le_of_ble_eq_true rfl, Nat.le_of_ble_eq_true rfl⟩ ⟨Nat.le_of_ble_eq_true rfl, Nat.le_of_ble_eq_true rfl⟩ (Nat.le_of_ble_eq_true rfl) ?_
        rintro _ S1 ⟨rfl, hS1⟩
        obtain rfl := hS1.symm
        obtain ⟨e4, eF⟩ := pb_fin hco hI5 hI6 hI7
        refine g_iload_n X dX2_lasts_85 rfl ?_
        exact g_iret X hr dX2_lasts_86 (Nat.le_of_ble_eq_true rfl) (Nat.le_of_ble_eq_true rfl) (⟨by rw [if_neg hn0, ← hres], e4, eF⟩)
      · have hd60 : d = 60 := by
          rcases hI2 with z | z
          · exact z.1
          · exact (nI_eq (by omega) (by decide)).mp c27
        subst hd60
        have hR := hI2.resolve_right (fun z => z.1 rfl)
        refine g_aload_n X dX2_lasts_30 rfl ?_
        refine g_get (C := RX2) (T := TX2) (N := 35) X 0 in_X2 dX2_lasts_31 q1405 (rd3 ho) rfl (Nat.le_of_ble_eq_true rfl) (fun _ h9 => h9) rfl ?_
        refine g_iconst (v := 5) X dX2_lasts_34 rfl ?_
        refine g_iald (j := 5) X dX2_lasts_35 (rdi ho (400) (rfl)) rfl (by decide) (by decide) ?_
        refine g_sipush (v := 9999) X dX2_lasts_36 rfl ?_
        refine g_icmp_ge (tgt := 81) X dX2_lasts_39 rfl (fun c39 => ?_) (fun c39 => ?_)
        · have hres : 60 = laA o n nf g W 60 1 (S.1 400) := by
            rw [← hR.2.1 hk61]
            exact (laA_n (Int32.not_lt.mpr c39)).symm
          refine g_aload_n X dX2_lasts_81 rfl ?_
          refine g_callV (C := RX2) (T := TX2) (N := 35) X (k_X2_putBack ho) (lw_V q1927 q1929 qs120 q139 q1930) hd_X2_putBack dX2_lasts_82 (rd3 ho) rfl rfl ⟨Nat.le_of_ble_eq_true rfl, Nat.le_of_ble_eq_true rfl⟩ ⟨Nat.le_of_ble_eq_true rfl, Nat.le_of_ble_eq_true rfl⟩ (Nat.le_of_ble_eq_true rfl) ?_
          rintro _ S1 ⟨rfl, hS1⟩
          obtain rfl := hS1.symm
          obtain ⟨e4, eF⟩ := pb_fin hco hI5 hI6 hI7
          refine g_iload_n X dX2_lasts_85 rfl ?_
          exact g_iret X hr dX2_lasts_86 (Nat.le_of_ble_eq_true rfl) (Nat.le_of_ble_eq_true rfl) (⟨by rw [if_neg hn0, ← hres], e4, eF⟩)
        · refine g_aload_n X dX2_lasts_42 rfl ?_
          refine g_iconst (v := 0) X dX2_lasts_43 rfl ?_
          refine g_put3 X ho 26 dX2_lasts_44 q1431 rfl (Nat.le_of_ble_eq_true rfl) rfl rfl rfl rfl (Nat.le_of_ble_eq_true rfl) rfl ?_
          refine g_aload_n X dX2_lasts_47 rfl ?_
          refine g_callV (C := RX2) (T := TX2) (N := 35) X (k_X2_passF ho (S := gk_si S1 201 (upd (S1.1 201) 26 0)) (n := n) (nf := nf) (g := g) (W := W) (wr := false) (o := o) (hI4.fr (FrM.u hI5.2.2.2.1) rfl rfl) hI3 hI5.2.2.2.1 ⟨fun w => (by cases w), fun w => (w (by rw [si_s, upd_n (by decide), hI5.2.1 25 (by decide), saS_1, upd_s])).elim⟩ (fun z hz => (hI5.2.2.1 z hz).trans (by rw [saS_5]; exact hoff z hz))) (lw_V q1800 q1802 qs105 q139 q1803) hd_X2_pass dX2_lasts_48 (rd3 ho) rfl rfl ⟨Nat.le_of_ble_eq_true rfl, Nat.le_of_ble_eq_true rfl⟩ ⟨Nat.le_of_ble_eq_true rfl, Nat.le_of_ble_eq_true rfl⟩ (Nat.le_of_ble_eq_true rfl) ?_
          rintro _ S2 ⟨rfl, hA2, hU2, hF2, h9F⟩
          rw [si_n (by decide)] at hA2
          rw [si_s, upd_s, Int32.zero_add, si_n (by decide)] at hU2
          rw [si_n (by decide)] at h9F
          have hk := fun k hk => pmA_fo (o := o) (g := g) (W := W) (k := k) hI4.1.1 hI4.2.2.1 hI3 hk
          have h5l : S1.1 400 5 < 9999 := Int32.not_le.mp c39
          have hnf2 : S2.1 400 0 = nI nf := by rw [hA2, hk 0 (by omega)]; exact hI4.2.1
          have hU3 : S2.1 201 26 = bcI (pmA false o n nf g W (S1.1 400)).2 := hU2
          refine g_aload_n X dX2_lasts_51 rfl ?_
          refine g_get (C := RX2) (T := TX2) (N := 35) X 0 in_X2 dX2_lasts_52 q1405 (rd3 ho) rfl (Nat.le_of_ble_eq_true rfl) (fun _ h9 => h9) rfl ?_
          refine g_iconst (v := 0) X dX2_lasts_55 rfl ?_
          refine g_iald (j := 0) X dX2_lasts_56 (rdi ho (400) (rfl)) rfl (by decide) (by decide) ?_
          refine g_if_le (tgt := 75) X dX2_lasts_57 rfl (fun c57 => ?_) (fun c57 => ?_)
          · refine g_iinc (v := 1) X dX2_lasts_75 rfl rfl (Nat.le_of_ble_eq_true rfl) ?_
            refine g_goto (tgt := 18) X dX2_lasts_78 rfl ?_
            have hno : ¬ (0 < nf ∧ bcI (pmA false o n nf g W (S1.1 400)).2 = nI nf) := fun z => Int32.lt_irrefl (Int32.lt_of_lt_of_le (nI_lt z.1 (by omega)) (by rw [← hnf2]; exact c57))
            have hst : laA o n nf g W (61 - (k + 1)) (k + 1) (S2.1 400) = laA o n nf g W 60 1 (S.1 400) := by
              rw [← hR.2.1 (by omega), laA_f (m := 61 - k) (by omega) h5l hno, show 61 - k - 1 = 61 - (k + 1) by omega, hA2]
            refine g_sub (le_1 rfl (le_1 rfl (le_1 e_1 le_n))) (ih (k + 1, 60, S2) ?_ ?_)
            · try dsimp only
              exact ⟨by omega, by omega, Or.inl ⟨rfl, fun _ => hst, fun z => by rw [← hst, show 61 - (k + 1) = 0 by omega, laA_0]⟩, by rw [hA2]; exact pmA_rw hI4.1.1 hI4.2.2.1 hI3 (lt9 h5l), (hI4.fr (FrM.u hI5.2.2.2.1) rfl rfl).fr hF2 (by rw [hA2]; exact hk 0 (by omega)) (by rw [hA2]; exact hk 2 (by omega)), hI5.tr ((FrM.u hI5.2.2.2.1).tr hF2), h9F.trans hI6, fun k hk2 => by rw [hA2, hk k hk2]; exact hI7 k hk2⟩
            · show 61 - (k + 1) < 61 - k; omega
          · refine g_aload_n X dX2_lasts_60 rfl ?_
            refine g_get (C := RX2) (T := TX2) (N := 35) X 26 in_X2 dX2_lasts_61 q1431 (rd3 ho) rfl (Nat.le_of_ble_eq_true rfl) (fun _ h9 => h9) rfl ?_
            refine g_aload_n X dX2_lasts_64 rfl ?_
            refine g_get (C := RX2) (T := TX2) (N := 35) X 0 in_X2 dX2_lasts_65 q1405 (rd3 ho) rfl (Nat.le_of_ble_eq_true rfl) (fun _ h9 => h9) rfl ?_
            refine g_iconst (v := 0) X dX2_lasts_68 rfl ?_
            refine g_iald (j := 0) X dX2_lasts_69 (rdi ho (400) (rfl)) rfl (by decide) (by decide) ?_
            refine g_icmp_ne (tgt := 75) X dX2_lasts_70 rfl (fun c70 => ?_) (fun c70 => ?_)
            · refine g_iinc (v := 1) X dX2_lasts_75 rfl rfl (Nat.le_of_ble_eq_true rfl) ?_
              refine g_goto (tgt := 18) X dX2_lasts_78 rfl ?_
              have hno : ¬ (0 < nf ∧ bcI (pmA false o n nf g W (S1.1 400)).2 = nI nf) := fun z => c70 (by rw [hU3, hnf2]; exact z.2)
              have hst : laA o n nf g W (61 - (k + 1)) (k + 1) (S2.1 400) = laA o n nf g W 60 1 (S.1 400) := by
                rw [← hR.2.1 (by omega), laA_f (m := 61 - k) (by omega) h5l hno, show 61 - k - 1 = 61 - (k + 1) by omega, hA2]
              refine g_sub (le_1 rfl (le_1 rfl (le_1 e_1 le_n))) (ih (k + 1, 60, S2) ?_ ?_)
              · try dsimp only
                exact ⟨by omega, by omega, Or.inl ⟨rfl, fun _ => hst, fun z => by rw [← hst, show 61 - (k + 1) = 0 by omega, laA_0]⟩, by rw [hA2]; exact pmA_rw hI4.1.1 hI4.2.2.1 hI3 (lt9 h5l), (hI4.fr (FrM.u hI5.2.2.2.1) rfl rfl).fr hF2 (by rw [hA2]; exact hk 0 (by omega)) (by rw [hA2]; exact hk 2 (by omega)), hI5.tr ((FrM.u hI5.2.2.2.1).tr hF2), h9F.trans hI6, fun k hk2 => by rw [hA2, hk k hk2]; exact hI7 k hk2⟩
              · show 61 - (k + 1) < 61 - k; omega
            · refine g_iload_n X dX2_lasts_73 rfl ?_
              refine g_istore_n X dX2_lasts_74 (Nat.le_of_ble_eq_true rfl) ?_
              refine g_iinc (v := 1) X dX2_lasts_75 rfl rfl (Nat.le_of_ble_eq_true rfl) ?_
              refine g_goto (tgt := 18) X dX2_lasts_78 rfl ?_
              have hyes : 0 < nf ∧ bcI (pmA false o n nf g W (S1.1 400)).2 = nI nf := ⟨Nat.pos_of_ne_zero (fun z => c57 (by rw [hnf2, z]; decide)), by rw [← hU3, ← hnf2]; exact c70⟩
              have hres : laA o n nf g W 60 1 (S.1 400) = k := by rw [← hR.2.1 (by omega), laA_t (m := 61 - k) (by omega) h5l hyes]
              by_cases h60 : k = 60
              · subst h60
                refine g_sub (le_1 rfl (le_1 rfl (le_1 e_1 le_n))) (ih (60 + 1, 60, S2) ?_ ?_)
                · try dsimp only
                  exact ⟨by omega, by omega, Or.inl ⟨rfl, fun z => absurd z (by omega), fun _ => hres⟩, by rw [hA2]; exact pmA_rw hI4.1.1 hI4.2.2.1 hI3 (lt9 h5l), (hI4.fr (FrM.u hI5.2.2.2.1) rfl rfl).fr hF2 (by rw [hA2]; exact hk 0 (by omega)) (by rw [hA2]; exact hk 2 (by omega)), hI5.tr ((FrM.u hI5.2.2.2.1).tr hF2), h9F.trans hI6, fun k hk2 => by rw [hA2, hk k hk2]; exact hI7 k hk2⟩
                · show 61 - (60 + 1) < 61 - 60; omega
              · refine g_sub (le_1 rfl (le_1 rfl (le_1 e_1 le_n))) (ih (k + 1, k, S2) ?_ ?_)
                · try dsimp only
                  exact ⟨by omega, by omega, Or.inr ⟨h60, by omega, hres.symm⟩, by rw [hA2]; exact pmA_rw hI4.1.1 hI4.2.2.1 hI3 (lt9 h5l), (hI4.fr (FrM.u hI5.2.2.2.1) rfl rfl).fr hF2 (by rw [hA2]; exact hk 0 (by omega)) (by rw [hA2]; exact hk 2 (by omega)), hI5.tr ((FrM.u hI5.2.2.2.1).tr hF2), h9F.trans hI6, fun k hk2 => by rw [hA2, hk k hk2]; exact hI7 k hk2⟩
                · show 61 - (k + 1) < 61 - k; omega
  · 
    refine g_iconst (v := 0) X dX2_lasts_7 rfl ?_
    exact g_iret X hr dX2_lasts_8 (Nat.le_of_ble_eq_true rfl) (Nat.le_of_ble_eq_true rfl) (⟨by rw [if_pos ((nI_eq (b := 0) (by omega) (by decide)).mp c4)], rfl, FrM.rf hco.2.2.1⟩)
