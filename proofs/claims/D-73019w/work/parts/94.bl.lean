theorem coM.fr {S S' : gk_S} (h : coM S) (hf : FrM S S') (hr : rwM (S'.1 400)) (h3 : S'.1 400 3 = S.1 400 3) : coM S' := ⟨hr, h.2.1.imp fun ns hn => ⟨hn.1, h3.trans hn.2⟩, hf.2.2.2.1, (hf.2.1 25 (by decide)).trans h.2.2.2⟩
/-- what befalls the model -/
def hpA (o : Nat → Int32) (n nf : Nat) (g : Nat → Int32) (W : Option mnB) (A : Nat → Int32) (x : Nat) : Nat → Int32 :=
  if x % 6 < 2 then (if saP n g A (nI (x / 6 % 8)) then upd A 7 (A 7 ||| one (nI (x / 6 % 8))) else A)
  else if x % 6 = 2 then (if reP n A (nI (x / 6 % 8)) then upd A 7 (A 7 &&& (one (nI (x / 6 % 8)) ^^^ -1)) else A)
  else if x % 6 = 3 then (if paP n A (nI (x / 6 % 8)) then upd A (9 + x / 6 % 8) 0 else A)
  else if A 5 < 9999 then (pmA true o n nf g W A).1 else A
theorem rwM.up {A : Nat → Int32} {k : Nat} {x : Int32} (h : rwM A) (hk : k = 7 ∨ (9 ≤ k ∧ k < 27)) : rwM (upd A k x) := by
  obtain ⟨⟨⟨v, hv2, hv⟩, ⟨nb, hb2, hb⟩, hsm⟩, sp, hsp, e⟩ := h
  exact ⟨⟨⟨v, hv2, by rw [upd_n (by omega)]; exact hv⟩, ⟨nb, hb2, by rw [upd_n (by omega)]; exact hb⟩, fun i hi => by rw [upd_n (by omega)]; exact hsm i hi⟩, sp, hsp, by rw [upd_n (by omega)]; exact e⟩
theorem lt9 {x : Int32} (h : x < 9999) : ¬ x = 9999 := fun z => by rw [z] at h; exact Int32.lt_irrefl h
theorem hpA_ok {o : Nat → Int32} {n nf : Nat} {g : Nat → Int32} {W : Option mnB} {A : Nat → Int32} {x : Nat} (hn : n ≤ 8) (hf : nf ≤ 5) (h : rwM A) : rwM (hpA o n nf g W A x) ∧ ∀ k, (k < 5 ∨ (27 ≤ k ∧ k < 1346)) → hpA o n nf g W A x k = A k := by
  have hc : x / 6 % 8 < 8 := Nat.mod_lt _ (by decide)
  unfold hpA
  split
  · split
    · exact ⟨h.up (by omega), fun k hk => upd_n (by omega)⟩
    · exact ⟨h, fun _ _ => rfl⟩
  split
  · split
    · exact ⟨h.up (by omega), fun k hk => upd_n (by omega)⟩
    · exact ⟨h, fun _ _ => rfl⟩
  split
  · split
    · exact ⟨h.up (by omega), fun k hk => upd_n (by omega)⟩
    · exact ⟨h, fun _ _ => rfl⟩
  split
  · rename_i h5
    exact ⟨pmA_rw hn hf h (lt9 h5), (pmA_ok hn hf h).1⟩
  · exact ⟨h, fun _ _ => rfl⟩
theorem pa_i {n c : Nat} {A : Nat → Int32} (hc : c < 2 ^ 31) (h : paP n A (nI c)) : (0 ≤ nI c ∧ nI c ≤ nI n - 1) ∧ ¬ A (9 + ix (nI c)) = 0 := h
theorem pa_j {n c : Nat} {A : Nat → Int32} (hc : c < 2 ^ 31) (h : (0 ≤ nI c ∧ nI c ≤ nI n - 1) ∧ ¬ A (9 + ix (nI c)) = 0) : paP n A (nI c) := h
theorem dec_0 {x : Nat} (h : nI (x % 6) = 0) : x % 6 < 2 := by
  have := (nI_eq (a := x % 6) (b := 0) (by have := Nat.mod_lt x (show 6 > 0 by decide); omega) (by decide)).mp h
  omega
theorem dec_1 {x : Nat} (h : nI (x % 6) = 1) : x % 6 < 2 := by
  have := (nI_eq (a := x % 6) (b := 1) (by have := Nat.mod_lt x (show 6 > 0 by decide); omega) (by decide)).mp h
  omega
theorem dec_2 {x : Nat} (h : nI (x % 6) = 2) : x % 6 = 2 := (nI_eq (a := x % 6) (b := 2) (by have := Nat.mod_lt x (show 6 > 0 by decide); omega) (by decide)).mp h
theorem dec_3 {x : Nat} (h : nI (x % 6) = 3) : x % 6 = 3 := (nI_eq (a := x % 6) (b := 3) (by have := Nat.mod_lt x (show 6 > 0 by decide); omega) (by decide)).mp h
theorem dec_4 {x : Nat} (h : (nI (x % 6)).toInt < 0 ∨ 3 < (nI (x % 6)).toInt) : 4 ≤ x % 6 := by
  rw [nI_toInt (by have := Nat.mod_lt x (show 6 > 0 by decide); omega)] at h
  omega
theorem hp_s {o : Nat → Int32} {n nf : Nat} {g : Nat → Int32} {W : Option mnB} {A : Nat → Int32} {x : Nat} (h : x % 6 < 2) : hpA o n nf g W A x = if saP n g A (nI (x / 6 % 8)) then upd A 7 (A 7 ||| one (nI (x / 6 % 8))) else A := if_pos h
theorem hp_r {o : Nat → Int32} {n nf : Nat} {g : Nat → Int32} {W : Option mnB} {A : Nat → Int32} {x : Nat} (h : x % 6 = 2) : hpA o n nf g W A x = if reP n A (nI (x / 6 % 8)) then upd A 7 (A 7 &&& (one (nI (x / 6 % 8)) ^^^ -1)) else A := (if_neg (by omega)).trans (if_pos h)
theorem hp_p {o : Nat → Int32} {n nf : Nat} {g : Nat → Int32} {W : Option mnB} {A : Nat → Int32} {x : Nat} (h : x % 6 = 3) : hpA o n nf g W A x = if paP n A (nI (x / 6 % 8)) then upd A (9 + x / 6 % 8) 0 else A := (if_neg (by omega)).trans ((if_neg (by omega)).trans (if_pos h))
theorem hp_q {o : Nat → Int32} {n nf : Nat} {g : Nat → Int32} {W : Option mnB} {A : Nat → Int32} {x : Nat} (h : 4 ≤ x % 6) : hpA o n nf g W A x = if A 5 < 9999 then (pmA true o n nf g W A).1 else A := (if_neg (by omega)).trans ((if_neg (by omega)).trans (if_neg (by omega)))
set_option maxHeartbeats 600000 in
theorem k_X2_happens {l : Launch} {E : gk_E} (ho : E.2.2.2.2 = true) {S : gk_S} {x : Int32} {n nf xx : Nat} {g o : Nat → Int32} {W : Option mnB} (hx : x = nI xx) (hx2 : xx < 30859) (he : EnM S n nf g W) (hco : coM S) (hoff : offM (S.1 405) o) : gk_T l E yX2_happens cX2_happens 3 (none) 6 145 0 0 [.ref (E.2.2.1 3), .int x] S (fun r S' => r = none ∧ S'.1 400 = hpA o n nf g W (S.1 400) xx ∧ FrM S S') := by
  refine gk_T.of [some (.ref (E.2.2.1 3)), some (.int x), none] (by decide) (Nat.le_of_ble_eq_true rfl) (le_1 rfl (le_1 rfl (le_p le_n))) ?_
  intro p_ e_ R_ s_ m_ args_ below_ meth_ c_ hR X hr hin
  subst hR
  refine g_iload_n X dX2_happens_0 rfl ?_
  refine g_bipush (v := 6) X dX2_happens_1 rfl ?_
  refine g_idiv X dX2_happens_3 (by decide) ?_
  refine g_bipush (v := 8) X dX2_happens_4 rfl ?_
  refine g_irem X dX2_happens_6 (by decide) ?_
  refine g_top (y := nI (xx / 6 % 8)) (by rw [hx]; show (nI xx / nI 6) - (nI xx / nI 6) / nI 8 * nI 8 = _; rw [pk_div (by omega) (by decide) (by decide), pk_rem (by omega) (by decide) (by decide)]) ?_
  have hc8 : xx / 6 % 8 < 8 := Nat.mod_lt _ (by decide)
  refine g_istore_n X dX2_happens_7 (Nat.le_of_ble_eq_true rfl) ?_
  refine g_iload_n X dX2_happens_8 rfl ?_
  refine g_bipush (v := 6) X dX2_happens_9 rfl ?_
  refine g_irem X dX2_happens_11 (by decide) ?_
  refine g_top (y := nI (xx % 6)) (by rw [hx]; show nI xx - nI xx / nI 6 * nI 6 = _; rw [pk_rem (by omega) (by decide) (by decide)]) ?_
  rcases Decidable.em ((nI (xx % 6)).toInt < 0 ∨ 3 < (nI (xx % 6)).toInt) with h12 | h12
  · refine g_tableOut (tgt := 115) X dX2_happens_12 h12 rfl ?_
    refine g_aload_n X dX2_happens_115 rfl ?_
    refine g_get (C := RX2) (T := TX2) (N := 35) X 0 in_X2 dX2_happens_116 q1405 (rd3 ho) rfl (Nat.le_of_ble_eq_true rfl) (fun _ h9 => h9) rfl ?_
    refine g_iconst (v := 5) X dX2_happens_119 rfl ?_
    refine g_iald (j := 5) X dX2_happens_120 (rdi ho (400) (rfl)) rfl (by decide) (by decide) ?_
    refine g_sipush (v := 9999) X dX2_happens_121 rfl ?_
    refine g_icmp_ge (tgt := 131) X dX2_happens_124 rfl (fun c124 => ?_) (fun c124 => ?_)
    · exact g_vret X hr dX2_happens_131 (Nat.le_of_ble_eq_true rfl) (Nat.le_of_ble_eq_true rfl) (⟨rfl, by rw [hp_q (dec_4 h12), if_neg (Int32.not_lt.mpr c124)], FrM.rf hco.2.2.1⟩)
    · refine g_aload_n X dX2_happens_127 rfl ?_
      refine g_callV (C := RX2) (T := TX2) (N := 35) X (k_X2_passF ho (S := S) (n := n) (nf := nf) (g := g) (W := W) (wr := true) (o := o) he hco.1 hco.2.2.1 ⟨fun _ => by rw [hco.2.2.2]; decide, fun _ => rfl⟩ hoff) (lw_V q1800 q1802 qs105 q139 q1803) hd_X2_pass dX2_happens_128 (rd3 ho) rfl rfl ⟨Nat.le_of_ble_eq_true rfl, Nat.le_of_ble_eq_true rfl⟩ ⟨Nat.le_of_ble_eq_true rfl, Nat.le_of_ble_eq_true rfl⟩ (Nat.le_of_ble_eq_true rfl) ?_
      rintro _ S2 ⟨rfl, hA2, hU2, hF2, _⟩
      exact g_vret X hr dX2_happens_131 (Nat.le_of_ble_eq_true rfl) (Nat.le_of_ble_eq_true rfl) (⟨rfl, by rw [hp_q (dec_4 h12), if_pos (Int32.not_le.mp c124)]; exact hA2, hF2⟩)
  · rcases (show (nI (xx % 6)).toInt = 0 ∨ (nI (xx % 6)).toInt = 1 ∨ (nI (xx % 6)).toInt = 2 ∨ (nI (xx % 6)).toInt = 3 from by omega) with s12 | s12 | s12 | s12
    · have s12 : nI (xx % 6) = 0 := Int32.toInt_inj.mp (s12.trans (by decide))
      refine g_tableIn (off := 32) (tgt := 44) X dX2_happens_12 (by rw [s12]; decide) (by rw [s12]; decide) (by rw [s12]; rfl) rfl ?_
      refine g_aload_n X dX2_happens_44 rfl ?_
      refine g_iload_n X dX2_happens_45 rfl ?_
      refine g_callV (C := RX2) (T := TX2) (N := 35) X (k_X2_canSay ho he.1) (lw_V q1747 q1749 qs95 q139 q1750) hd_X2_canSay dX2_happens_46 (rd3 ho) rfl rfl ⟨Nat.le_of_ble_eq_true rfl, Nat.le_of_ble_eq_true rfl⟩ ⟨Nat.le_of_ble_eq_true rfl, Nat.le_of_ble_eq_true rfl⟩ (Nat.le_of_ble_eq_true rfl) ?_
      rintro _ S1 ⟨rfl, hS1⟩
      obtain rfl := hS1.symm
      refine g_ifp_eq (tgt := 131) X dX2_happens_49 rfl (fun c49 => ?_) (fun c49 => ?_)
      · exact g_vret X hr dX2_happens_131 (Nat.le_of_ble_eq_true rfl) (Nat.le_of_ble_eq_true rfl) (⟨rfl, by rw [hp_s (dec_0 s12), if_neg c49], FrM.rf hco.2.2.1⟩)
      · refine g_aload_n X dX2_happens_52 rfl ?_
        refine g_get (C := RX2) (T := TX2) (N := 35) X 0 in_X2 dX2_happens_53 q1405 (rd3 ho) rfl (Nat.le_of_ble_eq_true rfl) (fun _ h9 => h9) rfl ?_
        refine g_bipush (v := 7) X dX2_happens_56 rfl ?_
        refine g_dup2_11 X dX2_happens_58 rfl rfl ?_
        refine g_iald (j := 7) X dX2_happens_59 (rdi ho (400) (rfl)) rfl (by decide) (by decide) ?_
        refine g_iconst (v := 1) X dX2_happens_60 rfl ?_
        refine g_iload_n X dX2_happens_61 rfl ?_
        refine g_ishl X dX2_happens_62 ?_
        refine g_ior X dX2_happens_63 ?_
        refine g_iast X ho (400) (j := 7) dX2_happens_64 rfl (rfl) rfl (by decide) (by decide) ?_
        refine g_goto (tgt := 131) X dX2_happens_65 rfl ?_
        exact g_vret X hr dX2_happens_131 (Nat.le_of_ble_eq_true rfl) (Nat.le_of_ble_eq_true rfl) (⟨rfl, by rw [hp_s (dec_0 s12), if_pos c49, si_s], FrM.a hco.2.2.1⟩)
    · have s12 : nI (xx % 6) = 1 := Int32.toInt_inj.mp (s12.trans (by decide))
      refine g_tableIn (off := 32) (tgt := 44) X dX2_happens_12 (by rw [s12]; decide) (by rw [s12]; decide) (by rw [s12]; rfl) rfl ?_
      refine g_aload_n X dX2_happens_44 rfl ?_
      refine g_iload_n X dX2_happens_45 rfl ?_
      refine g_callV (C := RX2) (T := TX2) (N := 35) X (k_X2_canSay ho he.1) (lw_V q1747 q1749 qs95 q139 q1750) hd_X2_canSay dX2_happens_46 (rd3 ho) rfl rfl ⟨Nat.le_of_ble_eq_true rfl, Nat.le_of_ble_eq_true rfl⟩ ⟨Nat.le_of_ble_eq_true rfl, Nat.le_of_ble_eq_true rfl⟩ (Nat.le_of_ble_eq_true rfl) ?_
      rintro _ S1 ⟨rfl, hS1⟩
      obtain rfl := hS1.symm
      refine g_ifp_eq (tgt := 131) X dX2_happens_49 rfl (fun c49 => ?_) (fun c49 => ?_)
      · exact g_vret X hr dX2_happens_131 (Nat.le_of_ble_eq_true rfl) (Nat.le_of_ble_eq_true rfl) (⟨rfl, by rw [hp_s (dec_1 s12), if_neg c49], FrM.rf hco.2.2.1⟩)
      · refine g_aload_n X dX2_happens_52 rfl ?_
        refine g_get (C := RX2) (T := TX2) (N := 35) X 0 in_X2 dX2_happens_53 q1405 (rd3 ho) rfl (Nat.le_of_ble_eq_true rfl) (fun _ h9 => h9) rfl ?_
        refine g_bipush (v := 7) X dX2_happens_56 rfl ?_
        refine g_dup2_11 X dX2_happens_58 rfl rfl ?_
        refine g_iald (j := 7) X dX2_happens_59 (rdi ho (400) (rfl)) rfl (by decide) (by decide) ?_
        refine g_iconst (v := 1) X dX2_happens_60 rfl ?_
        refine g_iload_n X dX2_happens_61 rfl ?_
        refine g_ishl X dX2_happens_62 ?_
        refine g_ior X dX2_happens_63 ?_
        refine g_iast X ho (400) (j := 7) dX2_happens_64 rfl (rfl) rfl (by decide) (by decide) ?_
        refine g_goto (tgt := 131) X dX2_happens_65 rfl ?_
        exact g_vret X hr dX2_happens_131 (Nat.le_of_ble_eq_true rfl) (Nat.le_of_ble_eq_true rfl) (⟨rfl, by rw [hp_s (dec_1 s12), if_pos c49, si_s], FrM.a hco.2.2.1⟩)
    · have s12 : nI (xx % 6) = 2 := Int32.toInt_inj.mp (s12.trans (by decide))
      refine g_tableIn (off := 56) (tgt := 68) X dX2_happens_12 (by rw [s12]; decide) (by rw [s12]; decide) (by rw [s12]; rfl) rfl ?_
      refine g_aload_n X dX2_happens_68 rfl ?_
      refine g_iload_n X dX2_happens_69 rfl ?_
      refine g_callV (C := RX2) (T := TX2) (N := 35) X (k_X2_canRetract ho he.1) (lw_V q1780 q1782 qs102 q139 q1783) hd_X2_canRetract dX2_happens_70 (rd3 ho) rfl rfl ⟨Nat.le_of_ble_eq_true rfl, Nat.le_of_ble_eq_true rfl⟩ ⟨Nat.le_of_ble_eq_true rfl, Nat.le_of_ble_eq_true rfl⟩ (Nat.le_of_ble_eq_true rfl) ?_
      rintro _ S1 ⟨rfl, hS1⟩
      obtain rfl := hS1.symm
      refine g_ifp_eq (tgt := 131) X dX2_happens_73 rfl (fun c73 => ?_) (fun c73 => ?_)
      · exact g_vret X hr dX2_happens_131 (Nat.le_of_ble_eq_true rfl) (Nat.le_of_ble_eq_true rfl) (⟨rfl, by rw [hp_r (dec_2 s12), if_neg c73], FrM.rf hco.2.2.1⟩)
      · refine g_aload_n X dX2_happens_76 rfl ?_
        refine g_get (C := RX2) (T := TX2) (N := 35) X 0 in_X2 dX2_happens_77 q1405 (rd3 ho) rfl (Nat.le_of_ble_eq_true rfl) (fun _ h9 => h9) rfl ?_
        refine g_bipush (v := 7) X dX2_happens_80 rfl ?_
        refine g_dup2_11 X dX2_happens_82 rfl rfl ?_
        refine g_iald (j := 7) X dX2_happens_83 (rdi ho (400) (rfl)) rfl (by decide) (by decide) ?_
        refine g_iconst (v := 1) X dX2_happens_84 rfl ?_
        refine g_iload_n X dX2_happens_85 rfl ?_
        refine g_ishl X dX2_happens_86 ?_
        refine g_iconst (v := (-1)) X dX2_happens_87 rfl ?_
        refine g_ixor X dX2_happens_88 ?_
        refine g_iand X dX2_happens_89 ?_
        refine g_iast X ho (400) (j := 7) dX2_happens_90 rfl (rfl) rfl (by decide) (by decide) ?_
        refine g_goto (tgt := 131) X dX2_happens_91 rfl ?_
        exact g_vret X hr dX2_happens_131 (Nat.le_of_ble_eq_true rfl) (Nat.le_of_ble_eq_true rfl) (⟨rfl, by rw [hp_r (dec_2 s12), if_pos c73, si_s], FrM.a hco.2.2.1⟩)
    · have s12 : nI (xx % 6) = 3 := Int32.toInt_inj.mp (s12.trans (by decide))
      refine g_tableIn (off := 82) (tgt := 94) X dX2_happens_12 (by rw [s12]; decide) (by rw [s12]; decide) (by rw [s12]; rfl) rfl ?_
      refine g_aload_n X dX2_happens_94 rfl ?_
      refine g_iload_n X dX2_happens_95 rfl ?_
      refine g_callV (C := RX2) (T := TX2) (N := 35) X (k_X2_canPardon ho he.1) (lw_V q1788 q1790 qs103 q139 q1791) hd_X2_canPardon dX2_happens_96 (rd3 ho) rfl rfl ⟨Nat.le_of_ble_eq_true rfl, Nat.le_of_ble_eq_true rfl⟩ ⟨Nat.le_of_ble_eq_true rfl, Nat.le_of_ble_eq_true rfl⟩ (Nat.le_of_ble_eq_true rfl) ?_
      rintro _ S1 ⟨rfl, hS1⟩
      obtain rfl := hS1.symm
      refine g_ifp_eq (tgt := 131) X dX2_happens_99 rfl (fun c99 => ?_) (fun c99 => ?_)
      · exact g_vret X hr dX2_happens_131 (Nat.le_of_ble_eq_true rfl) (Nat.le_of_ble_eq_true rfl) (⟨rfl, by rw [hp_p (dec_3 s12), if_neg (fun z => c99 (pa_i (by omega) z))], FrM.rf hco.2.2.1⟩)
      · refine g_aload_n X dX2_happens_102 rfl ?_
        refine g_get (C := RX2) (T := TX2) (N := 35) X 0 in_X2 dX2_happens_103 q1405 (rd3 ho) rfl (Nat.le_of_ble_eq_true rfl) (fun _ h9 => h9) rfl ?_
        refine g_bipush (v := 9) X dX2_happens_106 rfl ?_
        refine g_iload_n X dX2_happens_108 rfl ?_
        refine g_iadd X dX2_happens_109 ?_
        refine g_iconst (v := 0) X dX2_happens_110 rfl ?_
        refine g_iast X ho (400) (j := 9 + xx / 6 % 8) dX2_happens_111 rfl (rfl) (by show nI 9 + nI _ = _; rw [nI_add]) (by omega) (by decide) ?_
        refine g_goto (tgt := 131) X dX2_happens_112 rfl ?_
        exact g_vret X hr dX2_happens_131 (Nat.le_of_ble_eq_true rfl) (Nat.le_of_ble_eq_true rfl) (⟨rfl, by rw [hp_p (dec_3 s12), if_pos (pa_j (by omega) c99), si_s], FrM.a hco.2.2.1⟩)
/-- the years of the model -/
def yrA (o : Nat → Int32) (n nf : Nat) (g : Nat → Int32) (W : Option mnB) (A : Nat → Int32) (i : Nat) : Nat → Int32 := itr (fun _ A => hpA o n nf g W (upd A 6 (nI (dwN (ix (A 6))))) (ix (A 6))) i A
theorem yrA_0 {o : Nat → Int32} {n nf : Nat} {g : Nat → Int32} {W : Option mnB} {A : Nat → Int32} : yrA o n nf g W A 0 = A := itr_0
theorem yrA_s {o : Nat → Int32} {n nf i : Nat} {g : Nat → Int32} {W : Option mnB} {A : Nat → Int32} : yrA o n nf g W A (i + 1) = hpA o n nf g W (upd (yrA o n nf g W A i) 6 (nI (dwN (ix (yrA o n nf g W A i 6))))) (ix (yrA o n nf g W A i 6)) := itr_s
theorem rwM.u6 {A : Nat → Int32} {v : Nat} (h : rwM A) (hv2 : v < 30859) : rwM (upd A 6 (nI v)) := by
  obtain ⟨⟨-, ⟨nb, hb2, hb⟩, hsm⟩, sp, hsp, e⟩ := h
  exact ⟨⟨⟨v, hv2, upd_s⟩, ⟨nb, hb2, by rw [upd_n (by omega)]; exact hb⟩, fun i hi => by rw [upd_n (by omega)]; exact hsm i hi⟩, sp, hsp, by rw [upd_n (by omega)]; exact e⟩
abbrev yeP (x y : Int32) : Prop := (0 ≤ x ∧ x ≤ 9999) ∧ (1 ≤ y ∧ y ≤ 40)
set_option maxHeartbeats 1000000 in
theorem k_X2_years {l : Launch} {E : gk_E} (ho : E.2.2.2.2 = true) {S : gk_S} {x : Int32} {y : Int32} {n nf ns : Nat} {g o : Nat → Int32} {W : Option mnB} (he : EnM S n nf g W) (hco : coM S) (hns2 : S.1 400 3 = nI ns) (hns : ns ≤ 30) (hoff : offM (S.1 405) o) : gk_T l E yX2_years cX2_years 5 ((some .int)) 7 167 0 0 [.ref (E.2.2.1 3), .int x, .int y] S (fun r S' => r = some (.int (if yeP x y then yrA o n nf g W (upd (kpM (S.1 400) ns) 6 (x * 2 + 359)) (ix y) 5 else -1)) ∧ S'.1 400 = (if yeP x y then yrA o n nf g W (upd (kpM (S.1 400) ns) 6 (x * 2 + 359)) (ix y) else S.1 400) ∧ coM S' ∧ EnM S' n nf g W ∧ FrM S S' ∧ (S'.1 400 0 = S.1 400 0 ∧ S'.1 400 2 = S.1 400 2)) := by
  refine gk_T.of [some (.ref (E.2.2.1 3)), some (.int x), some (.int y), none, none] (by decide) (Nat.le_of_ble_eq_true rfl) (le_1 rfl (le_1 rfl (le_1 rfl (le_p (le_p le_n))))) ?_
  intro p_ e_ R_ s_ m_ args_ below_ meth_ c_ hR X hr hin
  subst hR
  refine g_iload_n X dX2_years_0 rfl ?_
  refine g_iconst (v := 0) X dX2_years_1 rfl ?_
  refine g_sipush (v := 9999) X dX2_years_2 rfl ?_
  refine g_callS X (k_X2_isIn ho) (lw_S q1516 q1517 q139 q1518) hd_X2_isIn dX2_years_5 rfl ⟨Nat.le_of_ble_eq_true rfl, Nat.le_of_ble_eq_true rfl⟩ ⟨Nat.le_of_ble_eq_true rfl, Nat.le_of_ble_eq_true rfl⟩ (Nat.le_of_ble_eq_true rfl) ?_
  rintro _ S1 ⟨rfl, hS1⟩
  obtain rfl := hS1.symm
  refine g_ifp_eq (tgt := 21) X dX2_years_8 rfl (fun c8 => ?_) (fun c8 => ?_)
  · refine g_iconst (v := (-1)) X dX2_years_21 rfl ?_
    exact g_iret X hr dX2_years_22 (Nat.le_of_ble_eq_true rfl) (Nat.le_of_ble_eq_true rfl) (⟨by rw [if_neg (fun z => c8 z.1)], by rw [if_neg (fun z => c8 z.1)], hco, he, FrM.rf hco.2.2.1, rfl, rfl⟩)
  · refine g_iload_n X dX2_years_11 rfl ?_
    refine g_iconst (v := 1) X dX2_years_12 rfl ?_
    refine g_bipush (v := 40) X dX2_years_13 rfl ?_
    refine g_callS X (k_X2_isIn ho) (lw_S q1516 q1517 q139 q1518) hd_X2_isIn dX2_years_15 rfl ⟨Nat.le_of_ble_eq_true rfl, Nat.le_of_ble_eq_true rfl⟩ ⟨Nat.le_of_ble_eq_true rfl, Nat.le_of_ble_eq_true rfl⟩ (Nat.le_of_ble_eq_true rfl) ?_
    rintro _ S1 ⟨rfl, hS1⟩
    obtain rfl := hS1.symm
    refine g_ifp_ne (tgt := 23) X dX2_years_18 rfl (fun c18 => ?_) (fun c18 => ?_)
    · have hP : yeP x y := ⟨c8, c18⟩
      have hxx := ix_i c8.1
      have hxb : ix x ≤ 9999 := ix_le 9999 (by decide) c8.1 c8.2
      have hyy := ix_i (Int32.le_trans (by decide) c18.1)
      have hyb : ix y ≤ 40 := ix_le 40 (by decide) (Int32.le_trans (by decide) c18.1) c18.2
      obtain ⟨yy, hyye⟩ : ∃ yy, yy = ix y := ⟨_, rfl⟩
      have hxe : x * 2 + 359 = nI (ix x * 2 + 359) := by
        have e : x * 2 + 359 = nI (ix x) * nI 2 + nI 359 := congrArg (fun z => z * 2 + 359) hxx
        rw [e, pk_mul, nI_add]
      have hxl : ix x * 2 + 359 < 30859 := by omega
      have hK0 : kpM (S.1 400) ns 0 = S.1 400 0 := kpM_n hns (by omega)
      have hK2 : kpM (S.1 400) ns 2 = S.1 400 2 := kpM_n hns (by omega)
      have hKr : rwM (kpM (S.1 400) ns) := kpM_rw hns hco.1
      refine g_aload_n X dX2_years_23 rfl ?_
      refine g_callV (C := RX2) (T := TX2) (N := 35) X (k_X2_keep ho hns2 hns) (lw_V q1772 q1774 qs101 q139 q1775) hd_X2_keep dX2_years_24 (rd3 ho) rfl rfl ⟨Nat.le_of_ble_eq_true rfl, Nat.le_of_ble_eq_true rfl⟩ ⟨Nat.le_of_ble_eq_true rfl, Nat.le_of_ble_eq_true rfl⟩ (Nat.le_of_ble_eq_true rfl) ?_
      rintro _ S1 ⟨rfl, hS1⟩
      obtain rfl := hS1.symm
      refine g_aload_n X dX2_years_27 rfl ?_
      refine g_get (C := RX2) (T := TX2) (N := 35) X 0 in_X2 dX2_years_28 q1405 (rd3 ho) rfl (Nat.le_of_ble_eq_true rfl) (fun _ h9 => h9) rfl ?_
      refine g_bipush (v := 6) X dX2_years_31 rfl ?_
      refine g_iload_n X dX2_years_33 rfl ?_
      refine g_iconst (v := 2) X dX2_years_34 rfl ?_
      refine g_imul X dX2_years_35 ?_
      refine g_sipush (v := 359) X dX2_years_36 rfl ?_
      refine g_iadd X dX2_years_39 ?_
      refine g_iast X ho (400) (j := 6) dX2_years_40 rfl (rfl) rfl (by decide) (by decide) ?_
      refine g_eq (S2 := gk_si S 400 (upd (kpM (S.1 400) ns) 6 (x * 2 + 359))) (by rw [si_si, si_s]) ?_
      refine g_iconst (v := 0) X dX2_years_41 rfl ?_
      refine g_istore_n X dX2_years_42 (Nat.le_of_ble_eq_true rfl) ?_
      refine g_loop (σ := Nat × gk_S) (fun (q : Nat × gk_S) => match q with | (i, S1) => S1) (fun (q : Nat × gk_S) => match q with | (i, S1) => ([some (.ref (E.2.2.1 3)), some (.int x), some (.int y), some (.int (nI i)), none] : List (Option Value))) (fun (q : Nat × gk_S) => match q with | (i, S1) => i ≤ yy ∧ S1.1 400 = yrA o n nf g W (upd (kpM (S.1 400) ns) 6 (x * 2 + 359)) i ∧ coM S1 ∧ EnM S1 n nf g W ∧ FrM S S1 ∧ (S1.1 400 0 = S.1 400 0 ∧ S1.1 400 2 = S.1 400 2)) (fun (q : Nat × gk_S) => match q with | (i, S1) => yy - i) ((0, gk_si S 400 (upd (kpM (S.1 400) ns) 6 (x * 2 + 359)))) ?_ (rfl) (le_1 rfl (le_1 rfl (le_1 rfl (le_1 rfl (le_0 le_n))))) ?_
      · exact ⟨Nat.zero_le _, by rw [yrA_0]; exact si_s, ⟨by rw [si_s, hxe]; exact hKr.u6 hxl, ⟨kpN ns, kpN_le hns, by rw [si_s, upd_n (by decide)]; exact kpM_3⟩, hco.2.2⟩, he.fr (FrM.a hco.2.2.1) (by rw [si_s, upd_n (by decide)]; exact hK0) (by rw [si_s, upd_n (by decide)]; exact hK2), FrM.a hco.2.2.1, by rw [si_s, upd_n (by decide)]; exact hK0, by rw [si_s, upd_n (by decide)]; exact hK2⟩
      rintro ⟨i, S1⟩ hI ih
      try dsimp only at hI ih ⊢
      obtain ⟨hI1, hI2, hI3, hI4, hI5, hI6, hI7⟩ := hI
      refine g_iload_n X dX2_years_43 rfl ?_
      refine g_iload_n X dX2_years_44 rfl ?_
      refine g_icmp_ge (tgt := 73) X dX2_years_45 rfl (fun c45 => ?_) (fun c45 => ?_)
      · have hiy : yy = i := Nat.le_antisymm ((nI_leI (by omega) (by omega)).mp (by rw [hyye, ← hyy]; exact c45)) hI1
        subst hiy
        refine g_aload_n X dX2_years_73 rfl ?_
        refine g_get (C := RX2) (T := TX2) (N := 35) X 0 in_X2 dX2_years_74 q1405 (rd3 ho) rfl (Nat.le_of_ble_eq_true rfl) (fun _ h9 => h9) rfl ?_
        refine g_iconst (v := 5) X dX2_years_77 rfl ?_
        refine g_iald (j := 5) X dX2_years_78 (rdi ho (400) (rfl)) rfl (by decide) (by decide) ?_
        exact g_iret X hr dX2_years_79 (Nat.le_of_ble_eq_true rfl) (Nat.le_of_ble_eq_true rfl) (⟨by rw [if_pos hP, ← hyye, ← hI2], by rw [if_pos hP, ← hyye]; exact hI2, hI3, hI4, hI5, hI6, hI7⟩)
      · have hiy : i < yy := (nI_ltI (by omega) (by omega)).mp (Int32.not_le.mp (by rw [hyye, ← hyy]; exact c45))
        obtain ⟨v, hv2, hv⟩ := hI3.1.1.1
        have hr6 : rwM (upd (S1.1 400) 6 (nI (dwN v))) := hI3.1.u6 dwN_lt
        refine g_aload_n X dX2_years_48 rfl ?_
        refine g_get (C := RX2) (T := TX2) (N := 35) X 0 in_X2 dX2_years_49 q1405 (rd3 ho) rfl (Nat.le_of_ble_eq_true rfl) (fun _ h9 => h9) rfl ?_
        refine g_bipush (v := 6) X dX2_years_52 rfl ?_
        refine g_iald (j := 6) X dX2_years_54 (rdi ho (400) (rfl)) rfl (by decide) (by decide) ?_
        refine g_istore X dX2_years_55 (Nat.le_of_ble_eq_true rfl) ?_
        refine g_aload_n X dX2_years_57 rfl ?_
        refine g_callV (C := RX2) (T := TX2) (N := 35) X (k_X2_anew ho (S := S1) hv hv2) (lw_V q1812 q1814 qs108 q139 q1815) hd_X2_anew dX2_years_58 (rd3 ho) rfl rfl ⟨Nat.le_of_ble_eq_true rfl, Nat.le_of_ble_eq_true rfl⟩ ⟨Nat.le_of_ble_eq_true rfl, Nat.le_of_ble_eq_true rfl⟩ (Nat.le_of_ble_eq_true rfl) ?_
        rintro _ S1 ⟨rfl, hS1⟩
        obtain rfl := hS1.symm
        refine g_aload_n X dX2_years_61 rfl ?_
        refine g_iload X dX2_years_62 rfl ?_
        refine g_callV (C := RX2) (T := TX2) (N := 35) X (k_X2_happens ho (S := gk_si S1 400 (upd (S1.1 400) 6 (nI (dwN v)))) (n := n) (nf := nf) (g := g) (W := W) (o := o) hv hv2 (hI4.fr (FrM.a hI3.2.2.1) (by rw [si_s, upd_n (by decide)]) (by rw [si_s, upd_n (by decide)])) (hI3.fr (FrM.a hI3.2.2.1) (by rw [si_s]; exact hr6) (by rw [si_s, upd_n (by decide)])) (fun z hz => (hI5.2.2.1 z hz).trans (hoff z hz))) (lw_V q1863 q1865 qs115 q139 q1866) hd_X2_happens dX2_years_64 (rd3 ho) rfl rfl ⟨Nat.le_of_ble_eq_true rfl, Nat.le_of_ble_eq_true rfl⟩ ⟨Nat.le_of_ble_eq_true rfl, Nat.le_of_ble_eq_true rfl⟩ (Nat.le_of_ble_eq_true rfl) ?_
        rintro _ S2 ⟨rfl, hA2, hF2⟩
        refine g_iinc (v := 1) X dX2_years_67 rfl rfl (Nat.le_of_ble_eq_true rfl) ?_
        refine g_goto (tgt := 43) X dX2_years_70 rfl ?_
        have hi6 : ix (S1.1 400 6) = v := by rw [hv, ix_n (by omega)]
        have hE3 : S2.1 400 = yrA o n nf g W (upd (kpM (S.1 400) ns) 6 (x * 2 + 359)) (i + 1) := by rw [yrA_s, ← hI2, hi6]; exact hA2
        obtain ⟨q1, q2⟩ := hpA_ok (o := o) (g := g) (W := W) (x := v) hI4.1.1 hI4.2.2.1 hr6
        rw [si_s] at hA2
        have hG0 : S2.1 400 0 = S1.1 400 0 := by rw [hA2, q2 0 (by omega), upd_n (by decide)]
        have hG2 : S2.1 400 2 = S1.1 400 2 := by rw [hA2, q2 2 (by omega), upd_n (by decide)]
        have hG3 : S2.1 400 3 = S1.1 400 3 := by rw [hA2, q2 3 (by omega), upd_n (by decide)]
        have hF3 : FrM S1 S2 := (FrM.a hI3.2.2.1).tr hF2
        refine g_sub (le_1 rfl (le_1 rfl (le_1 rfl (le_1 e_1 (le_0 le_n))))) (ih (i + 1, S2) ?_ ?_)
        · exact ⟨by omega, hE3, hI3.fr hF3 (by rw [hA2]; exact q1) hG3, hI4.fr hF3 hG0 hG2, hI5.tr hF3, hG0.trans hI6, hG2.trans hI7⟩
        · show yy - (i + 1) < yy - i; omega
    · refine g_iconst (v := (-1)) X dX2_years_21 rfl ?_
      exact g_iret X hr dX2_years_22 (Nat.le_of_ble_eq_true rfl) (Nat.le_of_ble_eq_true rfl) (⟨by rw [if_neg (fun z => c18 z.2)], by rw [if_neg (fun z => c18 z.2)], hco, he, FrM.rf hco.2.2.1, rfl, rfl⟩)
