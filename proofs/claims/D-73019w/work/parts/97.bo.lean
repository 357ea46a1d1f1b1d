/-! DOINGS of the model -/
def dgA (o : Nat → Int32) (n : Nat) (g : Nat → Int32) (W : Option mnB) (s : Nat) (a b c : Int32) (A : Nat → Int32) : Bool × (Nat → Int32) :=
  if s = 2 then (if (1 ≤ a ∧ a ≤ 9) ∧ ix (A 0) ≠ 5 then (true, upd (upd A (27 + ix (A 0)) a) 0 (nI (ix (A 0)) + 1)) else (false, A))
  else if s = 3 then (if (0 ≤ b ∧ b ≤ 4) ∧ 0 ≤ a ∧ a ≤ 20 then (true, upd A (32 + ix b) a) else (false, A))
  else if s = 4 then (if (0 ≤ c ∧ c ≤ 4) ∧ (0 ≤ b ∧ b ≤ 4) ∧ 0 ≤ a ∧ a ≤ 20 then (true, upd A (37 + 5 * ix c + ix b) a) else (false, A))
  else if s = 5 then (if saP n g A a then (true, syA A (ix (A 3)) a) else (false, A))
  else if s = 6 then (if reP n A a then (true, rtA A (ix (A 3)) a) else (false, A))
  else if s = 7 then (if paP n A a then (true, pdA2 A (ix (A 3)) a) else (false, A))
  else if s = 8 then ((arA o n (ix (A 0)) g W (ix a) (A, 0)).1, (arA o n (ix (A 0)) g W (ix a) (A, 0)).2.1)
  else (true, A)
/-- what a row of the model must be between doings -/
def dkA (A : Nat → Int32) : Prop := rwM A ∧ (∃ nf, nf ≤ 5 ∧ A 0 = nI nf) ∧ ∃ ns, ns ≤ 30 ∧ A 3 = nI ns
theorem rwM.sm {A : Nat → Int32} {k : Nat} {x : Int32} (h : rwM A) (hk : 27 ≤ k ∧ k < 62) (hx : -9999 ≤ x.toInt ∧ x.toInt ≤ 9999) : rwM (upd A k x) := by
  obtain ⟨⟨⟨v, hv2, hv⟩, ⟨nb, hb2, hb⟩, hsm⟩, sp, hsp, e⟩ := h
  refine ⟨⟨⟨v, hv2, by rw [upd_n (by omega)]; exact hv⟩, ⟨nb, hb2, by rw [upd_n (by omega)]; exact hb⟩, fun i hi => ?_⟩, sp, hsp, by rw [upd_n (by omega)]; exact e⟩
  by_cases z : i = k
  · rw [z, upd_s]
    exact hx
  · rw [upd_n z]
    exact hsm i hi
theorem rwM.lo {A : Nat → Int32} {k : Nat} {x : Int32} (h : rwM A) (hk : k < 5) : rwM (upd A k x) := by
  obtain ⟨⟨⟨v, hv2, hv⟩, ⟨nb, hb2, hb⟩, hsm⟩, sp, hsp, e⟩ := h
  exact ⟨⟨⟨v, hv2, by rw [upd_n (by omega)]; exact hv⟩, ⟨nb, hb2, by rw [upd_n (by omega)]; exact hb⟩, fun i hi => by rw [upd_n (by omega)]; exact hsm i hi⟩, sp, hsp, by rw [upd_n (by omega)]; exact e⟩
theorem sm_20 {a : Int32} (h1 : 0 ≤ a) (h2 : a ≤ 20) : -9999 ≤ a.toInt ∧ a.toInt ≤ 9999 := by
  have := Int32.le_iff_toInt_le.mp h1
  have := Int32.le_iff_toInt_le.mp h2
  simp at *
  omega
theorem dk_kp {A : Nat → Int32} {ns k : Nat} {x : Int32} (h : dkA A) (hns : ns ≤ 30) (hk : k = 7 ∨ (9 ≤ k ∧ k < 27)) : dkA (upd (kpM A ns) k x) ∧ upd (kpM A ns) k x 2 = A 2 := by
  obtain ⟨h1, ⟨nf, hf, e0⟩, -⟩ := h
  exact ⟨⟨(kpM_rw hns h1).up hk, ⟨nf, hf, by rw [upd_n (by omega), kpM_n hns (by omega)]; exact e0⟩, kpN ns, kpN_le hns, by rw [upd_n (by omega)]; exact kpM_3⟩, by rw [upd_n (by omega), kpM_n hns (by omega)]⟩
theorem dg_ok {o : Nat → Int32} {n : Nat} {g : Nat → Int32} {W : Option mnB} {s : Nat} {a b c : Int32} {A : Nat → Int32} (hn : n ≤ 8) (hs : s ≠ 8) (h : dkA A) : dkA (dgA o n g W s a b c A).2 ∧ (dgA o n g W s a b c A).2 2 = A 2 := by
  have h' := h
  obtain ⟨h1, ⟨nf, hf, e0⟩, ns, hns, e3⟩ := h
  have i0 : ix (A 0) = nf := by rw [e0, ix_n (by omega)]
  have i3 : ix (A 3) = ns := by rw [e3, ix_n (by omega)]
  unfold dgA
  rw [i0, i3]
  split
  · split
    · rename_i z
      exact ⟨⟨(h1.sm (by omega) (sm_20 (Int32.le_trans (by decide) z.1.1) (Int32.le_trans z.1.2 (by decide)))).lo (by decide), ⟨nf + 1, by have := z.2; omega, by dsimp only; rw [upd_s, nI_1]⟩, ns, hns, by dsimp only; rw [upd_n (by decide), upd_n (by omega)]; exact e3⟩, by dsimp only; rw [upd_n (by decide), upd_n (by omega)]⟩
    · exact ⟨h', rfl⟩
  split
  · split
    · rename_i z
      have hb : ix b ≤ 4 := ix_le 4 (by decide) z.1.1 z.1.2
      exact ⟨⟨h1.sm (by omega) (sm_20 z.2.1 z.2.2), ⟨nf, hf, by dsimp only; rw [upd_n (by omega)]; exact e0⟩, ns, hns, by dsimp only; rw [upd_n (by omega)]; exact e3⟩, by dsimp only; rw [upd_n (by omega)]⟩
    · exact ⟨h', rfl⟩
  split
  · split
    · rename_i z
      have hb : ix b ≤ 4 := ix_le 4 (by decide) z.2.1.1 z.2.1.2
      have hc : ix c ≤ 4 := ix_le 4 (by decide) z.1.1 z.1.2
      exact ⟨⟨h1.sm (by omega) (sm_20 z.2.2.1 z.2.2.2), ⟨nf, hf, by dsimp only; rw [upd_n (by omega)]; exact e0⟩, ns, hns, by dsimp only; rw [upd_n (by omega)]; exact e3⟩, by dsimp only; rw [upd_n (by omega)]⟩
    · exact ⟨h', rfl⟩
  split
  · split
    · exact dk_kp h' hns (by omega)
    · exact ⟨h', rfl⟩
  split
  · split
    · exact dk_kp h' hns (by omega)
    · exact ⟨h', rfl⟩
  split
  · split
    · rename_i z
      obtain ⟨cc, hcc, e⟩ := cl_ix hn z.1
      have hi : ix a < 8 := by rw [e, ix_n (by omega)]; omega
      exact dk_kp h' hns (by omega)
    · exact ⟨h', rfl⟩
  exact ⟨h', rfl⟩
theorem dg_st {S : gk_S} {n nf : Nat} {g A' : Nat → Int32} {W : Option mnB} (he : EnM S n nf g W) (hco : coM S) (hd : dkA A') (h2 : A' 2 = S.1 400 2) : (∃ nf', EnM (gk_si S 400 A') n nf' g W) ∧ coM (gk_si S 400 A') ∧ FrM S (gk_si S 400 A') := by
  obtain ⟨h1, ⟨nf', hf, e0⟩, ns, hns, e3⟩ := hd
  refine ⟨⟨nf', MU_a he.1 (by rw [si_s]; exact h2) (by rw [si_n (by decide)]), by rw [si_s]; exact e0, hf, ?_, he.2.2.2.2⟩, ⟨by rw [si_s]; exact h1, ⟨ns, hns, by rw [si_s]; exact e3⟩, hco.2.2⟩, FrM.a hco.2.2.1⟩
  rw [si_s, si_n (by decide), h2]
  exact he.2.2.2.1
theorem dg_if {S : gk_S} {P : Prop} [Decidable P] {A' : Nat → Int32} {q : Bool × (Nat → Int32)} (h : q = if P then (true, A') else (false, S.1 400)) : (if P then gk_si S 400 A' else S) = gk_si S 400 q.2 ∧ bP P = bP (q.1 = true) := by
  rw [h]
  by_cases c : P
  · rw [if_pos c, if_pos c]
    exact ⟨rfl, bP_iff (by simp [c])⟩
  · rw [if_neg c, if_neg c]
    exact ⟨si_id.symm, bP_iff (by simp [c])⟩
theorem dg_2 {o : Nat → Int32} {n : Nat} {g : Nat → Int32} {W : Option mnB} {a b c : Int32} {A : Nat → Int32} {nf : Nat} (h : ix (A 0) = nf) : dgA o n g W 2 a b c A = if (1 ≤ a ∧ a ≤ 9) ∧ nf ≠ 5 then (true, upd (upd A (27 + nf) a) 0 (nI nf + 1)) else (false, A) := by subst h; rfl
theorem dg_3 {o : Nat → Int32} {n : Nat} {g : Nat → Int32} {W : Option mnB} {a b c : Int32} {A : Nat → Int32} : dgA o n g W 3 a b c A = if (0 ≤ b ∧ b ≤ 4) ∧ 0 ≤ a ∧ a ≤ 20 then (true, upd A (32 + ix b) a) else (false, A) := rfl
theorem dg_4 {o : Nat → Int32} {n : Nat} {g : Nat → Int32} {W : Option mnB} {a b c : Int32} {A : Nat → Int32} : dgA o n g W 4 a b c A = if (0 ≤ c ∧ c ≤ 4) ∧ (0 ≤ b ∧ b ≤ 4) ∧ 0 ≤ a ∧ a ≤ 20 then (true, upd A (37 + 5 * ix c + ix b) a) else (false, A) := rfl
theorem dg_5 {o : Nat → Int32} {n : Nat} {g : Nat → Int32} {W : Option mnB} {a b c : Int32} {A : Nat → Int32} {ns : Nat} (h : ix (A 3) = ns) : dgA o n g W 5 a b c A = if saP n g A a then (true, syA A ns a) else (false, A) := by subst h; rfl
theorem dg_6 {o : Nat → Int32} {n : Nat} {g : Nat → Int32} {W : Option mnB} {a b c : Int32} {A : Nat → Int32} {ns : Nat} (h : ix (A 3) = ns) : dgA o n g W 6 a b c A = if reP n A a then (true, rtA A ns a) else (false, A) := by subst h; rfl
theorem dg_7 {o : Nat → Int32} {n : Nat} {g : Nat → Int32} {W : Option mnB} {a b c : Int32} {A : Nat → Int32} {ns : Nat} (h : ix (A 3) = ns) : dgA o n g W 7 a b c A = if paP n A a then (true, pdA2 A ns a) else (false, A) := by subst h; rfl
theorem dg_8 {o : Nat → Int32} {n : Nat} {g : Nat → Int32} {W : Option mnB} {a b c : Int32} {A : Nat → Int32} {nf m : Nat} (h : ix (A 0) = nf) (hm : ix a = m) : dgA o n g W 8 a b c A = ((arA o n nf g W m (A, 0)).1, (arA o n nf g W m (A, 0)).2.1) := by subst h; subst hm; rfl
theorem dg_9 {o : Nat → Int32} {n : Nat} {g : Nat → Int32} {W : Option mnB} {a b c : Int32} {A : Nat → Int32} {s : Nat} (h : s < 2) : dgA o n g W s a b c A = (true, A) := by
  unfold dgA
  rw [if_neg (by omega), if_neg (by omega), if_neg (by omega), if_neg (by omega), if_neg (by omega), if_neg (by omega), if_neg (by omega)]
set_option maxHeartbeats 1000000 in
theorem k_X2_isPlayed {l : Launch} {E : gk_E} (ho : E.2.2.2.2 = true) {S : gk_S} {x : Int32} {n nf xb s : Nat} {g o : Nat → Int32} {W : Option mnB} {a b c : Int32} (hx : x = nI xb) (hxb : xb + 3 < 2856) (hs : S.1 402 xb = nI s) (hs9 : s < 9) (ha : S.1 402 (xb + 1) = a) (hb : (s = 3 ∨ s = 4) → S.1 402 (xb + 2) = b) (hc : s = 4 → S.1 402 (xb + 3) = c) (h8 : s = 8 → ∃ m, m ≤ 100 ∧ a = nI m) (he : EnM S n nf g W) (hco : coM S) (hoff : offM (S.1 405) o) : gk_T l E yX2_isPlayed cX2_isPlayed 3 ((some .boolean)) 7 167 0 0 [.ref (E.2.2.1 3), .int x] S (fun r S' => r = some (.int (bP ((dgA o n g W s a b c (S.1 400)).1 = true))) ∧ S'.1 400 = (dgA o n g W s a b c (S.1 400)).2 ∧ (∃ nf', EnM S' n nf' g W) ∧ coM S' ∧ FrM S S') := by
  obtain ⟨ns, hns, hns2⟩ := hco.2.1
  have hdk : dkA (S.1 400) := ⟨hco.1, ⟨nf, he.2.2.1, he.2.1⟩, ns, hns, hns2⟩
  have hnf5 := he.2.2.1
  have i0 : ix (S.1 400 0) = nf := by rw [he.2.1, ix_n (by omega)]
  have i3 : ix (S.1 400 3) = ns := by rw [hns2, ix_n (by omega)]
  refine gk_T.of [some (.ref (E.2.2.1 3)), some (.int x), none] (by decide) (Nat.le_of_ble_eq_true rfl) (le_1 rfl (le_1 rfl (le_p le_n))) ?_
  intro p_ e_ R_ s_ m_ args_ below_ meth_ c_ hR X hr hin
  subst hR
  refine g_aload_n X dX2_isPlayed_0 rfl ?_
  refine g_get (C := RX2) (T := TX2) (N := 35) X 2 in_X2 dX2_isPlayed_1 q1407 (rd3 ho) rfl (Nat.le_of_ble_eq_true rfl) (fun _ h9 => h9) rfl ?_
  refine g_iload_n X dX2_isPlayed_4 rfl ?_
  refine g_iconst (v := 1) X dX2_isPlayed_5 rfl ?_
  refine g_iadd X dX2_isPlayed_6 ?_
  refine g_iald (j := xb + 1) X dX2_isPlayed_7 (rdi ho (402) (rfl)) (by rw [hx]; exact nI_1 _) (by omega) (by decide) ?_
  refine g_top (y := a) ha ?_
  refine g_istore_n X dX2_isPlayed_8 (Nat.le_of_ble_eq_true rfl) ?_
  refine g_aload_n X dX2_isPlayed_9 rfl ?_
  refine g_get (C := RX2) (T := TX2) (N := 35) X 2 in_X2 dX2_isPlayed_10 q1407 (rd3 ho) rfl (Nat.le_of_ble_eq_true rfl) (fun _ h9 => h9) rfl ?_
  refine g_iload_n X dX2_isPlayed_13 rfl ?_
  refine g_iald (j := xb) X dX2_isPlayed_14 (rdi ho (402) (rfl)) hx (by omega) (by decide) ?_
  refine g_top (y := nI s) hs ?_
  rcases Decidable.em ((nI s).toInt < 2 ∨ 8 < (nI s).toInt) with h15 | h15
  · refine g_tableOut (tgt := 130) X dX2_isPlayed_15 h15 rfl ?_
    have hs2 : s < 2 := by
      rw [nI_toInt (by omega)] at h15
      omega
    have hd9 := dg_9 (o := o) (n := n) (g := g) (W := W) (a := a) (b := b) (c := c) (A := S.1 400) hs2
    refine g_iconst (v := 1) X dX2_isPlayed_130 rfl ?_
    refine g_zret X hr dX2_isPlayed_131 ?_ (Nat.le_of_ble_eq_true rfl) (Nat.le_of_ble_eq_true rfl) ?_
    · first | rfl | exact nb_bP
    · exact ⟨by rw [hd9]; rfl, by rw [hd9], ⟨nf, he⟩, hco, FrM.rf hco.2.2.1⟩
  · rcases (show (nI s).toInt = 2 ∨ (nI s).toInt = 3 ∨ (nI s).toInt = 4 ∨ (nI s).toInt = 5 ∨ (nI s).toInt = 6 ∨ (nI s).toInt = 7 ∨ (nI s).toInt = 8 from by omega) with s15 | s15 | s15 | s15 | s15 | s15 | s15
    · have s15 : nI s = 2 := Int32.toInt_inj.mp (s15.trans (by decide))
      refine g_tableIn (off := 41) (tgt := 56) X dX2_isPlayed_15 (by rw [s15]; decide) (by rw [s15]; decide) (by rw [s15]; rfl) rfl ?_
      have hs2 : s = 2 := (nI_eq (a := s) (b := 2) (by omega) (by decide)).mp s15
      subst hs2
      refine g_aload_n X dX2_isPlayed_56 rfl ?_
      refine g_iload_n X dX2_isPlayed_57 rfl ?_
      refine g_callV (C := RX2) (T := TX2) (N := 35) X (k_X2_farmer ho he.2.1 he.2.2.1) (lw_V q1853 q1513 q1514 q139 q1515) hd_X2_farmer dX2_isPlayed_58 (rd3 ho) rfl rfl ⟨Nat.le_of_ble_eq_true rfl, Nat.le_of_ble_eq_true rfl⟩ ⟨Nat.le_of_ble_eq_true rfl, Nat.le_of_ble_eq_true rfl⟩ (Nat.le_of_ble_eq_true rfl) ?_
      rintro _ S1 ⟨rfl, hS1⟩
      obtain rfl := hS1.symm
      have hdq := dg_if (S := S) (q := (dgA o n g W 2 a b c (S.1 400))) (dg_2 i0)
      refine g_eq (S2 := gk_si S 400 (dgA o n g W 2 a b c (S.1 400)).2) hdq.1 ?_
      obtain ⟨hd1, hd2⟩ := dg_ok (o := o) (g := g) (W := W) (s := 2) (a := a) (b := b) (c := c) he.1.1 (by decide) hdk
      refine g_if_lt (tgt := 68) X dX2_isPlayed_61 rfl (fun c61 => ?_) (fun c61 => ?_)
      · refine g_iconst (v := 0) X dX2_isPlayed_68 rfl ?_
        refine g_zret X hr dX2_isPlayed_69 ?_ (Nat.le_of_ble_eq_true rfl) (Nat.le_of_ble_eq_true rfl) ?_
        · first | rfl | exact nb_bP
        · exact ⟨by rw [← hdq.2]; exact lb_0 (fun z => by rw [if_pos z] at c61; exact nI_pos (by omega) c61), by rw [si_s], dg_st he hco hd1 hd2⟩
      · refine g_iconst (v := 1) X dX2_isPlayed_64 rfl ?_
        refine g_goto (tgt := 69) X dX2_isPlayed_65 rfl ?_
        refine g_zret X hr dX2_isPlayed_69 ?_ (Nat.le_of_ble_eq_true rfl) (Nat.le_of_ble_eq_true rfl) ?_
        · first | rfl | exact nb_bP
        · exact ⟨by rw [← hdq.2]; exact lb_1 (Decidable.byContradiction (fun z => c61 (by rw [if_neg z]; decide))), by rw [si_s], dg_st he hco hd1 hd2⟩
    · have s15 : nI s = 3 := Int32.toInt_inj.mp (s15.trans (by decide))
      refine g_tableIn (off := 55) (tgt := 70) X dX2_isPlayed_15 (by rw [s15]; decide) (by rw [s15]; decide) (by rw [s15]; rfl) rfl ?_
      have hs3 : s = 3 := (nI_eq (a := s) (b := 3) (by omega) (by decide)).mp s15
      subst hs3
      refine g_aload_n X dX2_isPlayed_70 rfl ?_
      refine g_aload_n X dX2_isPlayed_71 rfl ?_
      refine g_get (C := RX2) (T := TX2) (N := 35) X 2 in_X2 dX2_isPlayed_72 q1407 (rd3 ho) rfl (Nat.le_of_ble_eq_true rfl) (fun _ h9 => h9) rfl ?_
      refine g_iload_n X dX2_isPlayed_75 rfl ?_
      refine g_iconst (v := 2) X dX2_isPlayed_76 rfl ?_
      refine g_iadd X dX2_isPlayed_77 ?_
      refine g_iald (j := xb + 2) X dX2_isPlayed_78 (rdi ho (402) (rfl)) (by rw [hx]; exact nI_add _ 2) (by omega) (by decide) ?_
      refine g_top (y := b) (hb (Or.inl rfl)) ?_
      refine g_iload_n X dX2_isPlayed_79 rfl ?_
      refine g_callV (C := RX2) (T := TX2) (N := 35) X (k_X2_soil ho) (lw_V q1854 q1520 q1521 q139 q1522) hd_X2_soil dX2_isPlayed_80 (rd3 ho) rfl rfl ⟨Nat.le_of_ble_eq_true rfl, Nat.le_of_ble_eq_true rfl⟩ ⟨Nat.le_of_ble_eq_true rfl, Nat.le_of_ble_eq_true rfl⟩ (Nat.le_of_ble_eq_true rfl) ?_
      rintro _ S1 ⟨rfl, hS1⟩
      obtain rfl := hS1.symm
      have hdq := dg_if (S := S) (q := (dgA o n g W 3 a b c (S.1 400))) dg_3
      refine g_top (y := bP ((dgA o n g W 3 a b c (S.1 400)).1 = true)) hdq.2 ?_
      refine g_eq (S2 := gk_si S 400 (dgA o n g W 3 a b c (S.1 400)).2) hdq.1 ?_
      obtain ⟨hd1, hd2⟩ := dg_ok (o := o) (g := g) (W := W) (s := 3) (a := a) (b := b) (c := c) he.1.1 (by decide) hdk
      refine g_zret X hr dX2_isPlayed_83 ?_ (Nat.le_of_ble_eq_true rfl) (Nat.le_of_ble_eq_true rfl) ?_
      · exact nb_bP
      · exact ⟨rfl, by rw [si_s], dg_st he hco hd1 hd2⟩
    · have s15 : nI s = 4 := Int32.toInt_inj.mp (s15.trans (by decide))
      refine g_tableIn (off := 69) (tgt := 84) X dX2_isPlayed_15 (by rw [s15]; decide) (by rw [s15]; decide) (by rw [s15]; rfl) rfl ?_
      have hs4 : s = 4 := (nI_eq (a := s) (b := 4) (by omega) (by decide)).mp s15
      subst hs4
      refine g_aload_n X dX2_isPlayed_84 rfl ?_
      refine g_aload_n X dX2_isPlayed_85 rfl ?_
      refine g_get (C := RX2) (T := TX2) (N := 35) X 2 in_X2 dX2_isPlayed_86 q1407 (rd3 ho) rfl (Nat.le_of_ble_eq_true rfl) (fun _ h9 => h9) rfl ?_
      refine g_iload_n X dX2_isPlayed_89 rfl ?_
      refine g_iconst (v := 3) X dX2_isPlayed_90 rfl ?_
      refine g_iadd X dX2_isPlayed_91 ?_
      refine g_iald (j := xb + 3) X dX2_isPlayed_92 (rdi ho (402) (rfl)) (by rw [hx]; exact nI_add _ 3) (by omega) (by decide) ?_
      refine g_top (y := c) (hc rfl) ?_
      refine g_aload_n X dX2_isPlayed_93 rfl ?_
      refine g_get (C := RX2) (T := TX2) (N := 35) X 2 in_X2 dX2_isPlayed_94 q1407 (rd3 ho) rfl (Nat.le_of_ble_eq_true rfl) (fun _ h9 => h9) rfl ?_
      refine g_iload_n X dX2_isPlayed_97 rfl ?_
      refine g_iconst (v := 2) X dX2_isPlayed_98 rfl ?_
      refine g_iadd X dX2_isPlayed_99 ?_
      refine g_iald (j := xb + 2) X dX2_isPlayed_100 (rdi ho (402) (rfl)) (by rw [hx]; exact nI_add _ 2) (by omega) (by decide) ?_
      refine g_top (y := b) (hb (Or.inr rfl)) ?_
      refine g_iload_n X dX2_isPlayed_101 rfl ?_
      refine g_callV (C := RX2) (T := TX2) (N := 35) X (k_X2_wants ho) (lw_V q1855 q1527 q1528 q139 q1529) hd_X2_wants dX2_isPlayed_102 (rd3 ho) rfl rfl ⟨Nat.le_of_ble_eq_true rfl, Nat.le_of_ble_eq_true rfl⟩ ⟨Nat.le_of_ble_eq_true rfl, Nat.le_of_ble_eq_true rfl⟩ (Nat.le_of_ble_eq_true rfl) ?_
      rintro _ S1 ⟨rfl, hS1⟩
      obtain rfl := hS1.symm
      have hdq := dg_if (S := S) (q := (dgA o n g W 4 a b c (S.1 400))) dg_4
      refine g_top (y := bP ((dgA o n g W 4 a b c (S.1 400)).1 = true)) hdq.2 ?_
      refine g_eq (S2 := gk_si S 400 (dgA o n g W 4 a b c (S.1 400)).2) hdq.1 ?_
      obtain ⟨hd1, hd2⟩ := dg_ok (o := o) (g := g) (W := W) (s := 4) (a := a) (b := b) (c := c) he.1.1 (by decide) hdk
      refine g_zret X hr dX2_isPlayed_105 ?_ (Nat.le_of_ble_eq_true rfl) (Nat.le_of_ble_eq_true rfl) ?_
      · exact nb_bP
      · exact ⟨rfl, by rw [si_s], dg_st he hco hd1 hd2⟩
    · have s15 : nI s = 5 := Int32.toInt_inj.mp (s15.trans (by decide))
      refine g_tableIn (off := 91) (tgt := 106) X dX2_isPlayed_15 (by rw [s15]; decide) (by rw [s15]; decide) (by rw [s15]; rfl) rfl ?_
      have hs5 : s = 5 := (nI_eq (a := s) (b := 5) (by omega) (by decide)).mp s15
      subst hs5
      refine g_aload_n X dX2_isPlayed_106 rfl ?_
      refine g_iload_n X dX2_isPlayed_107 rfl ?_
      refine g_callV (C := RX2) (T := TX2) (N := 35) X (k_X2_say ho he.1 hns2 hns) (lw_V q1856 q1744 q1745 q139 q1746) hd_X2_say dX2_isPlayed_108 (rd3 ho) rfl rfl ⟨Nat.le_of_ble_eq_true rfl, Nat.le_of_ble_eq_true rfl⟩ ⟨Nat.le_of_ble_eq_true rfl, Nat.le_of_ble_eq_true rfl⟩ (Nat.le_of_ble_eq_true rfl) ?_
      rintro _ S1 ⟨rfl, hS1⟩
      obtain rfl := hS1.symm
      have hdq := dg_if (S := S) (q := (dgA o n g W 5 a b c (S.1 400))) (dg_5 i3)
      refine g_top (y := bP ((dgA o n g W 5 a b c (S.1 400)).1 = true)) hdq.2 ?_
      refine g_eq (S2 := gk_si S 400 (dgA o n g W 5 a b c (S.1 400)).2) hdq.1 ?_
      obtain ⟨hd1, hd2⟩ := dg_ok (o := o) (g := g) (W := W) (s := 5) (a := a) (b := b) (c := c) he.1.1 (by decide) hdk
      refine g_zret X hr dX2_isPlayed_111 ?_ (Nat.le_of_ble_eq_true rfl) (Nat.le_of_ble_eq_true rfl) ?_
      · first | rfl | exact nb_bP
      · exact ⟨rfl, by rw [si_s], dg_st he hco hd1 hd2⟩
    · have s15 : nI s = 6 := Int32.toInt_inj.mp (s15.trans (by decide))
      refine g_tableIn (off := 97) (tgt := 112) X dX2_isPlayed_15 (by rw [s15]; decide) (by rw [s15]; decide) (by rw [s15]; rfl) rfl ?_
      have hs6 : s = 6 := (nI_eq (a := s) (b := 6) (by omega) (by decide)).mp s15
      subst hs6
      refine g_aload_n X dX2_isPlayed_112 rfl ?_
      refine g_iload_n X dX2_isPlayed_113 rfl ?_
      refine g_callV (C := RX2) (T := TX2) (N := 35) X (k_X2_retract ho he.1 hns2 hns) (lw_V q1857 q1777 q1778 q139 q1779) hd_X2_retract dX2_isPlayed_114 (rd3 ho) rfl rfl ⟨Nat.le_of_ble_eq_true rfl, Nat.le_of_ble_eq_true rfl⟩ ⟨Nat.le_of_ble_eq_true rfl, Nat.le_of_ble_eq_true rfl⟩ (Nat.le_of_ble_eq_true rfl) ?_
      rintro _ S1 ⟨rfl, hS1⟩
      obtain rfl := hS1.symm
      have hdq := dg_if (S := S) (q := (dgA o n g W 6 a b c (S.1 400))) (dg_6 i3)
      refine g_top (y := bP ((dgA o n g W 6 a b c (S.1 400)).1 = true)) hdq.2 ?_
      refine g_eq (S2 := gk_si S 400 (dgA o n g W 6 a b c (S.1 400)).2) hdq.1 ?_
      obtain ⟨hd1, hd2⟩ := dg_ok (o := o) (g := g) (W := W) (s := 6) (a := a) (b := b) (c := c) he.1.1 (by decide) hdk
      refine g_zret X hr dX2_isPlayed_117 ?_ (Nat.le_of_ble_eq_true rfl) (Nat.le_of_ble_eq_true rfl) ?_
      · first | rfl | exact nb_bP
      · exact ⟨rfl, by rw [si_s], dg_st he hco hd1 hd2⟩
    · have s15 : nI s = 7 := Int32.toInt_inj.mp (s15.trans (by decide))
      refine g_tableIn (off := 103) (tgt := 118) X dX2_isPlayed_15 (by rw [s15]; decide) (by rw [s15]; decide) (by rw [s15]; rfl) rfl ?_
      have hs7 : s = 7 := (nI_eq (a := s) (b := 7) (by omega) (by decide)).mp s15
      subst hs7
      refine g_aload_n X dX2_isPlayed_118 rfl ?_
      refine g_iload_n X dX2_isPlayed_119 rfl ?_
      refine g_callV (C := RX2) (T := TX2) (N := 35) X (k_X2_pardon ho he.1 hns2 hns) (lw_V q1858 q1785 q1786 q139 q1787) hd_X2_pardon dX2_isPlayed_120 (rd3 ho) rfl rfl ⟨Nat.le_of_ble_eq_true rfl, Nat.le_of_ble_eq_true rfl⟩ ⟨Nat.le_of_ble_eq_true rfl, Nat.le_of_ble_eq_true rfl⟩ (Nat.le_of_ble_eq_true rfl) ?_
      rintro _ S1 ⟨rfl, hS1⟩
      obtain rfl := hS1.symm
      have hdq := dg_if (S := S) (q := (dgA o n g W 7 a b c (S.1 400))) (dg_7 i3)
      refine g_top (y := bP ((dgA o n g W 7 a b c (S.1 400)).1 = true)) hdq.2 ?_
      refine g_eq (S2 := gk_si S 400 (dgA o n g W 7 a b c (S.1 400)).2) hdq.1 ?_
      obtain ⟨hd1, hd2⟩ := dg_ok (o := o) (g := g) (W := W) (s := 7) (a := a) (b := b) (c := c) he.1.1 (by decide) hdk
      refine g_zret X hr dX2_isPlayed_123 ?_ (Nat.le_of_ble_eq_true rfl) (Nat.le_of_ble_eq_true rfl) ?_
      · first | rfl | exact nb_bP
      · exact ⟨rfl, by rw [si_s], dg_st he hco hd1 hd2⟩
    · have s15 : nI s = 8 := Int32.toInt_inj.mp (s15.trans (by decide))
      refine g_tableIn (off := 109) (tgt := 124) X dX2_isPlayed_15 (by rw [s15]; decide) (by rw [s15]; decide) (by rw [s15]; rfl) rfl ?_
      have hs8 : s = 8 := (nI_eq (a := s) (b := 8) (by omega) (by decide)).mp s15
      subst hs8
      obtain ⟨m, hm, ham⟩ := h8 rfl
      have him : ix a = m := by rw [ham, ix_n (by omega)]
      refine g_aload_n X dX2_isPlayed_124 rfl ?_
      refine g_iload_n X dX2_isPlayed_125 rfl ?_
      refine g_callV (C := RX2) (T := TX2) (N := 35) X (k_X2_arePassed ho ham hm he hco hoff) (lw_V q1796 q1798 qs104 q139 q1799) hd_X2_arePassed dX2_isPlayed_126 (rd3 ho) rfl rfl ⟨Nat.le_of_ble_eq_true rfl, Nat.le_of_ble_eq_true rfl⟩ ⟨Nat.le_of_ble_eq_true rfl, Nat.le_of_ble_eq_true rfl⟩ (Nat.le_of_ble_eq_true rfl) ?_
      rintro _ S2 ⟨rfl, hA2, hU2, hC2, hE2, hF2, hG2⟩
      refine g_zret X hr dX2_isPlayed_129 ?_ (Nat.le_of_ble_eq_true rfl) (Nat.le_of_ble_eq_true rfl) ?_
      · first | rfl | exact nb_bP
      · exact ⟨by rw [dg_8 i0 him], by rw [dg_8 i0 him]; exact hA2, ⟨nf, hE2⟩, hC2, hF2⟩
