theorem stA_ok {o : Nat → Int32} {n nf : Nat} {g : Nat → Int32} {W : Option mnB} {q : (Nat → Int32) × Int32} {ns : Nat} (hn : n ≤ 8) (hf : nf ≤ 5) (h : rwM q.1) (hns : ns ≤ 30) (h3 : q.1 3 = nI ns) (h5 : ¬ q.1 5 = 9999) : rwM (stA o n nf g W q).1 ∧ (stA o n nf g W q).1 5 = q.1 5 + 1 ∧ (stA o n nf g W q).1 3 = nI (kpN ns) := by
  unfold stA
  dsimp only
  rw [h3, ix_n (by omega)]
  have hr := kpM_rw hns h
  have e5 : kpM q.1 ns 5 = q.1 5 := kpM_n hns (by omega)
  obtain ⟨k1, k2, -, -⟩ := pmA_ok (wr := true) (o := o) (g := g) (W := W) hn hf hr
  exact ⟨pmA_rw hn hf hr (by rw [e5]; exact h5), by rw [k2, e5], by rw [k1 3 (by omega)]; exact kpM_3⟩
theorem arA_tr {o : Nat → Int32} {n nf : Nat} {g : Nat → Int32} {W : Option mnB} (hn : n ≤ 8) (hf : nf ≤ 5) : ∀ {m sp ns : Nat} {q : (Nat → Int32) × Int32}, rwM q.1 → ns ≤ 30 → q.1 3 = nI ns → q.1 5 = nI sp → sp + m ≤ 9999 → (arA o n nf g W m q).1 = true
  | 0, _, _, _, _, _, _, _, _ => rfl
  | m + 1, sp, ns, q, h, hns, h3, h5, hs => by
    have hne : ¬ q.1 5 = 9999 := by
      rw [h5]
      intro z
      have := (nI_eq (a := sp) (b := 9999) (by omega) (by decide)).mp z
      omega
    rw [arA_f (m := m + 1) (by omega) hne]
    obtain ⟨k1, k2, k3⟩ := stA_ok (o := o) (n := n) (nf := nf) (g := g) (W := W) hn hf h hns h3 hne
    exact arA_tr hn hf k1 (kpN_le hns) k3 (by rw [k2, h5, nI_1]) (by omega)
abbrev spP (A : Nat → Int32) (x : Int32) : Prop := (1 ≤ x ∧ x ≤ 60) ∧ A 5 + x ≤ 9999
set_option maxHeartbeats 600000 in
theorem k_X2_spring {l : Launch} {E : gk_E} (ho : E.2.2.2.2 = true) {S : gk_S} {x : Int32} {n nf : Nat} {g o : Nat → Int32} {W : Option mnB} (he : EnM S n nf g W) (hco : coM S) (hoff : offM (S.1 405) o) : gk_T l E yX2_spring cX2_spring 2 ((some .int)) 7 167 0 0 [.ref (E.2.2.1 3), .int x] S (fun r S' => r = some (.int (if spP (S.1 400) x then (arA o n nf g W (ix x) (S.1 400, 0)).2.2 else -1)) ∧ S'.1 400 = (if spP (S.1 400) x then (arA o n nf g W (ix x) (S.1 400, 0)).2.1 else S.1 400) ∧ coM S' ∧ EnM S' n nf g W ∧ FrM S S' ∧ (S'.1 400 0 = S.1 400 0 ∧ S'.1 400 2 = S.1 400 2)) := by
  refine gk_T.of [some (.ref (E.2.2.1 3)), some (.int x)] (by decide) (Nat.le_of_ble_eq_true rfl) (fun _ _ h => h) ?_
  intro p_ e_ R_ s_ m_ args_ below_ meth_ c_ hR X hr hin
  subst hR
  refine g_iload_n X dX2_spring_0 rfl ?_
  refine g_iconst (v := 1) X dX2_spring_1 rfl ?_
  refine g_bipush (v := 60) X dX2_spring_2 rfl ?_
  refine g_callS X (k_X2_isIn ho) (lw_S q1516 q1517 q139 q1518) hd_X2_isIn dX2_spring_4 rfl ⟨Nat.le_of_ble_eq_true rfl, Nat.le_of_ble_eq_true rfl⟩ ⟨Nat.le_of_ble_eq_true rfl, Nat.le_of_ble_eq_true rfl⟩ (Nat.le_of_ble_eq_true rfl) ?_
  rintro _ S1 ⟨rfl, hS1⟩
  obtain rfl := hS1.symm
  refine g_ifp_eq (tgt := 39) X dX2_spring_7 rfl (fun c7 => ?_) (fun c7 => ?_)
  · refine g_iconst (v := (-1)) X dX2_spring_39 rfl ?_
    exact g_iret X hr dX2_spring_40 (Nat.le_of_ble_eq_true rfl) (Nat.le_of_ble_eq_true rfl) (⟨by rw [if_neg (fun z => c7 z.1)], by rw [if_neg (fun z => c7 z.1)], hco, he, FrM.rf hco.2.2.1, rfl, rfl⟩)
  · refine g_aload_n X dX2_spring_10 rfl ?_
    refine g_get (C := RX2) (T := TX2) (N := 35) X 0 in_X2 dX2_spring_11 q1405 (rd3 ho) rfl (Nat.le_of_ble_eq_true rfl) (fun _ h9 => h9) rfl ?_
    refine g_iconst (v := 5) X dX2_spring_14 rfl ?_
    refine g_iald (j := 5) X dX2_spring_15 (rdi ho (400) (rfl)) rfl (by decide) (by decide) ?_
    refine g_iload_n X dX2_spring_16 rfl ?_
    refine g_iadd X dX2_spring_17 ?_
    refine g_sipush (v := 9999) X dX2_spring_18 rfl ?_
    refine g_icmp_gt (tgt := 39) X dX2_spring_21 rfl (fun c21 => ?_) (fun c21 => ?_)
    · refine g_iconst (v := (-1)) X dX2_spring_39 rfl ?_
      exact g_iret X hr dX2_spring_40 (Nat.le_of_ble_eq_true rfl) (Nat.le_of_ble_eq_true rfl) (⟨by rw [if_neg (fun z => Int32.lt_irrefl (Int32.lt_of_lt_of_le c21 z.2))], by rw [if_neg (fun z => Int32.lt_irrefl (Int32.lt_of_lt_of_le c21 z.2))], hco, he, FrM.rf hco.2.2.1, rfl, rfl⟩)
    · have hP : spP (S.1 400) x := ⟨c7, Int32.not_lt.mp c21⟩
      obtain ⟨w, hw, hxw⟩ := nI_of2 (M := 60) (n := 60) (by decide) (x := x) (fun z => Int32.lt_irrefl (a := x) (Int32.lt_of_lt_of_le z (Int32.le_trans (by decide) c7.1))) c7.2
      have hixx : ix x = w := by rw [hxw, ix_n (by omega)]
      refine g_aload_n X dX2_spring_24 rfl ?_
      refine g_iload_n X dX2_spring_25 rfl ?_
      refine g_callV (C := RX2) (T := TX2) (N := 35) X (k_X2_arePassed ho (n := n) (nf := nf) (g := g) (W := W) (o := o) hxw (by omega) he hco hoff) (lw_V q1796 q1798 qs104 q139 q1799) hd_X2_arePassed dX2_spring_26 (rd3 ho) rfl rfl ⟨Nat.le_of_ble_eq_true rfl, Nat.le_of_ble_eq_true rfl⟩ ⟨Nat.le_of_ble_eq_true rfl, Nat.le_of_ble_eq_true rfl⟩ (Nat.le_of_ble_eq_true rfl) ?_
      rintro _ S2 ⟨rfl, hA2, hU2, hC2, hE2, hF2, hG2⟩
      obtain ⟨sp, hsp, hsp2⟩ := hco.1.2
      obtain ⟨ns, hns, hns2⟩ := hco.2.1
      have hle : sp + w ≤ 9999 := by
        have z := hP.2
        rw [hsp2, hxw, nI_add] at z
        exact (nI_leI (a := sp + w) (b := 9999) (by omega) (by decide)).mp z
      have htr : (arA o n nf g W w (S.1 400, 0)).1 = true := arA_tr he.1.1 he.2.2.1 hco.1 hns hns2 hsp2 hle
      refine g_ifp_eq (tgt := 39) X dX2_spring_29 rfl (fun c29 => ?_) (fun c29 => ?_)
      · exact absurd htr c29
      · 
        refine g_aload_n X dX2_spring_32 rfl ?_
        refine g_get (C := RX2) (T := TX2) (N := 35) X 26 in_X2 dX2_spring_33 q1431 (rd3 ho) rfl (Nat.le_of_ble_eq_true rfl) (fun _ h9 => h9) rfl ?_
        refine g_goto (tgt := 40) X dX2_spring_36 rfl ?_
        exact g_iret X hr dX2_spring_40 (Nat.le_of_ble_eq_true rfl) (Nat.le_of_ble_eq_true rfl) (⟨by rw [if_pos hP, hixx, hU2], by rw [if_pos hP, hixx, hA2], hC2, hE2, hF2, hG2⟩)
def syA (A : Nat → Int32) (ns : Nat) (x : Int32) : Nat → Int32 := upd (kpM A ns) 7 (kpM A ns 7 ||| one x)
def rtA (A : Nat → Int32) (ns : Nat) (x : Int32) : Nat → Int32 := upd (kpM A ns) 7 (kpM A ns 7 &&& (one x ^^^ -1))
def pdA2 (A : Nat → Int32) (ns : Nat) (x : Int32) : Nat → Int32 := upd (kpM A ns) (9 + ix x) 0
abbrev saP (n : Nat) (g A : Nat → Int32) (x : Int32) : Prop := csP n g (A 7) (fun k => A (9 + k)) x
abbrev reP (n : Nat) (A : Nat → Int32) (x : Int32) : Prop := (0 ≤ x ∧ x ≤ nI n - 1) ∧ hs (A 7) x
abbrev paP (n : Nat) (A : Nat → Int32) (x : Int32) : Prop := (0 ≤ x ∧ x ≤ nI n - 1) ∧ ¬ A (9 + ix x) = 0
theorem cl_ix {n : Nat} {x : Int32} (hn : n ≤ 8) (h : 0 ≤ x ∧ x ≤ nI n - 1) : ∃ c, c < n ∧ x = nI c := by
  have h0 := ix_i h.1
  by_cases e : n = 0
  · subst e
    exfalso
    have h2 := Int32.le_trans h.1 h.2
    exact absurd h2 (by decide)
  · obtain ⟨m, rfl⟩ := Nat.exists_eq_succ_of_ne_zero e
    have h2 := h.2
    rw [nI_pred] at h2
    exact ⟨ix x, Nat.lt_succ_of_le (ix_le m (by omega) h.1 h2), h0⟩
set_option maxHeartbeats 600000 in
theorem k_X2_say {l : Launch} {E : gk_E} (ho : E.2.2.2.2 = true) {S : gk_S} {x : Int32} {n ns : Nat} {g : Nat → Int32} (hu : MU S n g) (h0 : S.1 400 3 = nI ns) (h1 : ns ≤ 30) : gk_T l E yX2_say cX2_say 2 ((some .boolean)) 4 81 0 0 [.ref (E.2.2.1 3), .int x] S (fun r S' => r = some (.int (bP (saP n g (S.1 400) x))) ∧ S' = if saP n g (S.1 400) x then gk_si S 400 (syA (S.1 400) ns x) else S) := by
  refine gk_T.of [some (.ref (E.2.2.1 3)), some (.int x)] (by decide) (Nat.le_of_ble_eq_true rfl) (fun _ _ h => h) ?_
  intro p_ e_ R_ s_ m_ args_ below_ meth_ c_ hR X hr hin
  subst hR
  refine g_aload_n X dX2_say_0 rfl ?_
  refine g_iload_n X dX2_say_1 rfl ?_
  refine g_callV (C := RX2) (T := TX2) (N := 35) X (k_X2_canSay ho hu) (lw_V q1747 q1749 qs95 q139 q1750) hd_X2_canSay dX2_say_2 (rd3 ho) rfl rfl ⟨Nat.le_of_ble_eq_true rfl, Nat.le_of_ble_eq_true rfl⟩ ⟨Nat.le_of_ble_eq_true rfl, Nat.le_of_ble_eq_true rfl⟩ (Nat.le_of_ble_eq_true rfl) ?_
  rintro _ S1 ⟨rfl, hS1⟩
  obtain rfl := hS1.symm
  refine g_ifp_ne (tgt := 10) X dX2_say_5 rfl (fun c5 => ?_) (fun c5 => ?_)
  · refine g_aload_n X dX2_say_10 rfl ?_
    refine g_callV (C := RX2) (T := TX2) (N := 35) X (k_X2_keep ho h0 h1) (lw_V q1772 q1774 qs101 q139 q1775) hd_X2_keep dX2_say_11 (rd3 ho) rfl rfl ⟨Nat.le_of_ble_eq_true rfl, Nat.le_of_ble_eq_true rfl⟩ ⟨Nat.le_of_ble_eq_true rfl, Nat.le_of_ble_eq_true rfl⟩ (Nat.le_of_ble_eq_true rfl) ?_
    rintro _ S1 ⟨rfl, hS1⟩
    obtain rfl := hS1.symm
    refine g_aload_n X dX2_say_14 rfl ?_
    refine g_get (C := RX2) (T := TX2) (N := 35) X 0 in_X2 dX2_say_15 q1405 (rd3 ho) rfl (Nat.le_of_ble_eq_true rfl) (fun _ h9 => h9) rfl ?_
    refine g_bipush (v := 7) X dX2_say_18 rfl ?_
    refine g_dup2_11 X dX2_say_20 rfl rfl ?_
    refine g_iald (j := 7) X dX2_say_21 (rdi ho (400) (rfl)) rfl (by decide) (by decide) ?_
    refine g_iconst (v := 1) X dX2_say_22 rfl ?_
    refine g_iload_n X dX2_say_23 rfl ?_
    refine g_ishl X dX2_say_24 ?_
    refine g_ior X dX2_say_25 ?_
    refine g_iast X ho (400) (j := 7) dX2_say_26 rfl (rfl) rfl (by decide) (by decide) ?_
    refine g_iconst (v := 1) X dX2_say_27 rfl ?_
    refine g_zret X hr dX2_say_28 ?_ (Nat.le_of_ble_eq_true rfl) (Nat.le_of_ble_eq_true rfl) ?_
    · first | rfl | exact nb_bP
    · exact ⟨lb_1 c5, by rw [if_pos c5, si_si, si_s]; rfl⟩
  · refine g_iconst (v := 0) X dX2_say_8 rfl ?_
    refine g_zret X hr dX2_say_9 ?_ (Nat.le_of_ble_eq_true rfl) (Nat.le_of_ble_eq_true rfl) ?_
    · first | rfl | exact nb_bP
    · exact ⟨lb_0 c5, by rw [if_neg c5]⟩
set_option maxHeartbeats 600000 in
theorem k_X2_retract {l : Launch} {E : gk_E} (ho : E.2.2.2.2 = true) {S : gk_S} {x : Int32} {n ns : Nat} {g : Nat → Int32} (hu : MU S n g) (h0 : S.1 400 3 = nI ns) (h1 : ns ≤ 30) : gk_T l E yX2_retract cX2_retract 2 ((some .boolean)) 3 64 0 0 [.ref (E.2.2.1 3), .int x] S (fun r S' => r = some (.int (bP (reP n (S.1 400) x))) ∧ S' = if reP n (S.1 400) x then gk_si S 400 (rtA (S.1 400) ns x) else S) := by
  refine gk_T.of [some (.ref (E.2.2.1 3)), some (.int x)] (by decide) (Nat.le_of_ble_eq_true rfl) (fun _ _ h => h) ?_
  intro p_ e_ R_ s_ m_ args_ below_ meth_ c_ hR X hr hin
  subst hR
  refine g_aload_n X dX2_retract_0 rfl ?_
  refine g_iload_n X dX2_retract_1 rfl ?_
  refine g_callV (C := RX2) (T := TX2) (N := 35) X (k_X2_canRetract ho hu) (lw_V q1780 q1782 qs102 q139 q1783) hd_X2_canRetract dX2_retract_2 (rd3 ho) rfl rfl ⟨Nat.le_of_ble_eq_true rfl, Nat.le_of_ble_eq_true rfl⟩ ⟨Nat.le_of_ble_eq_true rfl, Nat.le_of_ble_eq_true rfl⟩ (Nat.le_of_ble_eq_true rfl) ?_
  rintro _ S1 ⟨rfl, hS1⟩
  obtain rfl := hS1.symm
  refine g_ifp_ne (tgt := 10) X dX2_retract_5 rfl (fun c5 => ?_) (fun c5 => ?_)
  · refine g_aload_n X dX2_retract_10 rfl ?_
    refine g_callV (C := RX2) (T := TX2) (N := 35) X (k_X2_keep ho h0 h1) (lw_V q1772 q1774 qs101 q139 q1775) hd_X2_keep dX2_retract_11 (rd3 ho) rfl rfl ⟨Nat.le_of_ble_eq_true rfl, Nat.le_of_ble_eq_true rfl⟩ ⟨Nat.le_of_ble_eq_true rfl, Nat.le_of_ble_eq_true rfl⟩ (Nat.le_of_ble_eq_true rfl) ?_
    rintro _ S1 ⟨rfl, hS1⟩
    obtain rfl := hS1.symm
    refine g_aload_n X dX2_retract_14 rfl ?_
    refine g_get (C := RX2) (T := TX2) (N := 35) X 0 in_X2 dX2_retract_15 q1405 (rd3 ho) rfl (Nat.le_of_ble_eq_true rfl) (fun _ h9 => h9) rfl ?_
    refine g_bipush (v := 7) X dX2_retract_18 rfl ?_
    refine g_dup2_11 X dX2_retract_20 rfl rfl ?_
    refine g_iald (j := 7) X dX2_retract_21 (rdi ho (400) (rfl)) rfl (by decide) (by decide) ?_
    refine g_iconst (v := 1) X dX2_retract_22 rfl ?_
    refine g_iload_n X dX2_retract_23 rfl ?_
    refine g_ishl X dX2_retract_24 ?_
    refine g_iconst (v := (-1)) X dX2_retract_25 rfl ?_
    refine g_ixor X dX2_retract_26 ?_
    refine g_iand X dX2_retract_27 ?_
    refine g_iast X ho (400) (j := 7) dX2_retract_28 rfl (rfl) rfl (by decide) (by decide) ?_
    refine g_iconst (v := 1) X dX2_retract_29 rfl ?_
    refine g_zret X hr dX2_retract_30 ?_ (Nat.le_of_ble_eq_true rfl) (Nat.le_of_ble_eq_true rfl) ?_
    · first | rfl | exact nb_bP
    · exact ⟨lb_1 c5, by rw [if_pos c5, si_si, si_s]; rfl⟩
  · refine g_iconst (v := 0) X dX2_retract_8 rfl ?_
    refine g_zret X hr dX2_retract_9 ?_ (Nat.le_of_ble_eq_true rfl) (Nat.le_of_ble_eq_true rfl) ?_
    · first | rfl | exact nb_bP
    · exact ⟨lb_0 c5, by rw [if_neg c5]⟩
set_option maxHeartbeats 600000 in
theorem k_X2_pardon {l : Launch} {E : gk_E} (ho : E.2.2.2.2 = true) {S : gk_S} {x : Int32} {n ns : Nat} {g : Nat → Int32} (hu : MU S n g) (h0 : S.1 400 3 = nI ns) (h1 : ns ≤ 30) : gk_T l E yX2_pardon cX2_pardon 2 ((some .boolean)) 3 64 0 0 [.ref (E.2.2.1 3), .int x] S (fun r S' => r = some (.int (bP (paP n (S.1 400) x))) ∧ S' = if paP n (S.1 400) x then gk_si S 400 (pdA2 (S.1 400) ns x) else S) := by
  refine gk_T.of [some (.ref (E.2.2.1 3)), some (.int x)] (by decide) (Nat.le_of_ble_eq_true rfl) (fun _ _ h => h) ?_
  intro p_ e_ R_ s_ m_ args_ below_ meth_ c_ hR X hr hin
  subst hR
  refine g_aload_n X dX2_pardon_0 rfl ?_
  refine g_iload_n X dX2_pardon_1 rfl ?_
  refine g_callV (C := RX2) (T := TX2) (N := 35) X (k_X2_canPardon ho hu) (lw_V q1788 q1790 qs103 q139 q1791) hd_X2_canPardon dX2_pardon_2 (rd3 ho) rfl rfl ⟨Nat.le_of_ble_eq_true rfl, Nat.le_of_ble_eq_true rfl⟩ ⟨Nat.le_of_ble_eq_true rfl, Nat.le_of_ble_eq_true rfl⟩ (Nat.le_of_ble_eq_true rfl) ?_
  rintro _ S1 ⟨rfl, hS1⟩
  obtain rfl := hS1.symm
  refine g_ifp_ne (tgt := 10) X dX2_pardon_5 rfl (fun c5 => ?_) (fun c5 => ?_)
  · obtain ⟨cc, hcc, hxc⟩ := cl_ix hu.1 c5.1
    have hn8 := hu.1
    refine g_aload_n X dX2_pardon_10 rfl ?_
    refine g_callV (C := RX2) (T := TX2) (N := 35) X (k_X2_keep ho h0 h1) (lw_V q1772 q1774 qs101 q139 q1775) hd_X2_keep dX2_pardon_11 (rd3 ho) rfl rfl ⟨Nat.le_of_ble_eq_true rfl, Nat.le_of_ble_eq_true rfl⟩ ⟨Nat.le_of_ble_eq_true rfl, Nat.le_of_ble_eq_true rfl⟩ (Nat.le_of_ble_eq_true rfl) ?_
    rintro _ S1 ⟨rfl, hS1⟩
    obtain rfl := hS1.symm
    refine g_aload_n X dX2_pardon_14 rfl ?_
    refine g_get (C := RX2) (T := TX2) (N := 35) X 0 in_X2 dX2_pardon_15 q1405 (rd3 ho) rfl (Nat.le_of_ble_eq_true rfl) (fun _ h9 => h9) rfl ?_
    refine g_bipush (v := 9) X dX2_pardon_18 rfl ?_
    refine g_iload_n X dX2_pardon_20 rfl ?_
    refine g_iadd X dX2_pardon_21 ?_
    refine g_iconst (v := 0) X dX2_pardon_22 rfl ?_
    refine g_iast X ho (400) (j := 9 + ix x) dX2_pardon_23 rfl (rfl) (by rw [hxc, ix_n (by omega)]; show nI 9 + nI cc = _; rw [nI_add]) (by rw [hxc, ix_n (by omega)]; omega) (by decide) ?_
    refine g_iconst (v := 1) X dX2_pardon_24 rfl ?_
    refine g_zret X hr dX2_pardon_25 ?_ (Nat.le_of_ble_eq_true rfl) (Nat.le_of_ble_eq_true rfl) ?_
    · first | rfl | exact nb_bP
    · exact ⟨lb_1 c5, by rw [if_pos c5, si_si, si_s]; rfl⟩
  · refine g_iconst (v := 0) X dX2_pardon_8 rfl ?_
    refine g_zret X hr dX2_pardon_9 ?_ (Nat.le_of_ble_eq_true rfl) (Nat.le_of_ble_eq_true rfl) ?_
    · first | rfl | exact nb_bP
    · exact ⟨lb_0 c5, by rw [if_neg c5]⟩
