theorem trC_s {g : Nat → Nat} {L i : Nat} : trC g L (i + 1) = if (L &&& (31 ^^^ (trC g L i).1)).testBit i = true then (if rgC g i &&& (trC g L i).1 = 0 then ((trC g L i).1 ||| rgC g i, (trC g L i).2 + 1) else trC g L i) else trC g L i := rfl
theorem trM_s {g : Nat → Nat} {L nf i : Nat} : trM g L nf (i + 1) = if L.testBit i = true ∧ (trM g L nf i).1.testBit i = false then (if rgM g nf i = 0 then trM g L nf i else ((trM g L nf i).1 ||| rgM g nf i, (trM g L nf i).2 + 1)) else trM g L nf i := rfl
theorem itg_lt {g : Nat → Nat} {L i : Nat} (hg : gCl L g) (hi : i < 5) : ∀ j, itg g j i < 5
  | 0 => hi
  | j + 1 => gCl_8 hg _
theorem rcS_lt {g : Nat → Nat} {L i : Nat} (hg : gCl L g) (hi : i < 5) : ∀ j, (rcS g j i).1 < 32 ∧ (rcS g j i).2 < 5
  | 0 => ⟨by show 0 < 32; decide, hi⟩
  | j + 1 => by
    obtain ⟨h1, h2⟩ := rcS_lt hg hi j
    rw [rcS_s]
    split
    · exact ⟨h1, h2⟩
    · exact ⟨Nat.or_lt_two_pow (n := 5) h1 (Nat.pow_lt_pow_right (n := 5) (by decide) h2), gCl_8 hg _⟩
theorem rgC_lt {g : Nat → Nat} {L i : Nat} (hg : gCl L g) (hi : i < 5) : rgC g i < 32 := (rcS_lt hg (itg_lt hg hi 5) 5).1
theorem rmS_lt {g : Nat → Nat} {L i : Nat} (hg : gCl L g) (hi : i < 5) : ∀ j, (rmS g i j).1 < 32 ∧ (rmS g i j).2.1 < 5
  | 0 => ⟨by show 0 < 32; decide, hi⟩
  | j + 1 => by
    obtain ⟨h1, h2⟩ := rmS_lt hg hi j
    rw [rmS_s]
    split
    · exact ⟨h1, h2⟩
    · exact ⟨Nat.or_lt_two_pow (n := 5) h1 (Nat.pow_lt_pow_right (n := 5) (by decide) h2), gCl_8 hg _⟩
theorem rgM_lt {g : Nat → Nat} {L i n : Nat} (hg : gCl L g) (hi : i < 5) : rgM g n i < 32 := by
  unfold rgM
  split
  · exact (rmS_lt hg hi n).1
  · decide
theorem trC_lt {g : Nat → Nat} {L : Nat} (hg : gCl L g) : ∀ {i}, i ≤ 5 → (trC g L i).1 < 32
  | 0, _ => by show 0 < 32; decide
  | i + 1, h => by
    have ih := trC_lt hg (i := i) (by omega)
    rw [trC_s]
    split
    · split
      · exact Nat.or_lt_two_pow (n := 5) ih (rgC_lt hg (by omega))
      · exact ih
    · exact ih
theorem trM_lt {g : Nat → Nat} {L nf : Nat} (hg : gCl L g) : ∀ {i}, i ≤ 5 → (trM g L nf i).1 < 32
  | 0, _ => by show 0 < 32; decide
  | i + 1, h => by
    have ih := trM_lt hg (nf := nf) (i := i) (by omega)
    rw [trM_s]
    split
    · split
      · exact ih
      · exact Nat.or_lt_two_pow (n := 5) ih (rgM_lt hg (by omega))
    · exact ih
theorem an_all : (List.range 32).all (fun a => (List.range 32).all (fun b => decide (nI a &&& (nI b ^^^ -1) = nI (a &&& (31 ^^^ b))) && (!Nat.beq (b &&& a) b || Nat.beq b 0 || Nat.blt (a &&& (31 ^^^ b)) a))) = true := by decide +kernel
theorem an_x {a b : Nat} (ha : a < 32) (hb : b < 32) : nI a &&& (nI b ^^^ -1) = nI (a &&& (31 ^^^ b)) := by
  have := List.all_eq_true.mp (List.all_eq_true.mp an_all a (List.mem_range.mpr ha)) b (List.mem_range.mpr hb)
  rw [Bool.and_eq_true] at this
  exact of_decide_eq_true this.1
theorem an_lt {a b : Nat} (ha : a < 32) (hb : b < 32) (h : b &&& a = b) (h0 : b ≠ 0) : a &&& (31 ^^^ b) < a := by
  have := List.all_eq_true.mp (List.all_eq_true.mp an_all a (List.mem_range.mpr ha)) b (List.mem_range.mpr hb)
  rw [Bool.and_eq_true] at this
  rcases Bool.or_eq_true_iff.mp this.2 with z | z
  · rcases Bool.or_eq_true_iff.mp z with y | y
    · rw [h, Nat.beq_refl] at y
      cases y
    · exact absurd (Nat.eq_of_beq_eq_true y) h0
  · exact Nat.le_of_ble_eq_true z
/-- all the trading: (who is left, rings, who gets what) after j turns -/
def tdS (w : Nat → Nat → Int32) (nf : Nat) (W : Nat → Int32) (j : Nat) : Nat × Nat × (Nat → Int32) := itr (fun _ q => (q.1 &&& (31 ^^^ (trC (gW w q.1) q.1 nf).1), q.2.1 + (trC (gW w q.1) q.1 nf).2, fun f => if f < nf ∧ (trC (gW w q.1) q.1 nf).1.testBit f = true then nI (gW w q.1 f) else q.2.2 f)) j (2 ^ nf - 1, 0, W)
theorem tdS_s {w : Nat → Nat → Int32} {nf j L t : Nat} {W0 W : Nat → Int32} (h : tdS w nf W0 j = (L, t, W)) : tdS w nf W0 (j + 1) = (L &&& (31 ^^^ (trC (gW w L) L nf).1), t + (trC (gW w L) L nf).2, fun f => if f < nf ∧ (trC (gW w L) L nf).1.testBit f = true then nI (gW w L f) else W f) := by
  have e : tdS w nf W0 (j + 1) = ((tdS w nf W0 j).1 &&& (31 ^^^ (trC (gW w (tdS w nf W0 j).1) (tdS w nf W0 j).1 nf).1), (tdS w nf W0 j).2.1 + (trC (gW w (tdS w nf W0 j).1) (tdS w nf W0 j).1 nf).2, fun f => if f < nf ∧ (trC (gW w (tdS w nf W0 j).1) (tdS w nf W0 j).1 nf).1.testBit f = true then nI (gW w (tdS w nf W0 j).1 f) else (tdS w nf W0 j).2.2 f) := rfl
  rw [e, h]
def tdQ (w : Nat → Nat → Int32) (nf : Nat) (W : Nat → Int32) (j : Nat) : Prop := (tdS w nf W j).1 = 0 ∧ ∀ i, i < j → ¬ (tdS w nf W i).1 = 0
def tdI (w : Nat → Nat → Int32) (nf : Nat) (W0 : Nat → Int32) (j L t : Nat) (W : Nat → Int32) : Prop := tdS w nf W0 j = (L, t, W) ∧ L < 2 ^ nf ∧ ∀ i, i < j → ¬ (tdS w nf W0 i).1 = 0
theorem tdI_0 {w : Nat → Nat → Int32} {nf : Nat} {W0 : Nat → Int32} : tdI w nf W0 0 (2 ^ nf - 1) 0 W0 := ⟨rfl, by have : 0 < 2 ^ nf := Nat.pow_pos (by decide); omega, fun i h => by omega⟩
theorem tdI_s {w : Nat → Nat → Int32} {nf j L t : Nat} {W0 W : Nat → Int32} (h5 : nf ≤ 5) (h : tdI w nf W0 j L t W) (hL : ¬ L = 0) : tdI w nf W0 (j + 1) (L &&& (31 ^^^ (trC (gW w L) L nf).1)) (t + (trC (gW w L) L nf).2) (fun f => if f < nf ∧ (trC (gW w L) L nf).1.testBit f = true then nI (gW w L f) else W f) ∧ L &&& (31 ^^^ (trC (gW w L) L nf).1) < L := by
  have hL5 := L_32 h.2.1 h5
  obtain ⟨_, q1, q2⟩ := tr_all h5 h.2.1 (gW_cl (w := w) hL5)
  have lt := an_lt hL5 (trC_lt (gW_cl (w := w) hL5) h5) q1 (q2 hL)
  refine ⟨⟨tdS_s h.1, Nat.lt_trans lt h.2.1, ne_s h.2.2 (by rw [h.1]; exact hL)⟩, lt⟩
theorem tdI_q {w : Nat → Nat → Int32} {nf j L t : Nat} {W0 W : Nat → Int32} (h : tdI w nf W0 j L t W) (hL : L = 0) : tdQ w nf W0 j := ⟨by rw [h.1]; exact hL, h.2.2⟩
/-- the gets under way -/
def gtW (g : Nat → Nat) (s : Nat) (W : Nat → Int32) (k f : Nat) : Int32 := if f < k ∧ s.testBit f = true then nI (g f) else W f
theorem gtW_0 {g : Nat → Nat} {s : Nat} {W : Nat → Int32} : gtW g s W 0 = W := by
  funext f
  exact if_neg (fun z => by omega)
theorem gtW_t {g : Nat → Nat} {s k : Nat} {W : Nat → Int32} (h : s.testBit k = true) : upd (gtW g s W k) k (nI (g k)) = gtW g s W (k + 1) := by
  funext f
  by_cases hf : f = k
  · subst hf
    rw [upd_s]
    exact (if_pos ⟨by omega, h⟩).symm
  · rw [upd_n hf]
    unfold gtW
    by_cases c : f < k ∧ s.testBit f = true
    · rw [if_pos c, if_pos ⟨by omega, c.2⟩]
    · rw [if_neg c, if_neg (fun z => c ⟨by omega, z.2⟩)]
theorem gtW_f {g : Nat → Nat} {s k : Nat} {W : Nat → Int32} (h : ¬ s.testBit k = true) : gtW g s W k = gtW g s W (k + 1) := by
  funext f
  unfold gtW
  by_cases c : f < k ∧ s.testBit f = true
  · rw [if_pos c, if_pos ⟨by omega, c.2⟩]
  · rw [if_neg c, if_neg (fun z => c ⟨by
      rcases Nat.lt_or_ge f k with q | q
      · exact q
      · exact absurd (by rw [show k = f by omega]; exact z.2) h, z.2⟩)]
theorem tb_and {a b k : Nat} (h : (a &&& b).testBit k = true) : a.testBit k = true := by
  rw [Nat.testBit_and] at h
  exact (Bool.and_eq_true_iff.mp h).1
theorem gW_si {S : gk_S} {W : Nat → Int32} {L : Nat} (hL : L < 32) : gW (fun d => (gk_si S 306 W).1 (20 + d)) L = gW (fun d => S.1 (20 + d)) L := by
  funext p
  unfold gW
  by_cases h : L.testBit p = true
  · have := tb_5 hL h
    rw [if_pos h, if_pos h]
    show ix (waB ((gk_si S 306 W).1 (20 + p)) (nI L) 5) = _
    rw [si_n (show 20 + p ≠ 306 by omega)]
  · rw [if_neg h, if_neg h]
theorem or_b : ∀ a, a < 32 → ∀ b, b < 32 → nI a ||| nI b = nI (a ||| b) := fun a _ b _ => nx_or a b
set_option maxHeartbeats 600000 in
theorem k_X0_trades {l : Launch} {E : gk_E} (ho : E.2.2.2.2 = true) {S : gk_S}  {nf : Nat} (h0 : S.1 10 0 = nI nf) (h1 : nf ≤ 5) : gk_T l E yX0_trades cX0_trades 6 ((some .int)) 3 70 0 0 [.ref (E.2.2.1 0)] S (fun r S' => ∃ j, tdQ (fun d => S.1 (20 + d)) nf (S.1 306) j ∧ r = some (.int (nI (tdS (fun d => S.1 (20 + d)) nf (S.1 306) j).2.1)) ∧ S' = gk_si S 306 (tdS (fun d => S.1 (20 + d)) nf (S.1 306) j).2.2) := by
  refine gk_T.of [some (.ref (E.2.2.1 0)), none, none, none, none, none] (by decide) (Nat.le_of_ble_eq_true rfl) (le_1 rfl (le_p (le_p (le_p (le_p (le_p le_n)))))) ?_
  intro p_ e_ R_ s_ m_ args_ below_ meth_ c_ hR X hr hin
  subst hR
  refine g_iconst (v := 1) X dX0_trades_0 rfl ?_
  refine g_aload_n X dX0_trades_1 rfl ?_
  refine g_callV (C := RX0) (T := TX0) (N := 13) X (k_X0_farmers ho) (lw_V q287 q289 qs0 q135 q290) hd_X0_farmers dX0_trades_2 (rd0 ho) rfl rfl ⟨Nat.le_of_ble_eq_true rfl, Nat.le_of_ble_eq_true rfl⟩ ⟨Nat.le_of_ble_eq_true rfl, Nat.le_of_ble_eq_true rfl⟩ (Nat.le_of_ble_eq_true rfl) ?_
  rintro _ S1 ⟨rfl, hS1⟩
  obtain rfl := hS1.symm
  refine g_ishl X dX0_trades_5 ?_
  refine g_iconst (v := 1) X dX0_trades_6 rfl ?_
  refine g_isub X dX0_trades_7 ?_
  refine g_istore_n X dX0_trades_8 (Nat.le_of_ble_eq_true rfl) ?_
  refine g_iconst (v := 0) X dX0_trades_9 rfl ?_
  refine g_istore_n X dX0_trades_10 (Nat.le_of_ble_eq_true rfl) ?_
  refine g_loop (σ := Nat × Nat × Nat × (Nat → Int32)) (fun (q : Nat × Nat × Nat × (Nat → Int32)) => match q with | (j, L, t, W) => gk_si S 306 W) (fun (q : Nat × Nat × Nat × (Nat → Int32)) => match q with | (j, L, t, W) => ([some (.ref (E.2.2.1 0)), some (.int (nI L)), some (.int (nI t)), none, none, none] : List (Option Value))) (fun (q : Nat × Nat × Nat × (Nat → Int32)) => match q with | (j, L, t, W) => tdI (fun d => S.1 (20 + d)) nf (S.1 306) j L t W) (fun (q : Nat × Nat × Nat × (Nat → Int32)) => match q with | (j, L, t, W) => L) ((0, 2 ^ nf - 1, 0, S.1 306)) ?_ (by exact si_id.symm) (le_1 rfl (le_1 (ei (by rw [h0]; exact (alC_n (by omega)).1)) (le_1 rfl (le_0 (le_0 (le_0 le_n)))))) ?_
  · exact tdI_0
  rintro ⟨j, L, t, W⟩ hI ih
  try dsimp only at hI ih ⊢
  refine g_iload_n X dX0_trades_11 rfl ?_
  refine g_if_eq (tgt := 128) X dX0_trades_12 rfl (fun c12 => ?_) (fun c12 => ?_)
  · refine g_iload_n X dX0_trades_128 rfl ?_
    exact g_iret X hr dX0_trades_129 (Nat.le_of_ble_eq_true rfl) (Nat.le_of_ble_eq_true rfl) (⟨j, tdI_q hI ((nI_eq (b := 0) (Nat.lt_trans (L_32 hI.2.1 h1) (by decide)) (by decide)).mp c12), by rw [hI.1], by rw [hI.1]⟩)
  · have hLz : ¬ L = 0 := fun z => c12 (by rw [z]; rfl)
    have hL5 := L_32 hI.2.1 h1
    have hg := gW_cl (w := (fun d => S.1 (20 + d))) hL5
    obtain ⟨-, q1, q2⟩ := tr_all h1 hI.2.1 hg
    have hs5 := trC_lt hg h1
    refine g_iconst (v := 0) X dX0_trades_15 rfl ?_
    refine g_istore_n X dX0_trades_16 (Nat.le_of_ble_eq_true rfl) ?_
    refine g_iconst (v := 0) X dX0_trades_17 rfl ?_
    refine g_istore X dX0_trades_18 (Nat.le_of_ble_eq_true rfl) ?_
    refine g_loop (σ := Nat) (fun (i : Nat) => gk_si S 306 W) (fun (i : Nat) => ([some (.ref (E.2.2.1 0)), some (.int (nI L)), some (.int (nI (t + (trC (gW (fun d => S.1 (20 + d)) L) L i).2))), some (.int (nI (trC (gW (fun d => S.1 (20 + d)) L) L i).1)), some (.int (nI i)), none] : List (Option Value))) (fun (i : Nat) => i ≤ nf) (fun (i : Nat) => nf - i) (0) ?_ (rfl) (le_1 rfl (le_1 rfl (le_1 rfl (le_1 rfl (le_1 rfl (le_0 le_n)))))) ?_
    · exact Nat.zero_le _
    intro i hI2 ih2
    try dsimp only at hI2 ih2 ⊢
    refine g_iload X dX0_trades_20 rfl ?_
    refine g_aload_n X dX0_trades_22 rfl ?_
    refine g_callV (C := RX0) (T := TX0) (N := 13) X (k_X0_farmers ho (S := gk_si S 306 _)) (lw_V q287 q289 qs0 q135 q290) hd_X0_farmers dX0_trades_23 (rd0 ho) rfl rfl ⟨Nat.le_of_ble_eq_true rfl, Nat.le_of_ble_eq_true rfl⟩ ⟨Nat.le_of_ble_eq_true rfl, Nat.le_of_ble_eq_true rfl⟩ (Nat.le_of_ble_eq_true rfl) ?_
    rintro _ S1 ⟨rfl, hS1⟩
    obtain rfl := hS1.symm
    rw [show (gk_si S 306 W).1 10 0 = nI nf from h0]
    refine g_icmp_ge (tgt := 78) X dX0_trades_26 rfl (fun c26 => ?_) (fun c26 => ?_)
    · have hi := (out_of (by omega) hI2 c26).symm
      subst hi
      refine g_iconst (v := 0) X dX0_trades_78 rfl ?_
      refine g_istore X dX0_trades_79 (Nat.le_of_ble_eq_true rfl) ?_
      refine g_loop (σ := Nat) (fun (k : Nat) => gk_si S 306 (gtW (gW (fun d => S.1 (20 + d)) L) (trC (gW (fun d => S.1 (20 + d)) L) L nf).1 W k)) (fun (k : Nat) => ([some (.ref (E.2.2.1 0)), some (.int (nI L)), some (.int (nI (t + (trC (gW (fun d => S.1 (20 + d)) L) L nf).2))), some (.int (nI (trC (gW (fun d => S.1 (20 + d)) L) L nf).1)), some (.int (nI k)), none] : List (Option Value))) (fun (k : Nat) => k ≤ nf) (fun (k : Nat) => nf - k) (0) ?_ (by rw [gtW_0]) (le_1 rfl (le_1 rfl (le_1 rfl (le_1 rfl (le_1 rfl (le_0 le_n)))))) ?_
      · exact Nat.zero_le _
      intro k hI3 ih3
      try dsimp only at hI3 ih3 ⊢
      refine g_iload X dX0_trades_81 rfl ?_
      refine g_aload_n X dX0_trades_83 rfl ?_
      refine g_callV (C := RX0) (T := TX0) (N := 13) X (k_X0_farmers ho (S := gk_si S 306 _)) (lw_V q287 q289 qs0 q135 q290) hd_X0_farmers dX0_trades_84 (rd0 ho) rfl rfl ⟨Nat.le_of_ble_eq_true rfl, Nat.le_of_ble_eq_true rfl⟩ ⟨Nat.le_of_ble_eq_true rfl, Nat.le_of_ble_eq_true rfl⟩ (Nat.le_of_ble_eq_true rfl) ?_
      rintro _ S1 ⟨rfl, hS1⟩
      obtain rfl := hS1.symm
      rw [show (gk_si S 306 _).1 10 0 = _ from h0]
      refine g_icmp_ge (tgt := 119) X dX0_trades_87 rfl (fun c87 => ?_) (fun c87 => ?_)
      · have hk := (out_of (by omega) hI3 c87).symm
        subst hk
        refine g_iload_n X dX0_trades_119 rfl ?_
        refine g_iload_n X dX0_trades_120 rfl ?_
        refine g_iconst (v := (-1)) X dX0_trades_121 rfl ?_
        refine g_ixor X dX0_trades_122 ?_
        refine g_iand X dX0_trades_123 ?_
        refine g_istore_n X dX0_trades_124 (Nat.le_of_ble_eq_true rfl) ?_
        refine g_goto (tgt := 11) X dX0_trades_125 rfl ?_
        refine g_sub (le_1 rfl (le_1 (ei (an_x hL5 hs5)) (le_1 rfl (le_0 (le_0 (le_0 le_n)))))) (ih ((j + 1, _, _, _)) ?_ ?_)
        · try dsimp only
          exact (tdI_s h1 hI hLz).1
        · try dsimp only
          exact (tdI_s h1 hI hLz).2
      · have hk : k < _ := in_of (by omega) hI3 c87
        have hsk := hs_tb _ hs5 k (by omega)
        refine g_iload_n X dX0_trades_90 rfl ?_
        refine g_iload X dX0_trades_91 rfl ?_
        refine g_callS X (k_X0_has ho) (lw_S q1028 q1029 q135 q1030) hd_X0_has dX0_trades_93 rfl ⟨Nat.le_of_ble_eq_true rfl, Nat.le_of_ble_eq_true rfl⟩ ⟨Nat.le_of_ble_eq_true rfl, Nat.le_of_ble_eq_true rfl⟩ (Nat.le_of_ble_eq_true rfl) ?_
        rintro _ S1 ⟨rfl, hS1⟩
        obtain rfl := hS1.symm
        refine g_ifp_eq (tgt := 113) X dX0_trades_96 rfl (fun c96 => ?_) (fun c96 => ?_)
        · refine g_eq (S2 := gk_si S 306 (gtW (gW (fun d => S.1 (20 + d)) L) (trC (gW (fun d => S.1 (20 + d)) L) L nf).1 W (k + 1))) (by rw [← gtW_f (fun z => c96 (hsk.mpr z))]) ?_
          refine g_iinc (v := 1) X dX0_trades_113 rfl rfl (Nat.le_of_ble_eq_true rfl) ?_
          refine g_goto (tgt := 81) X dX0_trades_116 rfl ?_
          refine g_sub (le_1 rfl (le_1 rfl (le_1 rfl (le_1 rfl (le_1 e_1 (le_0 le_n)))))) (ih3 (k + 1) ?_ ?_)
          · try dsimp only
            omega
          · try dsimp only
            omega
        · have hbk := hsk.mp c96
          have hLk : L.testBit k = true := by rw [← q1] at hbk; rw [Nat.testBit_and] at hbk; exact (Bool.and_eq_true_iff.mp hbk).2
          refine g_aload_n X dX0_trades_99 rfl ?_
          refine g_get (C := RX0) (T := TX0) (N := 13) X 11 in_X0 dX0_trades_100 q252 (rd0 ho) rfl (Nat.le_of_ble_eq_true rfl) (fun _ h9 => h9) rfl ?_
          refine g_iload X dX0_trades_103 rfl ?_
          refine g_aload_n X dX0_trades_105 rfl ?_
          refine g_iload X dX0_trades_106 rfl ?_
          refine g_iload_n X dX0_trades_108 rfl ?_
          refine g_callV (C := RX0) (T := TX0) (N := 13) X (k_X0_wantedOf ho (S := gk_si S 306 _) (i := k) rfl (by omega)) (lw_V q1289 q1291 qs50 q135 q1292) hd_X0_wantedOf dX0_trades_109 (rd0 ho) rfl rfl ⟨Nat.le_of_ble_eq_true rfl, Nat.le_of_ble_eq_true rfl⟩ ⟨Nat.le_of_ble_eq_true rfl, Nat.le_of_ble_eq_true rfl⟩ (Nat.le_of_ble_eq_true rfl) ?_
          rintro _ S1 ⟨rfl, hS1⟩
          obtain rfl := hS1.symm
          refine g_top (y := nI ((gW (fun d => S.1 (20 + d)) L) k)) (by rw [si_n (show 20 + k ≠ 306 by omega)]; exact (waB_g (w := (fun d => S.1 (20 + d))) hL5 hLk).1) ?_
          refine g_iast X ho (306) (j := k) dX0_trades_112 rfl (rfl) rfl (by omega) (by decide) ?_
          refine g_eq (S2 := gk_si S 306 (gtW (gW (fun d => S.1 (20 + d)) L) (trC (gW (fun d => S.1 (20 + d)) L) L nf).1 W (k + 1))) (by rw [si_si, si_s, gtW_t hbk]) ?_
          refine g_iinc (v := 1) X dX0_trades_113 rfl rfl (Nat.le_of_ble_eq_true rfl) ?_
          refine g_goto (tgt := 81) X dX0_trades_116 rfl ?_
          refine g_sub (le_1 rfl (le_1 rfl (le_1 rfl (le_1 rfl (le_1 e_1 (le_0 le_n)))))) (ih3 (k + 1) ?_ ?_)
          · try dsimp only
            omega
          · try dsimp only
            omega
    · have hi : i < nf := in_of (by omega) hI2 c26
      have hsi := trC_lt hg (i := i) (by omega)
      have ha5 : L &&& (31 ^^^ (trC (gW (fun d => S.1 (20 + d)) L) L i).1) < 32 := Nat.lt_of_le_of_lt Nat.and_le_left hL5
      have hst := hs_tb _ ha5 i (by omega)
      refine g_iload_n X dX0_trades_29 rfl ?_
      refine g_iload_n X dX0_trades_30 rfl ?_
      refine g_iconst (v := (-1)) X dX0_trades_31 rfl ?_
      refine g_ixor X dX0_trades_32 ?_
      refine g_iand X dX0_trades_33 ?_
      rw [an_x hL5 hsi]
      refine g_iload X dX0_trades_34 rfl ?_
      refine g_callS X (k_X0_has ho) (lw_S q1028 q1029 q135 q1030) hd_X0_has dX0_trades_36 rfl ⟨Nat.le_of_ble_eq_true rfl, Nat.le_of_ble_eq_true rfl⟩ ⟨Nat.le_of_ble_eq_true rfl, Nat.le_of_ble_eq_true rfl⟩ (Nat.le_of_ble_eq_true rfl) ?_
      rintro _ S1 ⟨rfl, hS1⟩
      obtain rfl := hS1.symm
      refine g_ifp_ne (tgt := 45) X dX0_trades_39 rfl (fun c39 => ?_) (fun c39 => ?_)
      · have hb := hst.mp c39
        refine g_aload_n X dX0_trades_45 rfl ?_
        refine g_iload X dX0_trades_46 rfl ?_
        refine g_iload_n X dX0_trades_48 rfl ?_
        refine g_callV (C := RX0) (T := TX0) (N := 13) X (k_X0_ringOf ho (S := gk_si S 306 _) rfl hL5 (tb_and hb)) (lw_V q1305 q1307 qs52 q135 q1308) hd_X0_ringOf dX0_trades_49 (rd0 ho) rfl rfl ⟨Nat.le_of_ble_eq_true rfl, Nat.le_of_ble_eq_true rfl⟩ ⟨Nat.le_of_ble_eq_true rfl, Nat.le_of_ble_eq_true rfl⟩ (Nat.le_of_ble_eq_true rfl) ?_
        rintro _ S1 ⟨rfl, hS1⟩
        obtain rfl := hS1.symm
        refine g_top (y := nI (rgC (gW (fun d => S.1 (20 + d)) L) i)) (by rw [gW_si hL5]) ?_
        refine g_istore X dX0_trades_52 (Nat.le_of_ble_eq_true rfl) ?_
        refine g_iload X dX0_trades_54 rfl ?_
        refine g_iload_n X dX0_trades_56 rfl ?_
        
        refine g_iand X dX0_trades_57 ?_
        rw [nx_and]
        refine g_if_eq (tgt := 64) X dX0_trades_58 rfl (fun c58 => ?_) (fun c58 => ?_)
        · have hz := (nI_eq (Nat.lt_of_le_of_lt Nat.and_le_left (Nat.lt_trans (rgC_lt hg (by omega)) (by decide))) (by decide)).mp c58
          refine g_iload_n X dX0_trades_64 rfl ?_
          refine g_iload X dX0_trades_65 rfl ?_
          refine g_ior X dX0_trades_67 ?_
          refine g_istore_n X dX0_trades_68 (Nat.le_of_ble_eq_true rfl) ?_
          refine g_iinc (v := 1) X dX0_trades_69 rfl rfl (Nat.le_of_ble_eq_true rfl) ?_
          refine g_iinc (v := 1) X dX0_trades_72 rfl rfl (Nat.le_of_ble_eq_true rfl) ?_
          refine g_goto (tgt := 20) X dX0_trades_75 rfl ?_
          refine g_sub (le_1 rfl (le_1 rfl (le_1 (ei (by rw [trC_s, if_pos hb, if_pos hz]; exact nI_1 _)) (le_1 (ei (by rw [trC_s, if_pos hb, if_pos hz, nx_or])) (le_1 e_1 (le_0 le_n)))))) (ih2 (i + 1) ?_ ?_)
          · try dsimp only
            omega
          · try dsimp only
            omega
        · have hz : ¬ (rgC (gW (fun d => S.1 (20 + d)) L) i &&& (trC (gW (fun d => S.1 (20 + d)) L) L i).1 = 0) := fun z => c58 (by rw [z]; rfl)
          refine g_goto (tgt := 72) X dX0_trades_61 rfl ?_
          refine g_iinc (v := 1) X dX0_trades_72 rfl rfl (Nat.le_of_ble_eq_true rfl) ?_
          refine g_goto (tgt := 20) X dX0_trades_75 rfl ?_
          refine g_sub (le_1 rfl (le_1 rfl (le_1 (ei (by rw [trC_s, if_pos hb, if_neg hz])) (le_1 (ei (by rw [trC_s, if_pos hb, if_neg hz])) (le_1 e_1 (le_0 le_n)))))) (ih2 (i + 1) ?_ ?_)
          · try dsimp only
            omega
          · try dsimp only
            omega
      · have hb := fun z => c39 (hst.mpr z)
        refine g_goto (tgt := 72) X dX0_trades_42 rfl ?_
        refine g_iinc (v := 1) X dX0_trades_72 rfl rfl (Nat.le_of_ble_eq_true rfl) ?_
        refine g_goto (tgt := 20) X dX0_trades_75 rfl ?_
        refine g_sub (le_1 rfl (le_1 rfl (le_1 (ei (by rw [trC_s, if_neg hb])) (le_1 (ei (by rw [trC_s, if_neg hb])) (le_1 e_1 (le_0 le_n)))))) (ih2 (i + 1) ?_ ?_)
        · try dsimp only
          omega
        · try dsimp only
          omega
