theorem chS_0 {w : Nat → Nat → Int32} {nf : Nat} {D : Nat → Nat} {g : Nat → Int32} : chS w nf D g 0 = (31, 0, g) := rfl
theorem chS_w {w w' : Nat → Nat → Int32} {nf : Nat} {D : Nat → Nat} {g : Nat → Int32} (hw : ∀ d, d < 5 → w d = w' d) (h1 : nf ≤ 5) (i : Nat) : chS w nf D g i = chS w' nf D g i := by
  induction i with
  | zero => exact chS_0.trans chS_0.symm
  | succ i ih =>
    by_cases h : D i < nf
    · rw [chS_t h, chS_t h, ih, hw (D i) (by omega)]
    · rw [chS_f h, chS_f h, ih]
/-- what an order gives in all -/
def chV (w : Nat → Nat → Int32) (nf N : Nat) : Int32 := (chS w nf (dgN N) (fun _ => 0) 5).2.1
theorem chV_g {w : Nat → Nat → Int32} {nf N : Nat} {g : Nat → Int32} : (chS w nf (dgN N) g 5).2.1 = chV w nf N := (chS_g 5).2
theorem chV_s {S : gk_S} {nf N : Nat} {g g' : Nat → Int32} (h1 : nf ≤ 5) : (chS (fun d => (gk_si S 306 g).1 (20 + d)) nf (dgN N) g' 5).2.1 = chV (fun d => S.1 (20 + d)) nf N := by
  rw [chS_w (w' := fun d => S.1 (20 + d)) (fun d hd => by show (gk_si S 306 g).1 (20 + d) = _; rw [si_n (by omega)]) h1, chV_g]
abbrev bsP (w : Nat → Nat → Int32) (nf N : Nat) (m : Int32) : Prop := orP (nI N) ∧ m < chV w nf N
def bsC (w : Nat → Nat → Int32) (nf i : Nat) : Int32 × Int32 := itr (fun N q => if bsP w nf N q.1 then (chV w nf N, nI N) else q) i (-1, -1)
theorem bsC_t {w : Nat → Nat → Int32} {nf i : Nat} (h : bsP w nf i (bsC w nf i).1) : bsC w nf (i + 1) = (chV w nf i, nI i) := if_pos h
theorem bsC_f {w : Nat → Nat → Int32} {nf i : Nat} (h : ¬ bsP w nf i (bsC w nf i).1) : bsC w nf (i + 1) = bsC w nf i := if_neg h
def bsM (w : Nat → Nat → Int32) (nf i : Nat) : Int32 × Int32 := itr (fun k q => if bsP w nf (1234 + k) q.1 then (chV w nf (1234 + k), nI (1234 + k)) else q) i (-1, 1234)
theorem bsM_t {w : Nat → Nat → Int32} {nf i : Nat} (h : bsP w nf (1234 + i) (bsM w nf i).1) : bsM w nf (i + 1) = (chV w nf (1234 + i), nI (1234 + i)) := if_pos h
theorem bsM_f {w : Nat → Nat → Int32} {nf i : Nat} (h : ¬ bsP w nf (1234 + i) (bsM w nf i).1) : bsM w nf (i + 1) = bsM w nf i := if_neg h
set_option maxHeartbeats 600000 in
theorem k_X0_best {l : Launch} {E : gk_E} (ho : E.2.2.2.2 = true) {S : gk_S} {qq : Int32} {nf N : Nat} (h0 : S.1 10 0 = nI nf) (h1 : nf ≤ 5) (hN : N = 43211) : gk_T l E yX0_best cX0_best 5 ((some .int)) 7 145 0 0 [.ref (E.2.2.1 0), .int qq] S (fun r S' => r = some (.int (if qq = 0 then (bsC (fun d => S.1 (20 + d)) nf N).1 else (bsC (fun d => S.1 (20 + d)) nf N).2)) ∧ ∃ g, S' = gk_si S 306 g) := by
  refine gk_T.of [some (.ref (E.2.2.1 0)), some (.int qq), none, none, none] (by decide) (Nat.le_of_ble_eq_true rfl) (le_1 rfl (le_1 rfl (le_p (le_p (le_p le_n))))) ?_
  intro p_ e_ R_ s_ m_ args_ below_ meth_ c_ hR X hr hin
  subst hR
  refine g_iconst (v := (-1)) X dX0_best_0 rfl ?_
  refine g_istore_n X dX0_best_1 (Nat.le_of_ble_eq_true rfl) ?_
  refine g_iconst (v := (-1)) X dX0_best_2 rfl ?_
  refine g_istore_n X dX0_best_3 (Nat.le_of_ble_eq_true rfl) ?_
  refine g_iconst (v := 0) X dX0_best_4 rfl ?_
  refine g_istore X dX0_best_5 (Nat.le_of_ble_eq_true rfl) ?_
  refine g_loop (σ := Nat × (Nat → Int32)) (fun (q : Nat × (Nat → Int32)) => match q with | (i, g) => gk_si S 306 g) (fun (q : Nat × (Nat → Int32)) => match q with | (i, g) => ([some (.ref (E.2.2.1 0)), some (.int qq), some (.int (bsC (fun d => S.1 (20 + d)) nf i).1), some (.int (bsC (fun d => S.1 (20 + d)) nf i).2), some (.int (nI i))] : List (Option Value))) (fun (q : Nat × (Nat → Int32)) => match q with | (i, g) => i ≤ N) (fun (q : Nat × (Nat → Int32)) => match q with | (i, g) => N - i) ((0, S.1 306)) ?_ (by exact si_id.symm) (le_1 rfl (le_1 rfl (le_1 rfl (le_1 rfl (le_1 rfl le_n))))) ?_
  · exact Nat.zero_le _
  rintro ⟨i, g⟩ hI ih
  try dsimp only at hI ih ⊢
  refine g_iload X dX0_best_7 rfl ?_
  refine g_ldcw X dX0_best_9 q1284 ?_
  refine g_icmp_gt (tgt := 52) X dX0_best_12 rfl (fun c12 => ?_) (fun c12 => ?_)
  · have hi : i = N := by
      have := (nI_ltI (a := 43210) (b := i) (by decide) (by omega)).mp c12
      omega
    subst hi
    refine g_iload_n X dX0_best_52 rfl ?_
    refine g_if_eq (tgt := 60) X dX0_best_53 rfl (fun c53 => ?_) (fun c53 => ?_)
    · refine g_iload_n X dX0_best_60 rfl ?_
      exact g_iret X hr dX0_best_61 (Nat.le_of_ble_eq_true rfl) (Nat.le_of_ble_eq_true rfl) (⟨by rw [if_pos c53], g, rfl⟩)
    · refine g_iload_n X dX0_best_56 rfl ?_
      refine g_goto (tgt := 61) X dX0_best_57 rfl ?_
      exact g_iret X hr dX0_best_61 (Nat.le_of_ble_eq_true rfl) (Nat.le_of_ble_eq_true rfl) (⟨by rw [if_neg c53], g, rfl⟩)
  · have hi : i ≤ 43210 := by
      rcases Nat.lt_or_ge 43210 i with q2 | q2
      · exact absurd (nI_lt (a := 43210) (b := i) q2 (by omega)) c12
      · exact q2
    refine g_iload X dX0_best_15 rfl ?_
    refine g_callS X (k_X0_isOrder ho) (lw_S q1278 q1279 q135 q1280) hd_X0_isOrder dX0_best_17 rfl ⟨Nat.le_of_ble_eq_true rfl, Nat.le_of_ble_eq_true rfl⟩ ⟨Nat.le_of_ble_eq_true rfl, Nat.le_of_ble_eq_true rfl⟩ (Nat.le_of_ble_eq_true rfl) ?_
    rintro _ S1 ⟨rfl, hS1⟩
    obtain rfl := hS1.symm
    refine g_ifp_eq (tgt := 46) X dX0_best_20 rfl (fun c20 => ?_) (fun c20 => ?_)
    · refine g_iinc (v := 1) X dX0_best_46 rfl rfl (Nat.le_of_ble_eq_true rfl) ?_
      refine g_goto (tgt := 7) X dX0_best_49 rfl ?_
      refine g_sub (le_1 rfl (le_1 rfl (le_1 (ei (by rw [bsC_f (fun z => c20 z.1)])) (le_1 (ei (by rw [bsC_f (fun z => c20 z.1)])) (le_1 e_1 le_n))))) (ih ((i + 1, g)) ?_ ?_)
      · try dsimp only
        omega
      · try dsimp only
        omega
    · refine g_aload_n X dX0_best_23 rfl ?_
      refine g_iload X dX0_best_24 rfl ?_
      refine g_callV (C := RX0) (T := TX0) (N := 13) X (k_X0_choosesBy ho (S := gk_si S 306 g) (nf := nf) (o := nI i) h0 h1 (orP_D c20).1) (lw_V q1285 q1287 qs49 q135 q1288) hd_X0_choosesBy dX0_best_26 (rd0 ho) rfl rfl ⟨Nat.le_of_ble_eq_true rfl, Nat.le_of_ble_eq_true rfl⟩ ⟨Nat.le_of_ble_eq_true rfl, Nat.le_of_ble_eq_true rfl⟩ (Nat.le_of_ble_eq_true rfl) ?_
      rintro _ S1 ⟨rfl, hS1⟩
      obtain rfl := hS1.symm
      rw [si_si]
      refine g_top (y := chV (fun d => S.1 (20 + d)) nf i) (by rw [ix_n (by omega)]; exact chV_s h1) ?_
      refine g_iload_n X dX0_best_29 rfl ?_
      refine g_icmp_gt (tgt := 36) X dX0_best_30 rfl (fun c30 => ?_) (fun c30 => ?_)
      · refine g_aload_n X dX0_best_36 rfl ?_
        refine g_iload X dX0_best_37 rfl ?_
        refine g_callV (C := RX0) (T := TX0) (N := 13) X (k_X0_choosesBy ho (S := gk_si S 306 _) (nf := nf) (o := nI i) h0 h1 (orP_D c20).1) (lw_V q1285 q1287 qs49 q135 q1288) hd_X0_choosesBy dX0_best_39 (rd0 ho) rfl rfl ⟨Nat.le_of_ble_eq_true rfl, Nat.le_of_ble_eq_true rfl⟩ ⟨Nat.le_of_ble_eq_true rfl, Nat.le_of_ble_eq_true rfl⟩ (Nat.le_of_ble_eq_true rfl) ?_
        rintro _ S1 ⟨rfl, hS1⟩
        obtain rfl := hS1.symm
        rw [si_si]
        refine g_top (y := chV (fun d => S.1 (20 + d)) nf i) (by rw [ix_n (by omega)]; exact chV_s h1) ?_
        refine g_istore_n X dX0_best_42 (Nat.le_of_ble_eq_true rfl) ?_
        refine g_iload X dX0_best_43 rfl ?_
        refine g_istore_n X dX0_best_45 (Nat.le_of_ble_eq_true rfl) ?_
        refine g_iinc (v := 1) X dX0_best_46 rfl rfl (Nat.le_of_ble_eq_true rfl) ?_
        refine g_goto (tgt := 7) X dX0_best_49 rfl ?_
        refine g_sub (le_1 rfl (le_1 rfl (le_1 (ei (by rw [bsC_t ⟨c20, c30⟩])) (le_1 (ei (by rw [bsC_t ⟨c20, c30⟩])) (le_1 e_1 le_n))))) (ih ((i + 1, _)) ?_ ?_)
        · try dsimp only
          omega
        · try dsimp only
          omega
      · refine g_goto (tgt := 46) X dX0_best_33 rfl ?_
        refine g_iinc (v := 1) X dX0_best_46 rfl rfl (Nat.le_of_ble_eq_true rfl) ?_
        refine g_goto (tgt := 7) X dX0_best_49 rfl ?_
        refine g_sub (le_1 rfl (le_1 rfl (le_1 (ei (by rw [bsC_f (fun z => c30 z.2)])) (le_1 (ei (by rw [bsC_f (fun z => c30 z.2)])) (le_1 e_1 le_n))))) (ih ((i + 1, _)) ?_ ?_)
        · try dsimp only
          omega
        · try dsimp only
          omega
set_option maxHeartbeats 600000 in
theorem k_X2_layChosen {l : Launch} {E : gk_E} (ho : E.2.2.2.2 = true) {S : gk_S} {o : Int32} {nf : Nat} {D : Nat → Nat} (h0 : S.1 400 0 = nI nf) (h1 : nf ≤ 5) (hD : ∀ i, i < 5 → D i < 5 ∧ dgM o i = nI (D i)) : gk_T l E yX2_layChosen cX2_layChosen 8 ((some .int)) 2 43 0 0 [.ref (E.2.2.1 3), .int o] S (fun r S' => r = some (.int (chS (fun d k => S.1 400 (37 + 5 * d + k)) nf D (S.1 411) 5).2.1) ∧ S' = gk_si S 411 (chS (fun d k => S.1 400 (37 + 5 * d + k)) nf D (S.1 411) 5).2.2) := by
  refine gk_T.of [some (.ref (E.2.2.1 3)), some (.int o), none, none, none, none, none, none] (by decide) (Nat.le_of_ble_eq_true rfl) (le_1 rfl (le_1 rfl (le_p (le_p (le_p (le_p (le_p (le_p le_n)))))))) ?_
  intro p_ e_ R_ s_ m_ args_ below_ meth_ c_ hR X hr hin
  subst hR
  refine g_bipush (v := 31) X dX2_layChosen_0 rfl ?_
  refine g_istore_n X dX2_layChosen_2 (Nat.le_of_ble_eq_true rfl) ?_
  refine g_iconst (v := 0) X dX2_layChosen_3 rfl ?_
  refine g_istore_n X dX2_layChosen_4 (Nat.le_of_ble_eq_true rfl) ?_
  refine g_iconst (v := 0) X dX2_layChosen_5 rfl ?_
  refine g_istore X dX2_layChosen_6 (Nat.le_of_ble_eq_true rfl) ?_
  refine g_loop (σ := Nat) (fun (i : Nat) => gk_si S 411 (chS (fun d k => S.1 400 (37 + 5 * d + k)) nf D (S.1 411) i).2.2) (fun (i : Nat) => ([some (.ref (E.2.2.1 3)), some (.int o), some (.int (chS (fun d k => S.1 400 (37 + 5 * d + k)) nf D (S.1 411) i).1), some (.int (chS (fun d k => S.1 400 (37 + 5 * d + k)) nf D (S.1 411) i).2.1), some (.int (nI i)), none, none, none] : List (Option Value))) (fun (i : Nat) => i ≤ 5) (fun (i : Nat) => 5 - i) (0) ?_ (by exact si_id.symm) (le_1 rfl (le_1 rfl (le_1 rfl (le_1 rfl (le_1 rfl (le_0 (le_0 (le_0 le_n)))))))) ?_
  · omega
  intro i hI ih
  try dsimp only at hI ih ⊢
  refine g_iload X dX2_layChosen_8 rfl ?_
  refine g_iconst (v := 5) X dX2_layChosen_10 rfl ?_
  refine g_icmp_ge (tgt := 125) X dX2_layChosen_11 rfl (fun c11 => ?_) (fun c11 => ?_)
  · refine g_iload_n X dX2_layChosen_125 rfl ?_
    exact g_iret X hr dX2_layChosen_126 (Nat.le_of_ble_eq_true rfl) (Nat.le_of_ble_eq_true rfl) (⟨by rw [out_of (by omega) hI c11], by rw [out_of (by omega) hI c11]⟩)
  · have hi : i < 5 := in_of (by omega) hI c11
    obtain ⟨hd5, hdg⟩ := hD i hi
    refine g_iload_n X dX2_layChosen_14 rfl ?_
    refine g_iload X dX2_layChosen_15 rfl ?_
    refine g_callS X (k_X2_digitOf ho rfl hi) (lw_S q2011 q2012 q139 q2013) hd_X2_digitOf dX2_layChosen_17 rfl ⟨Nat.le_of_ble_eq_true rfl, Nat.le_of_ble_eq_true rfl⟩ ⟨Nat.le_of_ble_eq_true rfl, Nat.le_of_ble_eq_true rfl⟩ (Nat.le_of_ble_eq_true rfl) ?_
    rintro _ S1 ⟨rfl, hS1⟩
    obtain rfl := hS1.symm
    refine g_top (y := nI (D i)) hdg ?_
    refine g_istore X dX2_layChosen_20 (Nat.le_of_ble_eq_true rfl) ?_
    refine g_aload_n X dX2_layChosen_22 rfl ?_
    refine g_iload X dX2_layChosen_23 rfl ?_
    refine g_callV (C := RX2) (T := TX2) (N := 35) X (k_X2_isFarmer ho) (lw_V q1871 q1873 qs116 q139 q1874) hd_X2_isFarmer dX2_layChosen_25 (rd3 ho) rfl rfl ⟨Nat.le_of_ble_eq_true rfl, Nat.le_of_ble_eq_true rfl⟩ ⟨Nat.le_of_ble_eq_true rfl, Nat.le_of_ble_eq_true rfl⟩ (Nat.le_of_ble_eq_true rfl) ?_
    rintro _ S1 ⟨rfl, hS1⟩
    obtain rfl := hS1.symm
    refine g_ifp_ne (tgt := 34) X dX2_layChosen_28 rfl (fun c28 => ?_) (fun c28 => ?_)
    · have hlt : D i < nf := by
        have z := cl_lt (n := nf) (c := nI (D i)) (by omega) (by rw [← h0]; exact c28)
        rw [ix_n (by omega)] at z
        exact z
      obtain ⟨v, hv, hv2⟩ := chS_b (w := (fun d k => S.1 400 (37 + 5 * d + k))) (nf := nf) (D := D) (g := S.1 411) hi
      have hv2 : waB (fun k => S.1 400 (37 + 5 * D i + k)) (chS (fun d k => S.1 400 (37 + 5 * d + k)) nf D (S.1 411) i).1 5 = nI v := hv2
      refine g_iconst (v := (-1)) X dX2_layChosen_34 rfl ?_
      refine g_istore X dX2_layChosen_35 (Nat.le_of_ble_eq_true rfl) ?_
      refine g_iconst (v := 0) X dX2_layChosen_37 rfl ?_
      refine g_istore X dX2_layChosen_38 (Nat.le_of_ble_eq_true rfl) ?_
      refine g_loop (σ := Nat) (fun (k : Nat) => gk_si S 411 (chS (fun d k => S.1 400 (37 + 5 * d + k)) nf D (S.1 411) i).2.2) (fun (k : Nat) => ([some (.ref (E.2.2.1 3)), some (.int o), some (.int (chS (fun d k => S.1 400 (37 + 5 * d + k)) nf D (S.1 411) i).1), some (.int (chS (fun d k => S.1 400 (37 + 5 * d + k)) nf D (S.1 411) i).2.1), some (.int (nI i)), some (.int (nI (D i))), some (.int (waB (fun k => S.1 400 (37 + 5 * D i + k)) (chS (fun d k => S.1 400 (37 + 5 * d + k)) nf D (S.1 411) i).1 k)), some (.int (nI k))] : List (Option Value))) (fun (k : Nat) => k ≤ 5) (fun (k : Nat) => 5 - k) (0) ?_ (rfl) (le_1 rfl (le_1 rfl (le_1 rfl (le_1 rfl (le_1 rfl (le_1 rfl (le_1 rfl (le_1 rfl le_n)))))))) ?_
      · omega
      intro k hI2 ih2
      try dsimp only at hI2 ih2 ⊢
      refine g_iload X dX2_layChosen_40 rfl ?_
      refine g_iconst (v := 5) X dX2_layChosen_42 rfl ?_
      refine g_icmp_ge (tgt := 90) X dX2_layChosen_43 rfl (fun c43 => ?_) (fun c43 => ?_)
      · have hk := out_of (by omega) hI2 c43
        subst hk
        rw [hv2]
        refine g_aload_n X dX2_layChosen_90 rfl ?_
        refine g_get (C := RX2) (T := TX2) (N := 35) X 30 in_X2 dX2_layChosen_91 q1435 (rd3 ho) rfl (Nat.le_of_ble_eq_true rfl) (fun _ h9 => h9) rfl ?_
        refine g_iload X dX2_layChosen_94 rfl ?_
        refine g_iload X dX2_layChosen_96 rfl ?_
        refine g_iast X ho (411) (j := D i) dX2_layChosen_98 rfl (rfl) rfl hd5 (by decide) ?_
        refine g_eq (S2 := gk_si S 411 (chS (fun d k => S.1 400 (37 + 5 * d + k)) nf D (S.1 411) (i + 1)).2.2) (by rw [si_si, si_s, chS_t hlt]; show _ = gk_si S 411 (upd _ (D i) (waB (fun k => S.1 400 (37 + 5 * D i + k)) _ 5)); rw [hv2]) ?_
        refine g_iload_n X dX2_layChosen_99 rfl ?_
        refine g_iconst (v := 1) X dX2_layChosen_100 rfl ?_
        refine g_iload X dX2_layChosen_101 rfl ?_
        refine g_ishl X dX2_layChosen_103 ?_
        refine g_iconst (v := (-1)) X dX2_layChosen_104 rfl ?_
        refine g_ixor X dX2_layChosen_105 ?_
        refine g_iand X dX2_layChosen_106 ?_
        refine g_istore_n X dX2_layChosen_107 (Nat.le_of_ble_eq_true rfl) ?_
        refine g_iload_n X dX2_layChosen_108 rfl ?_
        refine g_aload_n X dX2_layChosen_109 rfl ?_
        refine g_iload X dX2_layChosen_110 rfl ?_
        refine g_iload X dX2_layChosen_112 rfl ?_
        refine g_callV (C := RX2) (T := TX2) (N := 35) X (k_X2_wantOf ho rfl hd5 rfl hv) (lw_V q1833 q1835 qs111 q139 q1836) hd_X2_wantOf dX2_layChosen_114 (rd3 ho) rfl rfl ⟨Nat.le_of_ble_eq_true rfl, Nat.le_of_ble_eq_true rfl⟩ ⟨Nat.le_of_ble_eq_true rfl, Nat.le_of_ble_eq_true rfl⟩ (Nat.le_of_ble_eq_true rfl) ?_
        rintro _ S1 ⟨rfl, hS1⟩
        obtain rfl := hS1.symm
        refine g_iadd X dX2_layChosen_117 ?_
        refine g_istore_n X dX2_layChosen_118 (Nat.le_of_ble_eq_true rfl) ?_
        skip
        refine g_iinc (v := 1) X dX2_layChosen_119 rfl rfl (Nat.le_of_ble_eq_true rfl) ?_
        refine g_goto (tgt := 8) X dX2_layChosen_122 rfl ?_
        refine g_sub (le_1 rfl (le_1 rfl (le_1 (ei (by rw [chS_t hlt]; show _ = _ &&& (one (waB (fun k => S.1 400 (37 + 5 * D i + k)) _ 5) ^^^ -1); rw [hv2])) (le_1 (ei (by rw [chS_t hlt]; show _ = _ + S.1 400 (37 + 5 * D i + ix (waB (fun k => S.1 400 (37 + 5 * D i + k)) _ 5)); rw [hv2, ix_n (by omega)]; rfl)) (le_1 e_1 (le_0 (le_0 (le_0 le_n)))))))) (ih (i + 1) ?_ ?_)
        · try dsimp only
          omega
        · try dsimp only
          omega
      · have hk : k < 5 := in_of (by omega) hI2 c43
        refine g_iload_n X dX2_layChosen_46 rfl ?_
        refine g_iload X dX2_layChosen_47 rfl ?_
        refine g_callS X (k_X2_has ho) (lw_S q1711 q1712 q139 q1713) hd_X2_has dX2_layChosen_49 rfl ⟨Nat.le_of_ble_eq_true rfl, Nat.le_of_ble_eq_true rfl⟩ ⟨Nat.le_of_ble_eq_true rfl, Nat.le_of_ble_eq_true rfl⟩ (Nat.le_of_ble_eq_true rfl) ?_
        rintro _ S1 ⟨rfl, hS1⟩
        obtain rfl := hS1.symm
        refine g_ifp_eq (tgt := 84) X dX2_layChosen_52 rfl (fun c52 => ?_) (fun c52 => ?_)
        · refine g_iinc (v := 1) X dX2_layChosen_84 rfl rfl (Nat.le_of_ble_eq_true rfl) ?_
          refine g_goto (tgt := 40) X dX2_layChosen_87 rfl ?_
          refine g_sub (le_1 rfl (le_1 rfl (le_1 rfl (le_1 rfl (le_1 rfl (le_1 rfl (le_1 (ei (waB_f (w := (fun k => S.1 400 (37 + 5 * D i + k))) (fun z => c52 z.1))) (le_1 e_1 le_n)))))))) (ih2 (k + 1) ?_ ?_)
          · try dsimp only
            omega
          · try dsimp only
            omega
        · refine g_iload X dX2_layChosen_55 rfl ?_
          refine g_iconst (v := (-1)) X dX2_layChosen_57 rfl ?_
          refine g_icmp_eq (tgt := 80) X dX2_layChosen_58 rfl (fun c58 => ?_) (fun c58 => ?_)
          · refine g_iload X dX2_layChosen_80 rfl ?_
            refine g_istore X dX2_layChosen_82 (Nat.le_of_ble_eq_true rfl) ?_
            refine g_iinc (v := 1) X dX2_layChosen_84 rfl rfl (Nat.le_of_ble_eq_true rfl) ?_
            refine g_goto (tgt := 40) X dX2_layChosen_87 rfl ?_
            refine g_sub (le_1 rfl (le_1 rfl (le_1 rfl (le_1 rfl (le_1 rfl (le_1 rfl (le_1 (ei (waB_t (w := (fun k => S.1 400 (37 + 5 * D i + k))) ⟨c52, Or.inl c58⟩)) (le_1 e_1 le_n)))))))) (ih2 (k + 1) ?_ ?_)
            · try dsimp only
              omega
            · try dsimp only
              omega
          · obtain ⟨u, hu1, hu2, -⟩ := (waB_in (w := (fun k => S.1 400 (37 + 5 * D i + k))) (left := (chS (fun d k => S.1 400 (37 + 5 * d + k)) nf D (S.1 411) i).1) k).resolve_left c58
            refine g_aload_n X dX2_layChosen_61 rfl ?_
            refine g_iload X dX2_layChosen_62 rfl ?_
            refine g_iload X dX2_layChosen_64 rfl ?_
            refine g_callV (C := RX2) (T := TX2) (N := 35) X (k_X2_wantOf ho rfl hd5 rfl hk) (lw_V q1833 q1835 qs111 q139 q1836) hd_X2_wantOf dX2_layChosen_66 (rd3 ho) rfl rfl ⟨Nat.le_of_ble_eq_true rfl, Nat.le_of_ble_eq_true rfl⟩ ⟨Nat.le_of_ble_eq_true rfl, Nat.le_of_ble_eq_true rfl⟩ (Nat.le_of_ble_eq_true rfl) ?_
            rintro _ S1 ⟨rfl, hS1⟩
            obtain rfl := hS1.symm
            refine g_aload_n X dX2_layChosen_69 rfl ?_
            refine g_iload X dX2_layChosen_70 rfl ?_
            refine g_iload X dX2_layChosen_72 rfl ?_
            refine g_callV (C := RX2) (T := TX2) (N := 35) X (k_X2_wantOf ho rfl hd5 hu2 (by omega)) (lw_V q1833 q1835 qs111 q139 q1836) hd_X2_wantOf dX2_layChosen_74 (rd3 ho) rfl rfl ⟨Nat.le_of_ble_eq_true rfl, Nat.le_of_ble_eq_true rfl⟩ ⟨Nat.le_of_ble_eq_true rfl, Nat.le_of_ble_eq_true rfl⟩ (Nat.le_of_ble_eq_true rfl) ?_
            rintro _ S1 ⟨rfl, hS1⟩
            obtain rfl := hS1.symm
            refine g_icmp_le (tgt := 84) X dX2_layChosen_77 rfl (fun c77 => ?_) (fun c77 => ?_)
            · refine g_iinc (v := 1) X dX2_layChosen_84 rfl rfl (Nat.le_of_ble_eq_true rfl) ?_
              refine g_goto (tgt := 40) X dX2_layChosen_87 rfl ?_
              refine g_sub (le_1 rfl (le_1 rfl (le_1 rfl (le_1 rfl (le_1 rfl (le_1 rfl (le_1 (ei (waB_f (w := (fun k => S.1 400 (37 + 5 * D i + k))) (fun z => z.2.elim c58 (fun y => absurd (by rw [hu2, ix_n (by omega)] at y; exact y) (Int32.not_lt.mpr c77))))) (le_1 e_1 le_n)))))))) (ih2 (k + 1) ?_ ?_)
              · try dsimp only
                omega
              · try dsimp only
                omega
            · refine g_iload X dX2_layChosen_80 rfl ?_
              refine g_istore X dX2_layChosen_82 (Nat.le_of_ble_eq_true rfl) ?_
              refine g_iinc (v := 1) X dX2_layChosen_84 rfl rfl (Nat.le_of_ble_eq_true rfl) ?_
              refine g_goto (tgt := 40) X dX2_layChosen_87 rfl ?_
              refine g_sub (le_1 rfl (le_1 rfl (le_1 rfl (le_1 rfl (le_1 rfl (le_1 rfl (le_1 (ei (waB_t (w := (fun k => S.1 400 (37 + 5 * D i + k))) ⟨c52, Or.inr (by rw [hu2, ix_n (by omega)]; exact Int32.not_le.mp c77)⟩)) (le_1 e_1 le_n)))))))) (ih2 (k + 1) ?_ ?_)
              · try dsimp only
                omega
              · try dsimp only
                omega
    · have hlt : ¬ D i < nf := fun z => c28 ⟨nI_pos' (by omega), by show nI (D i) ≤ S.1 400 0 - 1; rw [h0]; obtain ⟨q, rfl⟩ : ∃ q, nf = q + 1 := ⟨nf - 1, by omega⟩; rw [nI_pred]; exact nI_le (by omega) (by omega)⟩
      refine g_goto (tgt := 119) X dX2_layChosen_31 rfl ?_
      refine g_eq (S2 := gk_si S 411 (chS (fun d k => S.1 400 (37 + 5 * d + k)) nf D (S.1 411) (i + 1)).2.2) (by rw [chS_f hlt]) ?_
      refine g_iinc (v := 1) X dX2_layChosen_119 rfl rfl (Nat.le_of_ble_eq_true rfl) ?_
      refine g_goto (tgt := 8) X dX2_layChosen_122 rfl ?_
      refine g_sub (le_1 rfl (le_1 rfl (le_1 (ei (by rw [chS_f hlt])) (le_1 (ei (by rw [chS_f hlt])) (le_1 e_1 (le_0 (le_0 (le_0 le_n)))))))) (ih (i + 1) ?_ ?_)
      · try dsimp only
        omega
      · try dsimp only
        omega
theorem dvM_N {N : Nat} (hN : N < 2 ^ 31) (i : Nat) : dvM (nI N) i = nI (N / 10 ^ i) := by
  induction i with
  | zero => rw [show (10 : Nat) ^ 0 = 1 from rfl, Nat.div_one]; rfl
  | succ i ih =>
    show dvM (nI N) i / nI 10 = _
    have h3 : N / 10 ^ i ≤ N := Nat.div_le_self _ _
    rw [ih, pk_div (by omega) (by decide) (by decide), Nat.div_div_eq_div_mul, ← Nat.pow_succ]
theorem dgM_N {N k : Nat} (hN : N < 2 ^ 31) : dgM (nI N) k = nI (dgN N k) := by
  unfold dgM
  have h3 : N / 10 ^ (4 - k) ≤ N := Nat.div_le_self _ _
  rw [dvM_N hN]
  show nI (N / 10 ^ (4 - k)) - nI (N / 10 ^ (4 - k)) / nI 10 * nI 10 = _
  rw [pk_rem (by omega) (by decide) (by decide)]
  rfl
theorem odM_N {N : Nat} (hN : N ≤ 43210) : odM (nI N) 5 = nI (orN N) := by
  show ((((0 ||| one (dgM (nI N) 0)) ||| one (dgM (nI N) 1)) ||| one (dgM (nI N) 2)) ||| one (dgM (nI N) 3)) ||| one (dgM (nI N) 4) = _
  have m : ∀ x, dgN N x < 10 := fun x => Nat.mod_lt _ (by decide)
  rw [dgM_N (by omega), dgM_N (by omega), dgM_N (by omega), dgM_N (by omega), dgM_N (by omega), one_N _ (m _), one_N _ (m _), one_N _ (m _), one_N _ (m _), one_N _ (m _)]
  show ((((nI 0 ||| _) ||| _) ||| _) ||| _) ||| _ = _
  rw [nx_or, nx_or, nx_or, nx_or, nx_or]
  congr 1
  unfold orN orB dgN
  rw [show (10 : Nat) ^ (4 - 4) = 1 from rfl, Nat.div_one, show (10 : Nat) ^ (4 - 3) = 10 from rfl, show (10 : Nat) ^ (4 - 2) = 100 from rfl, show (10 : Nat) ^ (4 - 1) = 1000 from rfl, show (10 : Nat) ^ (4 - 0) = 10000 from rfl, Nat.zero_or, Nat.zero_or]
  ac_rfl
/-- the model's orders are the component's -/
theorem orM_iff {o : Int32} : ((1234 ≤ o ∧ o ≤ 43210) ∧ odM o 5 = 31) ↔ orP o := by
  constructor
  · intro ⟨⟨h1, h2⟩, h3⟩
    have h0 : (0 : Int32) ≤ o := Int32.le_trans (by decide) h1
    have e := ix_i h0
    have h4 := ix_le 43210 (by decide) h0 h2
    refine ⟨⟨h0, h2⟩, ?_⟩
    rw [e, odC_N h4, ← odM_N h4, ← e]
    exact h3
  · intro h
    obtain ⟨_, h1, h2⟩ := orP_D h
    have e := ix_i h.1.1
    refine ⟨⟨?_, h.1.2⟩, ?_⟩
    · rw [e]
      exact nI_le (a := 1234) h1 (by omega)
    · have h3 := h.2
      rw [e, odC_N h2] at h3
      rw [e, odM_N h2, h3]
theorem orP_M {o : Int32} (h : orP o) : ∀ i, i < 5 → dgN (ix o) i < 5 ∧ dgM o i = nI (dgN (ix o) i) := by
  obtain ⟨h1, _, h2⟩ := orP_D h
  intro i hi
  refine ⟨(h1 i hi).1, ?_⟩
  conv => lhs; rw [ix_i h.1.1]
  exact dgM_N (by omega)
set_option maxHeartbeats 600000 in
theorem k_X2_choose {l : Launch} {E : gk_E} (ho : E.2.2.2.2 = true) {S : gk_S} {o : Int32} {g : Int32} {nf : Nat} (h0 : S.1 400 0 = nI nf) (h1 : nf ≤ 5) : gk_T l E yX2_choose cX2_choose 3 ((some .int)) 3 70 0 0 [.ref (E.2.2.1 3), .int o, .int g] S (fun r S' => r = some (.int (if orP o ∧ 0 ≤ g ∧ g ≤ nI nf - 1 then (chS (fun d k => S.1 400 (37 + 5 * d + k)) nf (dgN (ix o)) (S.1 411) 5).2.2 (ix g) else -1)) ∧ S' = if orP o ∧ 0 ≤ g ∧ g ≤ nI nf - 1 then gk_si S 411 (chS (fun d k => S.1 400 (37 + 5 * d + k)) nf (dgN (ix o)) (S.1 411) 5).2.2 else S) := by
  refine gk_T.of [some (.ref (E.2.2.1 3)), some (.int o), some (.int g)] (by decide) (Nat.le_of_ble_eq_true rfl) (fun _ _ h => h) ?_
  intro p_ e_ R_ s_ m_ args_ below_ meth_ c_ hR X hr hin
  subst hR
  refine g_iload_n X dX2_choose_0 rfl ?_
  refine g_callS X (k_X2_isOrder ho) (lw_S q2007 q2008 q139 q2009) hd_X2_isOrder dX2_choose_1 rfl ⟨Nat.le_of_ble_eq_true rfl, Nat.le_of_ble_eq_true rfl⟩ ⟨Nat.le_of_ble_eq_true rfl, Nat.le_of_ble_eq_true rfl⟩ (Nat.le_of_ble_eq_true rfl) ?_
  rintro _ S1 ⟨rfl, hS1⟩
  obtain rfl := hS1.symm
  refine g_ifp_eq (tgt := 15) X dX2_choose_4 rfl (fun c4 => ?_) (fun c4 => ?_)
  · refine g_iconst (v := (-1)) X dX2_choose_15 rfl ?_
    exact g_iret X hr dX2_choose_16 (Nat.le_of_ble_eq_true rfl) (Nat.le_of_ble_eq_true rfl) (lf_f (fun z => c4 (orM_iff.mpr z.1)) rfl rfl)
  · refine g_aload_n X dX2_choose_7 rfl ?_
    refine g_iload_n X dX2_choose_8 rfl ?_
    refine g_callV (C := RX2) (T := TX2) (N := 35) X (k_X2_isFarmer ho) (lw_V q1871 q1873 qs116 q139 q1874) hd_X2_isFarmer dX2_choose_9 (rd3 ho) rfl rfl ⟨Nat.le_of_ble_eq_true rfl, Nat.le_of_ble_eq_true rfl⟩ ⟨Nat.le_of_ble_eq_true rfl, Nat.le_of_ble_eq_true rfl⟩ (Nat.le_of_ble_eq_true rfl) ?_
    rintro _ S1 ⟨rfl, hS1⟩
    obtain rfl := hS1.symm
    refine g_ifp_ne (tgt := 17) X dX2_choose_12 rfl (fun c12 => ?_) (fun c12 => ?_)
    · have hg : ix g < 5 := Nat.lt_of_lt_of_le (cl_lt (by omega) (by rw [← h0]; exact c12)) h1
      have ho2 := orM_iff.mp c4
      refine g_aload_n X dX2_choose_17 rfl ?_
      refine g_iload_n X dX2_choose_18 rfl ?_
      refine g_callV (C := RX2) (T := TX2) (N := 35) X (k_X2_layChosen ho h0 h1 (orP_M ho2)) (lw_V q2014 q2016 qs124 q139 q2017) hd_X2_layChosen dX2_choose_19 (rd3 ho) rfl rfl ⟨Nat.le_of_ble_eq_true rfl, Nat.le_of_ble_eq_true rfl⟩ ⟨Nat.le_of_ble_eq_true rfl, Nat.le_of_ble_eq_true rfl⟩ (Nat.le_of_ble_eq_true rfl) ?_
      rintro _ S1 ⟨rfl, hS1⟩
      obtain rfl := hS1.symm
      refine g_pop X dX2_choose_22 rfl ?_
      refine g_aload_n X dX2_choose_23 rfl ?_
      refine g_get (C := RX2) (T := TX2) (N := 35) X 30 in_X2 dX2_choose_24 q1435 (rd3 ho) rfl (Nat.le_of_ble_eq_true rfl) (fun _ h9 => h9) rfl ?_
      refine g_iload_n X dX2_choose_27 rfl ?_
      refine g_iald (j := ix g) X dX2_choose_28 (rdi ho (411) (rfl)) (ix_i c12.1) hg (by decide) ?_
      exact g_iret X hr dX2_choose_29 (Nat.le_of_ble_eq_true rfl) (Nat.le_of_ble_eq_true rfl) (lf_t ⟨ho2, by rw [← h0]; exact c12⟩ (by rw [si_s]) rfl)
    · refine g_iconst (v := (-1)) X dX2_choose_15 rfl ?_
      exact g_iret X hr dX2_choose_16 (Nat.le_of_ble_eq_true rfl) (Nat.le_of_ble_eq_true rfl) (lf_f (fun z => c12 (by rw [h0]; exact z.2)) rfl rfl)
set_option maxHeartbeats 600000 in
theorem k_X2_best {l : Launch} {E : gk_E} (ho : E.2.2.2.2 = true) {S : gk_S} {qq : Int32} {nf N : Nat} (h0 : S.1 400 0 = nI nf) (h1 : nf ≤ 5) (hN : N = 41977) : gk_T l E yX2_best cX2_best 6 ((some .int)) 3 70 0 0 [.ref (E.2.2.1 3), .int qq] S (fun r S' => r = some (.int (if qq = 0 then (bsM (fun d k => S.1 400 (37 + 5 * d + k)) nf N).1 else (bsM (fun d k => S.1 400 (37 + 5 * d + k)) nf N).2)) ∧ ∃ g, S' = gk_si S 411 g) := by
  refine gk_T.of [some (.ref (E.2.2.1 3)), some (.int qq), none, none, none, none] (by decide) (Nat.le_of_ble_eq_true rfl) (le_1 rfl (le_1 rfl (le_p (le_p (le_p (le_p le_n)))))) ?_
  intro p_ e_ R_ s_ m_ args_ below_ meth_ c_ hR X hr hin
  subst hR
  refine g_sipush (v := 1234) X dX2_best_0 rfl ?_
  refine g_istore_n X dX2_best_3 (Nat.le_of_ble_eq_true rfl) ?_
  refine g_iconst (v := (-1)) X dX2_best_4 rfl ?_
  refine g_istore_n X dX2_best_5 (Nat.le_of_ble_eq_true rfl) ?_
  refine g_sipush (v := 1234) X dX2_best_6 rfl ?_
  refine g_istore X dX2_best_9 (Nat.le_of_ble_eq_true rfl) ?_
  refine g_loop (σ := Nat × (Nat → Int32)) (fun (q : Nat × (Nat → Int32)) => match q with | (i, g) => gk_si S 411 g) (fun (q : Nat × (Nat → Int32)) => match q with | (i, g) => ([some (.ref (E.2.2.1 3)), some (.int qq), some (.int (bsM (fun d k => S.1 400 (37 + 5 * d + k)) nf i).2), some (.int (bsM (fun d k => S.1 400 (37 + 5 * d + k)) nf i).1), some (.int (nI (1234 + i))), none] : List (Option Value))) (fun (q : Nat × (Nat → Int32)) => match q with | (i, g) => i ≤ N) (fun (q : Nat × (Nat → Int32)) => match q with | (i, g) => N - i) ((0, S.1 411)) ?_ (by exact si_id.symm) (le_1 rfl (le_1 rfl (le_1 rfl (le_1 rfl (le_1 rfl (le_0 le_n)))))) ?_
  · exact Nat.zero_le _
  rintro ⟨i, g⟩ hI ih
  try dsimp only at hI ih ⊢
  refine g_iload X dX2_best_11 rfl ?_
  refine g_ldcw X dX2_best_13 q2010 ?_
  refine g_icmp_gt (tgt := 59) X dX2_best_16 rfl (fun c16 => ?_) (fun c16 => ?_)
  · have hi : i = N := by
      have := (nI_ltI (a := 43210) (b := 1234 + i) (by decide) (by omega)).mp c16
      omega
    subst hi
    refine g_iload_n X dX2_best_59 rfl ?_
    refine g_if_eq (tgt := 67) X dX2_best_60 rfl (fun c60 => ?_) (fun c60 => ?_)
    · refine g_iload_n X dX2_best_67 rfl ?_
      exact g_iret X hr dX2_best_68 (Nat.le_of_ble_eq_true rfl) (Nat.le_of_ble_eq_true rfl) (⟨by rw [if_pos c60], g, rfl⟩)
    · refine g_iload_n X dX2_best_63 rfl ?_
      refine g_goto (tgt := 68) X dX2_best_64 rfl ?_
      exact g_iret X hr dX2_best_68 (Nat.le_of_ble_eq_true rfl) (Nat.le_of_ble_eq_true rfl) (⟨by rw [if_neg c60], g, rfl⟩)
  · have hi : i ≤ 41976 := by
      rcases Nat.lt_or_ge 41976 i with q2 | q2
      · exact absurd (nI_lt (a := 43210) (b := 1234 + i) (by omega) (by omega)) c16
      · exact q2
    refine g_iload X dX2_best_19 rfl ?_
    refine g_callS X (k_X2_isOrder ho) (lw_S q2007 q2008 q139 q2009) hd_X2_isOrder dX2_best_21 rfl ⟨Nat.le_of_ble_eq_true rfl, Nat.le_of_ble_eq_true rfl⟩ ⟨Nat.le_of_ble_eq_true rfl, Nat.le_of_ble_eq_true rfl⟩ (Nat.le_of_ble_eq_true rfl) ?_
    rintro _ S1 ⟨rfl, hS1⟩
    obtain rfl := hS1.symm
    refine g_ifp_ne (tgt := 30) X dX2_best_24 rfl (fun c24 => ?_) (fun c24 => ?_)
    · have ho2 := orM_iff.mp c24
      refine g_aload_n X dX2_best_30 rfl ?_
      refine g_iload X dX2_best_31 rfl ?_
      refine g_callV (C := RX2) (T := TX2) (N := 35) X (k_X2_layChosen ho (S := gk_si S 411 g) (nf := nf) (o := nI (1234 + i)) h0 h1 (orP_M ho2)) (lw_V q2014 q2016 qs124 q139 q2017) hd_X2_layChosen dX2_best_33 (rd3 ho) rfl rfl ⟨Nat.le_of_ble_eq_true rfl, Nat.le_of_ble_eq_true rfl⟩ ⟨Nat.le_of_ble_eq_true rfl, Nat.le_of_ble_eq_true rfl⟩ (Nat.le_of_ble_eq_true rfl) ?_
      rintro _ S1 ⟨rfl, hS1⟩
      obtain rfl := hS1.symm
      rw [si_si]
      refine g_top (y := chV (fun d k => S.1 400 (37 + 5 * d + k)) nf (1234 + i)) (by rw [ix_n (by omega)]; exact chV_g) ?_
      refine g_istore X dX2_best_36 (Nat.le_of_ble_eq_true rfl) ?_
      refine g_iload X dX2_best_38 rfl ?_
      refine g_iload_n X dX2_best_40 rfl ?_
      refine g_icmp_gt (tgt := 47) X dX2_best_41 rfl (fun c41 => ?_) (fun c41 => ?_)
      · refine g_iload X dX2_best_47 rfl ?_
        refine g_istore_n X dX2_best_49 (Nat.le_of_ble_eq_true rfl) ?_
        refine g_iload X dX2_best_50 rfl ?_
        refine g_istore_n X dX2_best_52 (Nat.le_of_ble_eq_true rfl) ?_
        refine g_iinc (v := 1) X dX2_best_53 rfl rfl (Nat.le_of_ble_eq_true rfl) ?_
        refine g_goto (tgt := 11) X dX2_best_56 rfl ?_
        refine g_sub (le_1 rfl (le_1 rfl (le_1 (ei (by rw [bsM_t ⟨ho2, c41⟩])) (le_1 (ei (by rw [bsM_t ⟨ho2, c41⟩])) (le_1 e_1 (le_0 le_n)))))) (ih ((i + 1, _)) ?_ ?_)
        · try dsimp only
          omega
        · try dsimp only
          omega
      · refine g_goto (tgt := 53) X dX2_best_44 rfl ?_
        refine g_iinc (v := 1) X dX2_best_53 rfl rfl (Nat.le_of_ble_eq_true rfl) ?_
        refine g_goto (tgt := 11) X dX2_best_56 rfl ?_
        refine g_sub (le_1 rfl (le_1 rfl (le_1 (ei (by rw [bsM_f (fun z => c41 z.2)])) (le_1 (ei (by rw [bsM_f (fun z => c41 z.2)])) (le_1 e_1 (le_0 le_n)))))) (ih ((i + 1, _)) ?_ ?_)
        · try dsimp only
          omega
        · try dsimp only
          omega
    · refine g_goto (tgt := 53) X dX2_best_27 rfl ?_
      refine g_iinc (v := 1) X dX2_best_53 rfl rfl (Nat.le_of_ble_eq_true rfl) ?_
      refine g_goto (tgt := 11) X dX2_best_56 rfl ?_
      refine g_sub (le_1 rfl (le_1 rfl (le_1 (ei (by rw [bsM_f (fun z => c24 (orM_iff.mpr z.1))])) (le_1 (ei (by rw [bsM_f (fun z => c24 (orM_iff.mpr z.1))])) (le_1 e_1 (le_0 le_n)))))) (ih ((i + 1, g)) ?_ ?_)
      · try dsimp only
        omega
      · try dsimp only
        omega
