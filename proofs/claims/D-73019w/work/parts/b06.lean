/-! till when claims are barred: never below 0 -/
def tlA (A : Nat → Int32) : Prop := ∀ c, c < 8 → 0 ≤ A (9 + c)
theorem tl_cl {A : Nat → Int32} (h : tlA A) : tlA (clA A 8) := fun c hc => by
  rw [clA_g hc]
  split
  · decide
  · exact h c hc
theorem tl_rf {n : Nat} {f : Nat → Int32} {v i sp : Nat} {A : Nat → Int32} (hi : i < 5) (hs5 : A 5 = nI sp) (hsp : sp ≤ 9999) (h : tlA A) : tlA (rfM n f v i A).1 := by
  intro c hc
  by_cases h0 : n = 0
  · rw [rfM_0 h0]; exact h c hc
  by_cases h1 : hs (A 7) (nI (v % n))
  · rw [rfM_1 h0 h1]
    dsimp only
    rw [upd_n (by omega)]
    exact h c hc
  by_cases h2 : csP n f (A 7) (fun k => A (9 + k)) (nI (v % n))
  · rw [rfM_2 h0 h1 h2]
    dsimp only
    rw [upd_n (by omega), upd_n (by omega)]
    exact h c hc
  · rw [rfM_3 h0 h1 h2]
    dsimp only
    rw [upd_n (by omega)]
    split
    · by_cases e : 9 + c = 9 + v % n
      · rw [e, upd_s, hs5]
        show 0 ≤ nI sp + nI 3
        rw [nI_add]
        exact nI_pos' (by omega)
      · rw [upd_n e, upd_n (by omega)]
        exact h c hc
    · rw [upd_n (by omega)]
      exact h c hc
theorem tl_bMs {n v sp : Nat} {g A cl : Nat → Int32} {bad : Int32} (hn : n ≤ 8) (hsp : sp ≤ 9999) (hs5 : A 5 = nI sp) (h : tlA A) : ∀ {i : Nat}, i ≤ 5 → tlA (bMs n g (A, v, cl, bad) i).1 ∧ (bMs n g (A, v, cl, bad) i).1 5 = nI sp
  | 0, _ => by rw [bMs_0]; exact ⟨h, hs5⟩
  | i + 1, hi => by
    obtain ⟨z1, z2⟩ := tl_bMs (n := n) (v := v) (g := g) (cl := cl) (bad := bad) hn hsp hs5 h (i := i) (by omega)
    rw [bMs_s]
    exact ⟨tl_rf (by omega) z2 hsp z1, (rfM_n (by omega) hn (by omega)).trans z2⟩
theorem cM_t {wr : Bool} {V : Nat → Nat → Int32} {cl : Nat → Int32} {z : Int32} {f k : Nat} {q : pC} (hk : k < 17) (h8 : k ≠ 8) : (cM wr V cl z f q).1 k = q.1 k := by
  unfold cM
  dsimp only
  split
  · rw [wmC_n (by omega) h8, upd_n (by omega)]
  · rw [upd_n (by omega)]
theorem cM1_tt {wr : Bool} {V : Nat → Nat → Int32} {cl : Nat → Int32} {bad : Int32} {q0 : pC} {k : Nat} (hk : k < 17) (h8 : k ≠ 8) : ∀ {i : Nat}, (cM1 wr V cl bad q0 i).1 k = q0.1 k
  | 0 => by rw [cM1_0]
  | i + 1 => by
    by_cases c : hs bad (nI i)
    · rw [cM1_t c]
      exact cM1_tt hk h8
    · rw [cM1_f c, cM_t hk h8]
      exact cM1_tt hk h8
theorem cM2_tt {wr : Bool} {V : Nat → Nat → Int32} {cl : Nat → Int32} {bad : Int32} {q0 : pC} {k nf : Nat} (hk : k < 17) (h8 : k ≠ 8) : ∀ {i : Nat}, (cM2 wr V cl bad nf q0 i).1 k = q0.1 k
  | 0 => by rw [cM2_0]
  | i + 1 => by
    by_cases c : hs bad (nI (nf - 1 - i))
    · rw [cM2_t rfl c, cM_t hk h8]
      exact cM2_tt hk h8
    · rw [cM2_f rfl c]
      exact cM2_tt hk h8
theorem pmA_tl {wr : Bool} {o A : Nat → Int32} {n nf : Nat} {g : Nat → Int32} {W : Option mnB} (hn : n ≤ 8) (hf : nf ≤ 5) (hr : rwM A) (h : tlA A) : tlA (pmA wr o n nf g W A).1 := by
  obtain ⟨-, sp, hsp, e⟩ := hr
  intro c hc
  unfold pmA
  dsimp only
  rw [upd_n (by omega)]
  unfold pdA
  rw [cM2_tt (by omega) (by omega), cM1_tt (by omega) (by omega)]
  dsimp only
  unfold pbA
  exact (tl_bMs hn hsp ((clA_n (by omega)).trans ((upd_n (by omega)).trans e)) (tl_cl h) hf).1 c hc
theorem tl_kp {A : Nat → Int32} {ns : Nat} (hns : ns ≤ 30) (h : tlA A) : tlA (kpM A ns) := fun c hc => by
  rw [kpM_n hns (by omega)]
  exact h c hc
theorem tla_u {A : Nat → Int32} {k : Nat} {v : Int32} (h : tlA A) (hk : k < 9 ∨ 17 ≤ k ∨ 0 ≤ v) : tlA (upd A k v) := fun c hc => by
  by_cases e : 9 + c = k
  · rw [e, upd_s]
    rcases hk with z | z | z
    · omega
    · omega
    · exact z
  · rw [upd_n e]
    exact h c hc
theorem hpA_tl {o A : Nat → Int32} {n nf x : Nat} {g : Nat → Int32} {W : Option mnB} (hn : n ≤ 8) (hf : nf ≤ 5) (hr : rwM A) (h : tlA A) : tlA (hpA o n nf g W A x) := by
  unfold hpA
  split
  · split
    · exact tla_u h (by omega)
    · exact h
  split
  · split
    · exact tla_u h (by omega)
    · exact h
  split
  · split
    · exact tla_u h (Or.inr (Or.inr (by decide)))
    · exact h
  split
  · exact pmA_tl hn hf hr h
  · exact h
abbrev beX (i : Nat) : Prop := i = 11
set_option maxHeartbeats 600000 in
theorem k_X0_befalls {l : Launch} {E : gk_E} (ho : E.2.2.2.2 = true) {S : gk_S} {x : Int32} {a n nf xx ns : Nat} {g o A : Nat → Int32} {W : Option mnB} (hx : x = nI xx) (hx2 : xx < 30859) (hx4 : xx % 6 < 4) (hu : RU E S a n g) (hk : CoK S A ns) (hz : tlA A) : gk_T l E yX0_befalls cX0_befalls 3 (none) 6 124 0 0 [.ref (E.2.2.1 0), .int x] S (fun r S' => r = none ∧ CoK S' (hpA o n nf g W A xx) ns ∧ FrC beX S S') := by
  refine gk_T.of [some (.ref (E.2.2.1 0)), some (.int x), none] (by decide) (Nat.le_of_ble_eq_true rfl) (le_1 rfl (le_1 rfl (le_p le_n))) ?_
  intro p_ e_ R_ s_ m_ args_ below_ meth_ c_ hR X hr hin
  subst hR
  refine g_iload_n X dX0_befalls_0 rfl ?_
  refine g_bipush (v := 6) X dX0_befalls_1 rfl ?_
  refine g_idiv X dX0_befalls_3 (by decide) ?_
  refine g_bipush (v := 8) X dX0_befalls_4 rfl ?_
  refine g_irem X dX0_befalls_6 (by decide) ?_
  refine g_top (y := nI (xx / 6 % 8)) (by rw [hx]; show (nI xx / nI 6) - (nI xx / nI 6) / nI 8 * nI 8 = _; rw [pk_div (by omega) (by decide) (by decide), pk_rem (by omega) (by decide) (by decide)]) ?_
  have hc8 : xx / 6 % 8 < 8 := Nat.mod_lt _ (by decide)
  refine g_istore_n X dX0_befalls_7 (Nat.le_of_ble_eq_true rfl) ?_
  refine g_iload_n X dX0_befalls_8 rfl ?_
  refine g_bipush (v := 6) X dX0_befalls_9 rfl ?_
  refine g_irem X dX0_befalls_11 (by decide) ?_
  obtain ⟨y6, hy6⟩ : ∃ y, y = nI (xx % 6) := ⟨_, rfl⟩
  refine g_top (y := y6) (by rw [hy6, hx]; show nI xx - nI xx / nI 6 * nI 6 = _; rw [pk_rem (by omega) (by decide) (by decide)]) ?_
  have hcs : y6 = 0 ∨ y6 = 1 ∨ y6 = 2 ∨ y6 = 3 := by
    rw [hy6]
    rcases (show xx % 6 = 0 ∨ xx % 6 = 1 ∨ xx % 6 = 2 ∨ xx % 6 = 3 by omega) with e | e | e | e <;> rw [e] <;> decide
  rcases hcs with rfl | rfl | rfl | rfl
  · refine g_lookup (off := 79) (tgt := 91) X dX0_befalls_12 (by decide) (by decide) rfl ?_
    refine g_aload_n X dX0_befalls_91 rfl ?_
    refine g_iload_n X dX0_befalls_92 rfl ?_
    refine g_callV (C := RX0) (T := TX0) (N := 13) X (k_X0_canSay ho hu) (lw_V q1078 q1080 qs35 q135 q1081) hd_X0_canSay dX0_befalls_93 (rd0 ho) rfl rfl ⟨Nat.le_of_ble_eq_true rfl, Nat.le_of_ble_eq_true rfl⟩ ⟨Nat.le_of_ble_eq_true rfl, Nat.le_of_ble_eq_true rfl⟩ (Nat.le_of_ble_eq_true rfl) ?_
    rintro _ S1 ⟨rfl, hS1⟩
    obtain rfl := hS1.symm
    refine g_ifp_eq (tgt := 114) X dX0_befalls_96 rfl (fun c96 => ?_) (fun c96 => ?_)
    · exact g_vret X hr dX0_befalls_114 (Nat.le_of_ble_eq_true rfl) (Nat.le_of_ble_eq_true rfl) (⟨rfl, by rw [hp_s (dec_0 hy6.symm), if_neg (fun z => c96 ((cs_iff hu.1 hk.1.1).mpr z))]; exact hk, FrC.rf⟩)
    · refine g_aload_n X dX0_befalls_99 rfl ?_
      refine g_get (C := RX0) (T := TX0) (N := 13) X 0 in_X0 dX0_befalls_100 q241 (rd0 ho) rfl (Nat.le_of_ble_eq_true rfl) (fun _ h9 => h9) rfl ?_
      refine g_getN (C := RX1) (T := TX1) (N := 8) X 1 in_X1 dX0_befalls_103 q197 (rd1 ho) rfl (Nat.le_of_ble_eq_true rfl) (fun _ h9 => h9) rfl ?_
      refine g_iconst (v := 2) X dX0_befalls_106 rfl ?_
      refine g_dup2_11 X dX0_befalls_107 rfl rfl ?_
      refine g_iald (j := 2) X dX0_befalls_108 (rdi ho (11) (rfl)) rfl (by decide) (by decide) ?_
      refine g_iconst (v := 1) X dX0_befalls_109 rfl ?_
      refine g_iload_n X dX0_befalls_110 rfl ?_
      refine g_ishl X dX0_befalls_111 ?_
      refine g_ior X dX0_befalls_112 ?_
      refine g_iast X ho (11) (j := 2) dX0_befalls_113 rfl (rfl) rfl (by decide) (by decide) ?_
      exact g_vret X hr dX0_befalls_114 (Nat.le_of_ble_eq_true rfl) (Nat.le_of_ble_eq_true rfl) (⟨rfl, by rw [hp_s (dec_0 hy6.symm), if_pos ((cs_iff hu.1 hk.1.1).mp c96), ← hk.1.1.2.2.1]; exact co_u2 hk, FrC.si rfl (by decide)⟩)
  · refine g_lookup (off := 79) (tgt := 91) X dX0_befalls_12 (by decide) (by decide) rfl ?_
    refine g_aload_n X dX0_befalls_91 rfl ?_
    refine g_iload_n X dX0_befalls_92 rfl ?_
    refine g_callV (C := RX0) (T := TX0) (N := 13) X (k_X0_canSay ho hu) (lw_V q1078 q1080 qs35 q135 q1081) hd_X0_canSay dX0_befalls_93 (rd0 ho) rfl rfl ⟨Nat.le_of_ble_eq_true rfl, Nat.le_of_ble_eq_true rfl⟩ ⟨Nat.le_of_ble_eq_true rfl, Nat.le_of_ble_eq_true rfl⟩ (Nat.le_of_ble_eq_true rfl) ?_
    rintro _ S1 ⟨rfl, hS1⟩
    obtain rfl := hS1.symm
    refine g_ifp_eq (tgt := 114) X dX0_befalls_96 rfl (fun c96 => ?_) (fun c96 => ?_)
    · exact g_vret X hr dX0_befalls_114 (Nat.le_of_ble_eq_true rfl) (Nat.le_of_ble_eq_true rfl) (⟨rfl, by rw [hp_s (dec_1 hy6.symm), if_neg (fun z => c96 ((cs_iff hu.1 hk.1.1).mpr z))]; exact hk, FrC.rf⟩)
    · refine g_aload_n X dX0_befalls_99 rfl ?_
      refine g_get (C := RX0) (T := TX0) (N := 13) X 0 in_X0 dX0_befalls_100 q241 (rd0 ho) rfl (Nat.le_of_ble_eq_true rfl) (fun _ h9 => h9) rfl ?_
      refine g_getN (C := RX1) (T := TX1) (N := 8) X 1 in_X1 dX0_befalls_103 q197 (rd1 ho) rfl (Nat.le_of_ble_eq_true rfl) (fun _ h9 => h9) rfl ?_
      refine g_iconst (v := 2) X dX0_befalls_106 rfl ?_
      refine g_dup2_11 X dX0_befalls_107 rfl rfl ?_
      refine g_iald (j := 2) X dX0_befalls_108 (rdi ho (11) (rfl)) rfl (by decide) (by decide) ?_
      refine g_iconst (v := 1) X dX0_befalls_109 rfl ?_
      refine g_iload_n X dX0_befalls_110 rfl ?_
      refine g_ishl X dX0_befalls_111 ?_
      refine g_ior X dX0_befalls_112 ?_
      refine g_iast X ho (11) (j := 2) dX0_befalls_113 rfl (rfl) rfl (by decide) (by decide) ?_
      exact g_vret X hr dX0_befalls_114 (Nat.le_of_ble_eq_true rfl) (Nat.le_of_ble_eq_true rfl) (⟨rfl, by rw [hp_s (dec_1 hy6.symm), if_pos ((cs_iff hu.1 hk.1.1).mp c96), ← hk.1.1.2.2.1]; exact co_u2 hk, FrC.si rfl (by decide)⟩)
  · refine g_lookup (off := 28) (tgt := 40) X dX0_befalls_12 (by decide) (by decide) rfl ?_
    refine g_aload_n X dX0_befalls_40 rfl ?_
    refine g_iload_n X dX0_befalls_41 rfl ?_
    refine g_callV (C := RX0) (T := TX0) (N := 13) X (k_X0_canRetract ho hu) (lw_V q1090 q1092 qs37 q135 q1093) hd_X0_canRetract dX0_befalls_42 (rd0 ho) rfl rfl ⟨Nat.le_of_ble_eq_true rfl, Nat.le_of_ble_eq_true rfl⟩ ⟨Nat.le_of_ble_eq_true rfl, Nat.le_of_ble_eq_true rfl⟩ (Nat.le_of_ble_eq_true rfl) ?_
    rintro _ S1 ⟨rfl, hS1⟩
    obtain rfl := hS1.symm
    refine g_ifp_eq (tgt := 114) X dX0_befalls_45 rfl (fun c45 => ?_) (fun c45 => ?_)
    · exact g_vret X hr dX0_befalls_114 (Nat.le_of_ble_eq_true rfl) (Nat.le_of_ble_eq_true rfl) (⟨rfl, by rw [hp_r (dec_2 hy6.symm), if_neg (fun z => c45 ((re_iff hk.1.1).mpr z))]; exact hk, FrC.rf⟩)
    · refine g_aload_n X dX0_befalls_48 rfl ?_
      refine g_get (C := RX0) (T := TX0) (N := 13) X 0 in_X0 dX0_befalls_49 q241 (rd0 ho) rfl (Nat.le_of_ble_eq_true rfl) (fun _ h9 => h9) rfl ?_
      refine g_getN (C := RX1) (T := TX1) (N := 8) X 1 in_X1 dX0_befalls_52 q197 (rd1 ho) rfl (Nat.le_of_ble_eq_true rfl) (fun _ h9 => h9) rfl ?_
      refine g_iconst (v := 2) X dX0_befalls_55 rfl ?_
      refine g_dup2_11 X dX0_befalls_56 rfl rfl ?_
      refine g_iald (j := 2) X dX0_befalls_57 (rdi ho (11) (rfl)) rfl (by decide) (by decide) ?_
      refine g_iconst (v := 1) X dX0_befalls_58 rfl ?_
      refine g_iload_n X dX0_befalls_59 rfl ?_
      refine g_ishl X dX0_befalls_60 ?_
      refine g_iconst (v := (-1)) X dX0_befalls_61 rfl ?_
      refine g_ixor X dX0_befalls_62 ?_
      refine g_iand X dX0_befalls_63 ?_
      refine g_iast X ho (11) (j := 2) dX0_befalls_64 rfl (rfl) rfl (by decide) (by decide) ?_
      refine g_goto (tgt := 114) X dX0_befalls_65 rfl ?_
      exact g_vret X hr dX0_befalls_114 (Nat.le_of_ble_eq_true rfl) (Nat.le_of_ble_eq_true rfl) (⟨rfl, by rw [hp_r (dec_2 hy6.symm), if_pos ((re_iff hk.1.1).mp c45), ← hk.1.1.2.2.1]; exact co_u2 hk, FrC.si rfl (by decide)⟩)
  · refine g_lookup (off := 56) (tgt := 68) X dX0_befalls_12 (by decide) (by decide) rfl ?_
    refine g_aload_n X dX0_befalls_68 rfl ?_
    refine g_iload_n X dX0_befalls_69 rfl ?_
    refine g_callV (C := RX0) (T := TX0) (N := 13) X (k_X0_canPardon ho hu) (lw_V q1098 q1100 qs38 q135 q1101) hd_X0_canPardon dX0_befalls_70 (rd0 ho) rfl rfl ⟨Nat.le_of_ble_eq_true rfl, Nat.le_of_ble_eq_true rfl⟩ ⟨Nat.le_of_ble_eq_true rfl, Nat.le_of_ble_eq_true rfl⟩ (Nat.le_of_ble_eq_true rfl) ?_
    rintro _ S1 ⟨rfl, hS1⟩
    obtain rfl := hS1.symm
    refine g_ifp_eq (tgt := 114) X dX0_befalls_73 rfl (fun c73 => ?_) (fun c73 => ?_)
    · exact g_vret X hr dX0_befalls_114 (Nat.le_of_ble_eq_true rfl) (Nat.le_of_ble_eq_true rfl) (⟨rfl, by rw [hp_p (dec_3 hy6.symm), if_neg (fun z => c73 ((pd_iff hu.1 hk.1.1 hz).mpr z))]; exact hk, FrC.rf⟩)
    · refine g_aload_n X dX0_befalls_76 rfl ?_
      refine g_get (C := RX0) (T := TX0) (N := 13) X 0 in_X0 dX0_befalls_77 q241 (rd0 ho) rfl (Nat.le_of_ble_eq_true rfl) (fun _ h9 => h9) rfl ?_
      refine g_getN (C := RX1) (T := TX1) (N := 8) X 1 in_X1 dX0_befalls_80 q197 (rd1 ho) rfl (Nat.le_of_ble_eq_true rfl) (fun _ h9 => h9) rfl ?_
      refine g_iconst (v := 3) X dX0_befalls_83 rfl ?_
      refine g_iload_n X dX0_befalls_84 rfl ?_
      refine g_iadd X dX0_befalls_85 ?_
      refine g_iconst (v := 0) X dX0_befalls_86 rfl ?_
      refine g_iast X ho (11) (j := 3 + xx / 6 % 8) dX0_befalls_87 rfl (rfl) (by show nI 3 + nI _ = _; rw [nI_add]) (by omega) (by decide) ?_
      refine g_goto (tgt := 114) X dX0_befalls_88 rfl ?_
      exact g_vret X hr dX0_befalls_114 (Nat.le_of_ble_eq_true rfl) (Nat.le_of_ble_eq_true rfl) (⟨rfl, by rw [hp_p (dec_3 hy6.symm), if_pos ((pd_iff hu.1 hk.1.1 hz).mp c73)]; exact co_u3 hc8 hk, FrC.si rfl (by decide)⟩)
set_option maxHeartbeats 2000000 in
theorem k_X0_years {l : Launch} {E : gk_E} (ho : E.2.2.2.2 = true) {S : gk_S} {x : Int32} {y : Int32} {ic : Nat → Nat} {a n nf ns : Nat} {g o A : Nat → Int32} {W : Option mnB} (he : EnC E ic S a n nf g W) (hk : CoK S A ns) (hl : ldR S A) (hz : tlA A) : gk_T l E yX0_years cX0_years 7 ((some .int)) 253 8078 0 0 [.ref (E.2.2.1 0), .int x, .int y] S (fun r S' => r = some (.int (if yeP x y then yrA o n nf g W (upd (kpM A ns) 6 (x * 2 + 359)) (ix y) 5 else -1)) ∧ (∃ ns', CoK S' (if yeP x y then yrA o n nf g W (upd (kpM A ns) 6 (x * 2 + 359)) (ix y) else A) ns') ∧ FrC spX S S' ∧ (∀ j, j ≠ 3 → S'.1 10 j = S.1 10 j)) := by
  refine gk_T.of [some (.ref (E.2.2.1 0)), some (.int x), some (.int y), none, none, none, none] (by decide) (Nat.le_of_ble_eq_true rfl) (le_1 rfl (le_1 rfl (le_1 rfl (le_p (le_p (le_p (le_p le_n))))))) ?_
  intro p_ e_ R_ s_ m_ args_ below_ meth_ c_ hR X hr hin
  subst hR
  refine g_iload_n X dX0_years_0 rfl ?_
  refine g_iconst (v := 0) X dX0_years_1 rfl ?_
  refine g_sipush (v := 9999) X dX0_years_2 rfl ?_
  refine g_callS X (k_X0_in ho) (lw_S q291 q292 q135 q293) hd_X0_in dX0_years_5 rfl ⟨Nat.le_of_ble_eq_true rfl, Nat.le_of_ble_eq_true rfl⟩ ⟨Nat.le_of_ble_eq_true rfl, Nat.le_of_ble_eq_true rfl⟩ (Nat.le_of_ble_eq_true rfl) ?_
  rintro _ S1 ⟨rfl, hS1⟩
  obtain rfl := hS1.symm
  refine g_ifp_eq (tgt := 21) X dX0_years_8 rfl (fun c8 => ?_) (fun c8 => ?_)
  · refine g_iconst (v := (-1)) X dX0_years_21 rfl ?_
    exact g_iret X hr dX0_years_22 (Nat.le_of_ble_eq_true rfl) (Nat.le_of_ble_eq_true rfl) (⟨by rw [if_neg (fun z => c8 z.1)], ⟨ns, by rw [if_neg (fun z => c8 z.1)]; exact hk⟩, FrC.rf, fun _ _ => rfl⟩)
  · refine g_iload_n X dX0_years_11 rfl ?_
    refine g_iconst (v := 1) X dX0_years_12 rfl ?_
    refine g_bipush (v := 40) X dX0_years_13 rfl ?_
    refine g_callS X (k_X0_in ho) (lw_S q291 q292 q135 q293) hd_X0_in dX0_years_15 rfl ⟨Nat.le_of_ble_eq_true rfl, Nat.le_of_ble_eq_true rfl⟩ ⟨Nat.le_of_ble_eq_true rfl, Nat.le_of_ble_eq_true rfl⟩ (Nat.le_of_ble_eq_true rfl) ?_
    rintro _ S1 ⟨rfl, hS1⟩
    obtain rfl := hS1.symm
    refine g_ifp_ne (tgt := 23) X dX0_years_18 rfl (fun c18 => ?_) (fun c18 => ?_)
    · have hP : yeP x y := ⟨c8, c18⟩
      have hxx := ix_i c8.1
      have hxb : ix x ≤ 9999 := ix_le 9999 (by decide) c8.1 c8.2
      have hyy := ix_i (Int32.le_trans (by decide) c18.1)
      have hyb : ix y ≤ 40 := ix_le 40 (by decide) (Int32.le_trans (by decide) c18.1) c18.2
      obtain ⟨yy, hyye⟩ : ∃ yy, yy = ix y := ⟨_, rfl⟩
      have hxe : x * 2 + 359 = nI (ix x * 2 + 359) := by
        have e : x * 2 + 359 = nI (ix x) * nI 2 + nI 359 := congrArg (fun z => z * 2 + 359) hxx
        rw [e, pk_mul, nI_add]
      have hxl : ix x * 2 + 359 < 30859 := by omega
      obtain ⟨k1, k2, k3, k4⟩ := kp_st hk
      refine g_aload_n X dX0_years_23 rfl ?_
      refine g_get (C := RX0) (T := TX0) (N := 13) X 0 in_X0 dX0_years_24 q241 (rd0 ho) rfl (Nat.le_of_ble_eq_true rfl) (fun _ h9 => h9) rfl ?_
      refine g_callV (C := RX1) (T := TX1) (N := 8) X (k_X1_keeps ho hk.2.2.2.1 hk.2.2.1) (lw_V q1003 q1004 q1005 q136 q1006) hd_X1_keeps dX0_years_27 (rd1 ho) rfl rfl ⟨Nat.le_of_ble_eq_true rfl, Nat.le_of_ble_eq_true rfl⟩ ⟨Nat.le_of_ble_eq_true rfl, Nat.le_of_ble_eq_true rfl⟩ (Nat.le_of_ble_eq_true rfl) ?_
      rintro _ S1 ⟨rfl, hS1⟩
      obtain rfl := hS1.symm
      refine g_aload_n X dX0_years_30 rfl ?_
      refine g_get (C := RX0) (T := TX0) (N := 13) X 0 in_X0 dX0_years_31 q241 (rd0 ho) rfl (Nat.le_of_ble_eq_true rfl) (fun _ h9 => h9) rfl ?_
      refine g_getN (C := RX1) (T := TX1) (N := 8) X 1 in_X1 dX0_years_34 q197 (rd1 ho) rfl (Nat.le_of_ble_eq_true rfl) (fun _ h9 => h9) rfl ?_
      refine g_iconst (v := 1) X dX0_years_37 rfl ?_
      refine g_iload_n X dX0_years_38 rfl ?_
      refine g_iconst (v := 2) X dX0_years_39 rfl ?_
      refine g_imul X dX0_years_40 ?_
      refine g_sipush (v := 359) X dX0_years_41 rfl ?_
      refine g_iadd X dX0_years_44 ?_
      refine g_iast X ho (11) (j := 1) dX0_years_45 rfl (rfl) rfl (by decide) (by decide) ?_
      refine g_iconst (v := 0) X dX0_years_46 rfl ?_
      refine g_istore_n X dX0_years_47 (Nat.le_of_ble_eq_true rfl) ?_
      refine g_iconst (v := 0) X dX0_years_48 rfl ?_
      refine g_istore X dX0_years_49 (Nat.le_of_ble_eq_true rfl) ?_
      refine g_loop (σ := Nat × gk_S × Int32) (fun (q : Nat × gk_S × Int32) => match q with | (i, S1, lo) => S1) (fun (q : Nat × gk_S × Int32) => match q with | (i, S1, lo) => ([some (.ref (E.2.2.1 0)), some (.int x), some (.int y), some (.int lo), some (.int (nI i)), none, none] : List (Option Value))) (fun (q : Nat × gk_S × Int32) => match q with | (i, S1, lo) => i ≤ yy ∧ CoK S1 (yrA o n nf g W (upd (kpM A ns) 6 (x * 2 + 359)) i) (kpN ns) ∧ EnC E ic S1 a n nf g W ∧ ldR S1 (yrA o n nf g W (upd (kpM A ns) 6 (x * 2 + 359)) i) ∧ FrC spX S S1 ∧ (∀ j, j ≠ 3 → S1.1 10 j = S.1 10 j) ∧ tlA (yrA o n nf g W (upd (kpM A ns) 6 (x * 2 + 359)) i)) (fun (q : Nat × gk_S × Int32) => match q with | (i, S1, lo) => yy - i) ((0, gk_si (kpS S ns) 11 (upd ((kpS S ns).1 11) 1 (x * 2 + 359)), 0)) ?_ (rfl) (le_1 rfl (le_1 rfl (le_1 rfl (le_1 rfl (le_1 rfl (le_0 (le_0 le_n))))))) ?_
      · exact ⟨Nat.zero_le _, by rw [yrA_0, hxe]; exact co_u1 hxl k1, he.c (by rw [si_n (by decide)]; exact k3 0 (by decide)) (by rw [si_n (by decide)]; exact k3 2 (by decide)) k2.1, by rw [yrA_0]; exact ldR_f hl ((k2.mono (Y := spX) (fun i hi => by omega)).tr (FrC.si (Or.inr (Or.inl rfl)) (by decide))) (fun i hi => by omega) (fun k hk2 => by rw [upd_n (by omega)]; exact kpM_n hk.2.2.1 (by omega)), (k2.mono (fun i hi => by omega)).tr (FrC.si (Or.inr (Or.inl rfl)) (by decide)), fun j hj => by rw [si_n (by decide)]; exact k3 j hj, by rw [yrA_0]; exact tla_u (tl_kp hk.2.2.1 hz) (by omega)⟩
      rintro ⟨i, S1, lo⟩ hI ih
      try dsimp only at hI ih ⊢
      obtain ⟨hI1, hI2, hI3, hI4, hI5, hI6, hI7⟩ := hI
      refine g_iload X dX0_years_51 rfl ?_
      refine g_iload_n X dX0_years_53 rfl ?_
      refine g_icmp_ge (tgt := 134) X dX0_years_54 rfl (fun c54 => ?_) (fun c54 => ?_)
      · have hiy : yy = i := Nat.le_antisymm ((nI_leI (by omega) (by omega)).mp (by rw [hyye, ← hyy]; exact c54)) hI1
        subst hiy
        refine g_aload_n X dX0_years_134 rfl ?_
        refine g_get (C := RX0) (T := TX0) (N := 13) X 0 in_X0 dX0_years_135 q241 (rd0 ho) rfl (Nat.le_of_ble_eq_true rfl) (fun _ h9 => h9) rfl ?_
        refine g_getN (C := RX1) (T := TX1) (N := 8) X 1 in_X1 dX0_years_138 q197 (rd1 ho) rfl (Nat.le_of_ble_eq_true rfl) (fun _ h9 => h9) rfl ?_
        refine g_iconst (v := 0) X dX0_years_141 rfl ?_
        refine g_iald (j := 0) X dX0_years_142 (rdi ho (11) (rfl)) rfl (by decide) (by decide) ?_
        exact g_iret X hr dX0_years_143 (Nat.le_of_ble_eq_true rfl) (Nat.le_of_ble_eq_true rfl) (⟨by rw [if_pos hP, ← hyye, ← hI2.1.1.1], ⟨kpN ns, by rw [if_pos hP, ← hyye]; exact hI2⟩, hI5, hI6⟩)
      · have hiy : i < yy := (nI_ltI (by omega) (by omega)).mp (Int32.not_le.mp (by rw [hyye, ← hyy]; exact c54))
        obtain ⟨v, hv2, hv⟩ := hI2.2.1.1.1
        have hv6 : ix (yrA o n nf g W (upd (kpM A ns) 6 (x * 2 + 359)) i 6) = v := by rw [hv, ix_n (by omega)]
        have hyi : yrA o n nf g W (upd (kpM A ns) 6 (x * 2 + 359)) (i + 1) = hpA o n nf g W (upd (yrA o n nf g W (upd (kpM A ns) 6 (x * 2 + 359)) i) 6 (nI (dwN v))) v := by rw [yrA_s, hv6]
        have hR1 : S1.1 11 1 = nI v := hI2.1.1.2.1.trans hv
        have hKd := co_u1 (v := dwN v) dwN_lt hI2
        have hr6 : rwM (upd (yrA o n nf g W (upd (kpM A ns) 6 (x * 2 + 359)) i) 6 (nI (dwN v))) := hKd.2.1
        have hz6 : tlA (upd (yrA o n nf g W (upd (kpM A ns) 6 (x * 2 + 359)) i) 6 (nI (dwN v))) := tla_u hI7 (by omega)
        have hFd : FrC beX S1 (gk_si S1 11 (upd (S1.1 11) 1 (nI (dwN v)))) := FrC.si rfl (by decide)
        obtain ⟨q1, q2⟩ := hpA_ok (o := o) (g := g) (W := W) (x := v) hI3.1.1 hI3.2.2.1 hr6
        refine g_aload_n X dX0_years_57 rfl ?_
        refine g_get (C := RX0) (T := TX0) (N := 13) X 0 in_X0 dX0_years_58 q241 (rd0 ho) rfl (Nat.le_of_ble_eq_true rfl) (fun _ h9 => h9) rfl ?_
        refine g_getN (C := RX1) (T := TX1) (N := 8) X 1 in_X1 dX0_years_61 q197 (rd1 ho) rfl (Nat.le_of_ble_eq_true rfl) (fun _ h9 => h9) rfl ?_
        refine g_iconst (v := 1) X dX0_years_64 rfl ?_
        refine g_iald (j := 1) X dX0_years_65 (rdi ho (11) (rfl)) rfl (by decide) (by decide) ?_
        refine g_top (y := nI v) hR1 ?_
        refine g_istore X dX0_years_66 (Nat.le_of_ble_eq_true rfl) ?_
        refine g_aload_n X dX0_years_68 rfl ?_
        refine g_get (C := RX0) (T := TX0) (N := 13) X 0 in_X0 dX0_years_69 q241 (rd0 ho) rfl (Nat.le_of_ble_eq_true rfl) (fun _ h9 => h9) rfl ?_
        refine g_getN (C := RX1) (T := TX1) (N := 8) X 1 in_X1 dX0_years_72 q197 (rd1 ho) rfl (Nat.le_of_ble_eq_true rfl) (fun _ h9 => h9) rfl ?_
        refine g_iconst (v := 2) X dX0_years_75 rfl ?_
        refine g_callS X (k_X0_drawn ho (S := S1) rfl (by decide)) (lw_S q1025 q1026 q135 q1027) hd_X0_drawn dX0_years_76 rfl ⟨Nat.le_of_ble_eq_true rfl, Nat.le_of_ble_eq_true rfl⟩ ⟨Nat.le_of_ble_eq_true rfl, Nat.le_of_ble_eq_true rfl⟩ (Nat.le_of_ble_eq_true rfl) ?_
        rintro _ S3 ⟨rfl, hS3⟩
        obtain rfl := hS3.symm
        refine g_eq (S2 := gk_si S1 11 (upd (S1.1 11) 1 (nI (dwN v)))) (by rw [hR1, dw_C hv2]) ?_
        refine g_istore X dX0_years_79 (Nat.le_of_ble_eq_true rfl) ?_
        refine g_iload X dX0_years_81 rfl ?_
        refine g_bipush (v := 6) X dX0_years_83 rfl ?_
        refine g_irem X dX0_years_85 (by decide) ?_
        refine g_top (y := nI (v % 6)) (by show nI v - nI v / nI 6 * nI 6 = _; rw [pk_rem (by omega) (by decide) (by decide)]) ?_
        refine g_iconst (v := 4) X dX0_years_86 rfl ?_
        refine g_icmp_ge (tgt := 99) X dX0_years_87 rfl (fun c87 => ?_) (fun c87 => ?_)
        · refine g_aload_n X dX0_years_99 rfl ?_
          refine g_get (C := RX0) (T := TX0) (N := 13) X 0 in_X0 dX0_years_100 q241 (rd0 ho) rfl (Nat.le_of_ble_eq_true rfl) (fun _ h9 => h9) rfl ?_
          refine g_getN (C := RX1) (T := TX1) (N := 8) X 1 in_X1 dX0_years_103 q197 (rd1 ho) rfl (Nat.le_of_ble_eq_true rfl) (fun _ h9 => h9) rfl ?_
          refine g_iconst (v := 0) X dX0_years_106 rfl ?_
          refine g_iald (j := 0) X dX0_years_107 (rdi ho (11) (rfl)) rfl (by decide) (by decide) ?_
          refine g_sipush (v := 9999) X dX0_years_108 rfl ?_
          refine g_icmp_ge (tgt := 128) X dX0_years_111 rfl (fun c111 => ?_) (fun c111 => ?_)
          · refine g_iinc (v := 1) X dX0_years_128 rfl rfl (Nat.le_of_ble_eq_true rfl) ?_
            refine g_goto (tgt := 51) X dX0_years_131 rfl ?_
            have hq4 : 4 ≤ v % 6 := (nI_leI (a := 4) (b := v % 6) (by decide) (by have := Nat.mod_lt v (show 6 > 0 by decide); omega)).mp c87
            have hno : ¬ upd (yrA o n nf g W (upd (kpM A ns) 6 (x * 2 + 359)) i) 6 (nI (dwN v)) 5 < 9999 := by
              rw [upd_n (by decide), ← hI2.1.1.1]
              exact Int32.not_lt.mpr c111
            have hyq : hpA o n nf g W (upd (yrA o n nf g W (upd (kpM A ns) 6 (x * 2 + 359)) i) 6 (nI (dwN v))) v = upd (yrA o n nf g W (upd (kpM A ns) 6 (x * 2 + 359)) i) 6 (nI (dwN v)) := by rw [hp_q hq4, if_neg hno]
            refine g_sub (le_1 rfl (le_1 rfl (le_1 rfl (le_1 rfl (le_1 e_1 (le_0 (le_0 le_n))))))) (ih (i + 1, gk_si S1 11 (upd (S1.1 11) 1 (nI (dwN v))), lo) ?_ ?_)
            · exact ⟨by omega, by rw [hyi]; exact (by rw [hyq]; exact hKd), hI3.c (by rw [show (gk_si S1 11 _).1 10 = S1.1 10 from si_n (by decide)]) (by rw [show (gk_si S1 11 _).1 10 = S1.1 10 from si_n (by decide)]) hFd.1, by rw [hyi]; exact ldR_f hI4 hFd (fun i hi => by omega) (fun k hk2 => (q2 k (by omega)).trans (upd_n (by omega))), hI5.tr (hFd.mono (fun i hi => by omega)), fun j hj => by rw [show (gk_si S1 11 _).1 10 = S1.1 10 from si_n (by decide)]; exact hI6 j hj, by rw [hyi]; exact hpA_tl hI3.1.1 hI3.2.2.1 hr6 hz6⟩
            · show yy - (i + 1) < yy - i; omega
          · have h5l : upd (yrA o n nf g W (upd (kpM A ns) 6 (x * 2 + 359)) i) 6 (nI (dwN v)) 5 < 9999 := by
              rw [upd_n (by decide), ← hI2.1.1.1]
              exact Int32.not_le.mp c111
            refine g_iload_n X dX0_years_114 rfl ?_
            refine g_aload_n X dX0_years_115 rfl ?_
            refine g_aload_n X dX0_years_116 rfl ?_
            refine g_get (C := RX0) (T := TX0) (N := 13) X 0 in_X0 dX0_years_117 q241 (rd0 ho) rfl (Nat.le_of_ble_eq_true rfl) (fun _ h9 => h9) rfl ?_
            refine g_getN (C := RX1) (T := TX1) (N := 8) X 1 in_X1 dX0_years_120 q197 (rd1 ho) rfl (Nat.le_of_ble_eq_true rfl) (fun _ h9 => h9) rfl ?_
            refine g_callV (C := RX0) (T := TX0) (N := 13) X (k_X0_passR_11 ho (S := gk_si S1 11 (upd (S1.1 11) 1 (nI (dwN v)))) (o := o) (hI3.c (by rw [si_n (by decide)]) (by rw [si_n (by decide)]) rfl) hKd.2.1 (ldR_f hI4 hFd (fun i hi => by omega) (fun k hk2 => upd_n (by omega))) hKd.1 (lt9 h5l)) (lw_V q1007 q1009 qs25 q135 q1010) hd_X0_passes dX0_years_123 (rd0 ho) rfl rfl ⟨Nat.le_of_ble_eq_true rfl, Nat.le_of_ble_eq_true rfl⟩ ⟨Nat.le_of_ble_eq_true rfl, Nat.le_of_ble_eq_true rfl⟩ (Nat.le_of_ble_eq_true rfl) ?_
            rintro _ S2 ⟨rfl, hR2, hF2⟩
            refine g_ior X dX0_years_126 ?_
            refine g_istore_n X dX0_years_127 (Nat.le_of_ble_eq_true rfl) ?_
            refine g_iinc (v := 1) X dX0_years_128 rfl rfl (Nat.le_of_ble_eq_true rfl) ?_
            refine g_goto (tgt := 51) X dX0_years_131 rfl ?_
            have hq4 : 4 ≤ v % 6 := (nI_leI (a := 4) (b := v % 6) (by decide) (by have := Nat.mod_lt v (show 6 > 0 by decide); omega)).mp c87
            have hyq : hpA o n nf g W (upd (yrA o n nf g W (upd (kpM A ns) 6 (x * 2 + 359)) i) 6 (nI (dwN v))) v = (pmA true o n nf g W (upd (yrA o n nf g W (upd (kpM A ns) 6 (x * 2 + 359)) i) 6 (nI (dwN v)))).1 := by rw [hp_q hq4, if_pos h5l]
            have hFb : FrC spX S1 S2 := (hFd.mono (fun i hi => by omega)).tr (hF2.mono (fun i hi => by omega))
            have hNb : S2.1 10 = S1.1 10 := (hF2.2.1 10 (by omega)).trans (si_n (by decide))
            refine g_sub (le_1 rfl (le_1 rfl (le_1 rfl (le_1 rfl (le_1 e_1 (le_0 (le_0 le_n))))))) (ih (i + 1, S2, lo ||| (pmA true o n nf g W (upd (yrA o n nf g W (upd (kpM A ns) 6 (x * 2 + 359)) i) 6 (nI (dwN v)))).2) ?_ ?_)
            · exact ⟨by omega, by rw [hyi]; exact (by rw [hyq]; exact co_pass hI3.1.1 hI3.2.2.1 hKd (lt9 h5l) hR2 hF2), hI3.c (by rw [hNb]) (by rw [hNb]) hFb.1, by rw [hyi]; exact ldR_f hI4 hFb (fun i hi => by omega) (fun k hk2 => (q2 k (by omega)).trans (upd_n (by omega))), hI5.tr (hFb.mono (fun i hi => by omega)), fun j hj => by rw [hNb]; exact hI6 j hj, by rw [hyi]; exact hpA_tl hI3.1.1 hI3.2.2.1 hr6 hz6⟩
            · show yy - (i + 1) < yy - i; omega
        · refine g_aload_n X dX0_years_90 rfl ?_
          refine g_iload X dX0_years_91 rfl ?_
          refine g_callV (C := RX0) (T := TX0) (N := 13) X (k_X0_befalls ho (S := gk_si S1 11 (upd (S1.1 11) 1 (nI (dwN v)))) (nf := nf) (o := o) (W := W) rfl hv2 (Nat.lt_of_not_le (fun z => c87 (nI_le (a := 4) z (by omega)))) (RU_c hI3.1 (by rw [si_n (by decide)]) rfl) hKd hz6) (lw_V q1148 q1150 qs41 q135 q1151) hd_X0_befalls dX0_years_93 (rd0 ho) rfl rfl ⟨Nat.le_of_ble_eq_true rfl, Nat.le_of_ble_eq_true rfl⟩ ⟨Nat.le_of_ble_eq_true rfl, Nat.le_of_ble_eq_true rfl⟩ (Nat.le_of_ble_eq_true rfl) ?_
          rintro _ S2 ⟨rfl, hK2, hF2⟩
          refine g_goto (tgt := 128) X dX0_years_96 rfl ?_
          refine g_iinc (v := 1) X dX0_years_128 rfl rfl (Nat.le_of_ble_eq_true rfl) ?_
          refine g_goto (tgt := 51) X dX0_years_131 rfl ?_
          have hFb : FrC beX S1 S2 := (hFd.mono (fun i hi => by omega)).tr hF2
          have hNb : S2.1 10 = S1.1 10 := (hF2.2.1 10 (by decide)).trans (si_n (by decide))
          refine g_sub (le_1 rfl (le_1 rfl (le_1 rfl (le_1 rfl (le_1 e_1 (le_0 (le_0 le_n))))))) (ih (i + 1, S2, lo) ?_ ?_)
          · exact ⟨by omega, by rw [hyi]; exact hK2, hI3.c (by rw [hNb]) (by rw [hNb]) hFb.1, by rw [hyi]; exact ldR_f hI4 hFb (fun i hi => by omega) (fun k hk2 => (q2 k (by omega)).trans (upd_n (by omega))), hI5.tr (hFb.mono (fun i hi => by omega)), fun j hj => by rw [hNb]; exact hI6 j hj, by rw [hyi]; exact hpA_tl hI3.1.1 hI3.2.2.1 hr6 hz6⟩
          · show yy - (i + 1) < yy - i; omega
    · refine g_iconst (v := (-1)) X dX0_years_21 rfl ?_
      exact g_iret X hr dX0_years_22 (Nat.le_of_ble_eq_true rfl) (Nat.le_of_ble_eq_true rfl) (⟨by rw [if_neg (fun z => c18 z.2)], ⟨ns, by rw [if_neg (fun z => c18 z.2)]; exact hk⟩, FrC.rf, fun _ _ => rfl⟩)
