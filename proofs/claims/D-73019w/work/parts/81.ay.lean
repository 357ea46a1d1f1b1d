/-- the worth of a Text at a1: none, or a sum -/
def wtO (E : gk_E) (ic : Nat → Nat) (g : gk_H) (a1 : Nat) (W : Option mnB) : Prop := (W = none ∧ ∃ (tb dl : Nat) (nc cl : Int32), g a1 = some (.inr (4, [.null, .ref tb, .int nc, .int cl, .ref dl]))) ∨ ∃ (M : mnB) (wa d tb dl : Nat) (nc cl : Int32), W = some M ∧ g a1 = some (.inr (4, [.ref wa, .ref tb, .int nc, .int cl, .ref dl])) ∧ den E ic g d true wa M ∧ d ≤ 60
def nm6 (o : Nat → Int32) (x4 x5 x6 x7 x8 x9 : Int32) : Nat → Int32 := upd (upd (upd (upd (upd (upd o 4 x4) 5 x5) 6 x6) 7 x7) 8 x8) 9 x9
def nmL (o : Nat → Int32) (b : Int32) (i : Nat) : Nat → Int32 := itr (fun c F => upd F (10 + c) ((b >>> (nI c &&& 31)) &&& 1)) i o
theorem nmL_s {o : Nat → Int32} {b : Int32} {i : Nat} : nmL o b (i + 1) = upd (nmL o b i) (10 + i) ((b >>> (nI i &&& 31)) &&& 1) := rfl
/-- the component's names for a farmer, a field, by a row -/
def nmC (S : gk_S) (q n f k : Nat) : Nat → Int32 := nmL (nm6 (S.1 301) (S.1 q 0) (nI k) (S.1 13 k) (nI f) (S.1 12 f) (S.1 (20 + f) k)) (S.1 q 2 &&& alC n) 8
def wvC (W : Option mnB) (F : Nat → Int32) : Int32 := hdC (match W with
  | none => (F 9).toInt64
  | some M => M F) (-99) 99
set_option maxHeartbeats 600000 in
theorem k_X0_worthBy_n_11 {l : Launch} {E : gk_E} (ho : E.2.2.2.2 = true) {S : gk_S} {x : Int32} {y : Int32} {a n f k : Nat} {g : Nat → Int32} {a1 tb dl : Nat} {nc cl : Int32} (hu : RU E S a n g) (hx : x = nI f) (hf : f < 5) (hy : y = nI k) (hk : k < 5) (ht : S.2.2.2 a1 = some (.inr (4, [.null, .ref tb, .int nc, .int cl, .ref dl]))) : gk_T l E yX0_worthBy cX0_worthBy 7 ((some .int)) 250 8000 0 0 [.ref (E.2.2.1 0), .ref a1, .ref (E.2.2.1 11), .int x, .int y] S (fun r S' => r = some (.int (wvC none (nmC S 11 n f k))) ∧ S' = gk_si S 301 (nmC S 11 n f k)) := by
  refine gk_T.of [some (.ref (E.2.2.1 0)), some (.ref a1), some (.ref (E.2.2.1 11)), some (.int x), some (.int y), none, none] (by decide) (Nat.le_of_ble_eq_true rfl) (le_1 rfl (le_1 rfl (le_1 rfl (le_1 rfl (le_1 rfl (le_p (le_p le_n))))))) ?_
  intro p_ e_ R_ s_ m_ args_ below_ meth_ c_ hR X hr hin
  subst hR
  refine g_aload_n X dX0_worthBy_0 rfl ?_
  refine g_get (C := RX0) (T := TX0) (N := 13) X 6 in_X0 dX0_worthBy_1 q247 (rd0 ho) rfl (Nat.le_of_ble_eq_true rfl) (fun _ h9 => h9) rfl ?_
  refine g_iconst (v := 4) X dX0_worthBy_4 rfl ?_
  refine g_aload_n X dX0_worthBy_5 rfl ?_
  refine g_iconst (v := 0) X dX0_worthBy_6 rfl ?_
  refine g_iald (j := 0) X dX0_worthBy_7 (rdi ho (11) (rfl)) rfl (by decide) (by decide) ?_
  refine g_iast X ho (301) (j := 4) dX0_worthBy_8 rfl (rfl) rfl (by decide) (by decide) ?_
  refine g_aload_n X dX0_worthBy_9 rfl ?_
  refine g_get (C := RX0) (T := TX0) (N := 13) X 6 in_X0 dX0_worthBy_10 q247 (rd0 ho) rfl (Nat.le_of_ble_eq_true rfl) (fun _ h9 => h9) rfl ?_
  refine g_iconst (v := 5) X dX0_worthBy_13 rfl ?_
  refine g_iload X dX0_worthBy_14 rfl ?_
  refine g_top (y := nI k) hy ?_
  refine g_iast X ho (301) (j := 5) dX0_worthBy_16 rfl (rfl) rfl (by decide) (by decide) ?_
  refine g_aload_n X dX0_worthBy_17 rfl ?_
  refine g_get (C := RX0) (T := TX0) (N := 13) X 6 in_X0 dX0_worthBy_18 q247 (rd0 ho) rfl (Nat.le_of_ble_eq_true rfl) (fun _ h9 => h9) rfl ?_
  refine g_bipush (v := 6) X dX0_worthBy_21 rfl ?_
  refine g_aload_n X dX0_worthBy_23 rfl ?_
  refine g_get (C := RX0) (T := TX0) (N := 13) X 0 in_X0 dX0_worthBy_24 q241 (rd0 ho) rfl (Nat.le_of_ble_eq_true rfl) (fun _ h9 => h9) rfl ?_
  refine g_getN (C := RX1) (T := TX1) (N := 8) X 3 in_X1 dX0_worthBy_27 q201 (rd1 ho) rfl (Nat.le_of_ble_eq_true rfl) (fun _ h9 => h9) rfl ?_
  refine g_iload X dX0_worthBy_30 rfl ?_
  refine g_iald (j := k) X dX0_worthBy_32 (rdi ho (13) (rfl)) hy hk (by decide) ?_
  refine g_iast X ho (301) (j := 6) dX0_worthBy_33 rfl (rfl) rfl (by decide) (by decide) ?_
  refine g_aload_n X dX0_worthBy_34 rfl ?_
  refine g_get (C := RX0) (T := TX0) (N := 13) X 6 in_X0 dX0_worthBy_35 q247 (rd0 ho) rfl (Nat.le_of_ble_eq_true rfl) (fun _ h9 => h9) rfl ?_
  refine g_bipush (v := 7) X dX0_worthBy_38 rfl ?_
  refine g_iload_n X dX0_worthBy_40 rfl ?_
  refine g_top (y := nI f) hx ?_
  refine g_iast X ho (301) (j := 7) dX0_worthBy_41 rfl (rfl) rfl (by decide) (by decide) ?_
  refine g_aload_n X dX0_worthBy_42 rfl ?_
  refine g_get (C := RX0) (T := TX0) (N := 13) X 6 in_X0 dX0_worthBy_43 q247 (rd0 ho) rfl (Nat.le_of_ble_eq_true rfl) (fun _ h9 => h9) rfl ?_
  refine g_bipush (v := 8) X dX0_worthBy_46 rfl ?_
  refine g_aload_n X dX0_worthBy_48 rfl ?_
  refine g_get (C := RX0) (T := TX0) (N := 13) X 0 in_X0 dX0_worthBy_49 q241 (rd0 ho) rfl (Nat.le_of_ble_eq_true rfl) (fun _ h9 => h9) rfl ?_
  refine g_getN (C := RX1) (T := TX1) (N := 8) X 2 in_X1 dX0_worthBy_52 q199 (rd1 ho) rfl (Nat.le_of_ble_eq_true rfl) (fun _ h9 => h9) rfl ?_
  refine g_iload_n X dX0_worthBy_55 rfl ?_
  refine g_iald (j := f) X dX0_worthBy_56 (rdi ho (12) (rfl)) hx hf (by decide) ?_
  refine g_iast X ho (301) (j := 8) dX0_worthBy_57 rfl (rfl) rfl (by decide) (by decide) ?_
  refine g_aload_n X dX0_worthBy_58 rfl ?_
  refine g_get (C := RX0) (T := TX0) (N := 13) X 6 in_X0 dX0_worthBy_59 q247 (rd0 ho) rfl (Nat.le_of_ble_eq_true rfl) (fun _ h9 => h9) rfl ?_
  refine g_bipush (v := 9) X dX0_worthBy_62 rfl ?_
  refine g_aload_n X dX0_worthBy_64 rfl ?_
  refine g_get (C := RX0) (T := TX0) (N := 13) X 0 in_X0 dX0_worthBy_65 q241 (rd0 ho) rfl (Nat.le_of_ble_eq_true rfl) (fun _ h9 => h9) rfl ?_
  refine g_getN (C := RX1) (T := TX1) (N := 8) X 4 in_X1 dX0_worthBy_68 q203 (rd1 ho) rfl (Nat.le_of_ble_eq_true rfl) (fun _ h9 => h9) rfl ?_
  refine g_iload_n X dX0_worthBy_71 rfl ?_
  refine g_aald (t := 4) (j := f) X dX0_worthBy_72 (rd14 ho) rfl rfl hx hf (by decide) rfl ?_
  refine g_iload X dX0_worthBy_73 rfl ?_
  refine g_iald (j := k) X dX0_worthBy_75 (rdi ho (20 + (f)) (kd_want hf)) hy hk (by decide) ?_
  refine g_top (y := S.1 (20 + f) k) (by simp only [si_n (show 20 + f ≠ 301 by omega)]) ?_
  refine g_iast X ho (301) (j := 9) dX0_worthBy_76 rfl (rfl) rfl (by decide) (by decide) ?_
  refine g_eq (S2 := gk_si S 301 (nmL (nm6 (S.1 301) (S.1 11 0) (nI k) (S.1 13 k) (nI f) (S.1 12 f) (S.1 (20 + f) k)) (S.1 11 2 &&& alC n) 0)) (by simp only [si_si, si_s]; rfl) ?_
  refine g_aload_n X dX0_worthBy_77 rfl ?_
  refine g_aload_n X dX0_worthBy_78 rfl ?_
  refine g_callV (C := RX0) (T := TX0) (N := 13) X (k_X0_heldNow ho (S := gk_si S 301 _) rfl hu) (lw_V q1035 q1037 qs30 q135 q1038) hd_X0_heldNow dX0_worthBy_79 (rd0 ho) rfl rfl ⟨Nat.le_of_ble_eq_true rfl, Nat.le_of_ble_eq_true rfl⟩ ⟨Nat.le_of_ble_eq_true rfl, Nat.le_of_ble_eq_true rfl⟩ (Nat.le_of_ble_eq_true rfl) ?_
  rintro _ S1 ⟨rfl, hS1⟩
  obtain rfl := hS1.symm
  refine g_top (y := (S.1 11 2 &&& alC n)) rfl ?_
  refine g_istore X dX0_worthBy_82 (Nat.le_of_ble_eq_true rfl) ?_
  refine g_iconst (v := 0) X dX0_worthBy_84 rfl ?_
  refine g_istore X dX0_worthBy_85 (Nat.le_of_ble_eq_true rfl) ?_
  refine g_loop (σ := Nat) (fun (i : Nat) => gk_si S 301 (nmL (nm6 (S.1 301) (S.1 11 0) (nI k) (S.1 13 k) (nI f) (S.1 12 f) (S.1 (20 + f) k)) (S.1 11 2 &&& alC n) i)) (fun (i : Nat) => ([some (.ref (E.2.2.1 0)), some (.ref a1), some (.ref (E.2.2.1 11)), some (.int x), some (.int y), some (.int (S.1 11 2 &&& alC n)), some (.int (nI i))] : List (Option Value))) (fun (i : Nat) => i ≤ 8) (fun (i : Nat) => 8 - i) (0) ?_ (rfl) (le_1 rfl (le_1 rfl (le_1 rfl (le_1 rfl (le_1 rfl (le_1 rfl (le_1 rfl le_n))))))) ?_
  · exact Nat.zero_le _
  intro i hI ih
  try dsimp only at hI ih ⊢
  refine g_iload X dX0_worthBy_87 rfl ?_
  refine g_bipush (v := 8) X dX0_worthBy_89 rfl ?_
  refine g_icmp_ge (tgt := 117) X dX0_worthBy_91 rfl (fun c91 => ?_) (fun c91 => ?_)
  · have hi8 : i = 8 := Nat.le_antisymm hI ((nI_leI (by decide) (by omega)).mp c91)
    subst hi8
    refine g_aload_n X dX0_worthBy_117 rfl ?_
    refine g_getN (C := RX4) (T := TX4) (N := 5) X 0 in_X4 dX0_worthBy_118 q390 (rd_dy ht) rfl (Nat.le_of_ble_eq_true rfl) (fun _ h9 => h9) rfl ?_
    refine g_ifnonnullN X dX0_worthBy_121 ?_
    refine g_aload_n X dX0_worthBy_124 rfl ?_
    refine g_get (C := RX0) (T := TX0) (N := 13) X 6 in_X0 dX0_worthBy_125 q247 (rd0 ho) rfl (Nat.le_of_ble_eq_true rfl) (fun _ h9 => h9) rfl ?_
    refine g_bipush (v := 9) X dX0_worthBy_128 rfl ?_
    refine g_iald (j := 9) X dX0_worthBy_130 (rdi ho (301) (rfl)) rfl (by decide) (by decide) ?_
    refine g_i2l X dX0_worthBy_131 rfl ?_
    refine g_goto (tgt := 148) X dX0_worthBy_132 rfl ?_
    refine g_bipush (v := (-99)) X dX0_worthBy_148 rfl ?_
    refine g_bipush (v := 99) X dX0_worthBy_150 rfl ?_
    refine g_callS X (k_X0_held ho) (lw_S q1059 q1060 q135 q1061) hd_X0_held dX0_worthBy_152 rfl ⟨Nat.le_of_ble_eq_true rfl, Nat.le_of_ble_eq_true rfl⟩ ⟨Nat.le_of_ble_eq_true rfl, Nat.le_of_ble_eq_true rfl⟩ (Nat.le_of_ble_eq_true rfl) ?_
    rintro _ S1 ⟨rfl, hS1⟩
    obtain rfl := hS1.symm
    exact g_iret X hr dX0_worthBy_155 (Nat.le_of_ble_eq_true rfl) (Nat.le_of_ble_eq_true rfl) (⟨rfl, rfl⟩)
  · have hi8 : i < 8 := (nI_ltI (by omega) (by decide)).mp (Int32.not_le.mp c91)
    refine g_aload_n X dX0_worthBy_94 rfl ?_
    refine g_get (C := RX0) (T := TX0) (N := 13) X 6 in_X0 dX0_worthBy_95 q247 (rd0 ho) rfl (Nat.le_of_ble_eq_true rfl) (fun _ h9 => h9) rfl ?_
    refine g_bipush (v := 10) X dX0_worthBy_98 rfl ?_
    refine g_iload X dX0_worthBy_100 rfl ?_
    refine g_iadd X dX0_worthBy_102 ?_
    refine g_iload X dX0_worthBy_103 rfl ?_
    refine g_iload X dX0_worthBy_105 rfl ?_
    refine g_ishr X dX0_worthBy_107 ?_
    refine g_iconst (v := 1) X dX0_worthBy_108 rfl ?_
    refine g_iand X dX0_worthBy_109 ?_
    refine g_iast X ho (301) (j := 10 + i) dX0_worthBy_110 rfl (rfl) (by show nI 10 + nI i = _; rw [nI_add]) (by omega) (by decide) ?_
    refine g_iinc (v := 1) X dX0_worthBy_111 rfl rfl (Nat.le_of_ble_eq_true rfl) ?_
    refine g_goto (tgt := 87) X dX0_worthBy_114 rfl ?_
    refine g_eq (S2 := gk_si S 301 (nmL (nm6 (S.1 301) (S.1 11 0) (nI k) (S.1 13 k) (nI f) (S.1 12 f) (S.1 (20 + f) k)) (S.1 11 2 &&& alC n) (i + 1))) (by rw [si_si]; rfl) ?_
    refine g_sub (le_1 rfl (le_1 rfl (le_1 rfl (le_1 rfl (le_1 rfl (le_1 rfl (le_1 e_1 le_n))))))) (ih (i + 1) ?_ ?_)
    · try dsimp only
      omega
    · try dsimp only
      omega
set_option maxHeartbeats 600000 in
theorem k_X0_worthBy_w_11 {l : Launch} {E : gk_E} (ho : E.2.2.2.2 = true) {S : gk_S} {x : Int32} {y : Int32} {a n f k : Nat} {g : Nat → Int32} {a1 tb dl : Nat} {nc cl : Int32} {wa d : Nat} {M : mnB} {ic : Nat → Nat} (hu : RU E S a n g) (hx : x = nI f) (hf : f < 5) (hy : y = nI k) (hk : k < 5) (ht : S.2.2.2 a1 = some (.inr (4, [.ref wa, .ref tb, .int nc, .int cl, .ref dl]))) (hd : den E ic S.2.2.2 d true wa M) (hd60 : d ≤ 60) (hic : icA S ic) : gk_T l E yX0_worthBy cX0_worthBy 7 ((some .int)) 250 8000 0 0 [.ref (E.2.2.1 0), .ref a1, .ref (E.2.2.1 11), .int x, .int y] S (fun r S' => r = some (.int (wvC (some M) (nmC S 11 n f k))) ∧ S' = gk_si S 301 (nmC S 11 n f k)) := by
  refine gk_T.of [some (.ref (E.2.2.1 0)), some (.ref a1), some (.ref (E.2.2.1 11)), some (.int x), some (.int y), none, none] (by decide) (Nat.le_of_ble_eq_true rfl) (le_1 rfl (le_1 rfl (le_1 rfl (le_1 rfl (le_1 rfl (le_p (le_p le_n))))))) ?_
  intro p_ e_ R_ s_ m_ args_ below_ meth_ c_ hR X hr hin
  subst hR
  refine g_aload_n X dX0_worthBy_0 rfl ?_
  refine g_get (C := RX0) (T := TX0) (N := 13) X 6 in_X0 dX0_worthBy_1 q247 (rd0 ho) rfl (Nat.le_of_ble_eq_true rfl) (fun _ h9 => h9) rfl ?_
  refine g_iconst (v := 4) X dX0_worthBy_4 rfl ?_
  refine g_aload_n X dX0_worthBy_5 rfl ?_
  refine g_iconst (v := 0) X dX0_worthBy_6 rfl ?_
  refine g_iald (j := 0) X dX0_worthBy_7 (rdi ho (11) (rfl)) rfl (by decide) (by decide) ?_
  refine g_iast X ho (301) (j := 4) dX0_worthBy_8 rfl (rfl) rfl (by decide) (by decide) ?_
  refine g_aload_n X dX0_worthBy_9 rfl ?_
  refine g_get (C := RX0) (T := TX0) (N := 13) X 6 in_X0 dX0_worthBy_10 q247 (rd0 ho) rfl (Nat.le_of_ble_eq_true rfl) (fun _ h9 => h9) rfl ?_
  refine g_iconst (v := 5) X dX0_worthBy_13 rfl ?_
  refine g_iload X dX0_worthBy_14 rfl ?_
  refine g_top (y := nI k) hy ?_
  refine g_iast X ho (301) (j := 5) dX0_worthBy_16 rfl (rfl) rfl (by decide) (by decide) ?_
  refine g_aload_n X dX0_worthBy_17 rfl ?_
  refine g_get (C := RX0) (T := TX0) (N := 13) X 6 in_X0 dX0_worthBy_18 q247 (rd0 ho) rfl (Nat.le_of_ble_eq_true rfl) (fun _ h9 => h9) rfl ?_
  refine g_bipush (v := 6) X dX0_worthBy_21 rfl ?_
  refine g_aload_n X dX0_worthBy_23 rfl ?_
  refine g_get (C := RX0) (T := TX0) (N := 13) X 0 in_X0 dX0_worthBy_24 q241 (rd0 ho) rfl (Nat.le_of_ble_eq_true rfl) (fun _ h9 => h9) rfl ?_
  refine g_getN (C := RX1) (T := TX1) (N := 8) X 3 in_X1 dX0_worthBy_27 q201 (rd1 ho) rfl (Nat.le_of_ble_eq_true rfl) (fun _ h9 => h9) rfl ?_
  refine g_iload X dX0_worthBy_30 rfl ?_
  refine g_iald (j := k) X dX0_worthBy_32 (rdi ho (13) (rfl)) hy hk (by decide) ?_
  refine g_iast X ho (301) (j := 6) dX0_worthBy_33 rfl (rfl) rfl (by decide) (by decide) ?_
  refine g_aload_n X dX0_worthBy_34 rfl ?_
  refine g_get (C := RX0) (T := TX0) (N := 13) X 6 in_X0 dX0_worthBy_35 q247 (rd0 ho) rfl (Nat.le_of_ble_eq_true rfl) (fun _ h9 => h9) rfl ?_
  refine g_bipush (v := 7) X dX0_worthBy_38 rfl ?_
  refine g_iload_n X dX0_worthBy_40 rfl ?_
  refine g_top (y := nI f) hx ?_
  refine g_iast X ho (301) (j := 7) dX0_worthBy_41 rfl (rfl) rfl (by decide) (by decide) ?_
  refine g_aload_n X dX0_worthBy_42 rfl ?_
  refine g_get (C := RX0) (T := TX0) (N := 13) X 6 in_X0 dX0_worthBy_43 q247 (rd0 ho) rfl (Nat.le_of_ble_eq_true rfl) (fun _ h9 => h9) rfl ?_
  refine g_bipush (v := 8) X dX0_worthBy_46 rfl ?_
  refine g_aload_n X dX0_worthBy_48 rfl ?_
  refine g_get (C := RX0) (T := TX0) (N := 13) X 0 in_X0 dX0_worthBy_49 q241 (rd0 ho) rfl (Nat.le_of_ble_eq_true rfl) (fun _ h9 => h9) rfl ?_
  refine g_getN (C := RX1) (T := TX1) (N := 8) X 2 in_X1 dX0_worthBy_52 q199 (rd1 ho) rfl (Nat.le_of_ble_eq_true rfl) (fun _ h9 => h9) rfl ?_
  refine g_iload_n X dX0_worthBy_55 rfl ?_
  refine g_iald (j := f) X dX0_worthBy_56 (rdi ho (12) (rfl)) hx hf (by decide) ?_
  refine g_iast X ho (301) (j := 8) dX0_worthBy_57 rfl (rfl) rfl (by decide) (by decide) ?_
  refine g_aload_n X dX0_worthBy_58 rfl ?_
  refine g_get (C := RX0) (T := TX0) (N := 13) X 6 in_X0 dX0_worthBy_59 q247 (rd0 ho) rfl (Nat.le_of_ble_eq_true rfl) (fun _ h9 => h9) rfl ?_
  refine g_bipush (v := 9) X dX0_worthBy_62 rfl ?_
  refine g_aload_n X dX0_worthBy_64 rfl ?_
  refine g_get (C := RX0) (T := TX0) (N := 13) X 0 in_X0 dX0_worthBy_65 q241 (rd0 ho) rfl (Nat.le_of_ble_eq_true rfl) (fun _ h9 => h9) rfl ?_
  refine g_getN (C := RX1) (T := TX1) (N := 8) X 4 in_X1 dX0_worthBy_68 q203 (rd1 ho) rfl (Nat.le_of_ble_eq_true rfl) (fun _ h9 => h9) rfl ?_
  refine g_iload_n X dX0_worthBy_71 rfl ?_
  refine g_aald (t := 4) (j := f) X dX0_worthBy_72 (rd14 ho) rfl rfl hx hf (by decide) rfl ?_
  refine g_iload X dX0_worthBy_73 rfl ?_
  refine g_iald (j := k) X dX0_worthBy_75 (rdi ho (20 + (f)) (kd_want hf)) hy hk (by decide) ?_
  refine g_top (y := S.1 (20 + f) k) (by simp only [si_n (show 20 + f ≠ 301 by omega)]) ?_
  refine g_iast X ho (301) (j := 9) dX0_worthBy_76 rfl (rfl) rfl (by decide) (by decide) ?_
  refine g_eq (S2 := gk_si S 301 (nmL (nm6 (S.1 301) (S.1 11 0) (nI k) (S.1 13 k) (nI f) (S.1 12 f) (S.1 (20 + f) k)) (S.1 11 2 &&& alC n) 0)) (by simp only [si_si, si_s]; rfl) ?_
  refine g_aload_n X dX0_worthBy_77 rfl ?_
  refine g_aload_n X dX0_worthBy_78 rfl ?_
  refine g_callV (C := RX0) (T := TX0) (N := 13) X (k_X0_heldNow ho (S := gk_si S 301 _) rfl hu) (lw_V q1035 q1037 qs30 q135 q1038) hd_X0_heldNow dX0_worthBy_79 (rd0 ho) rfl rfl ⟨Nat.le_of_ble_eq_true rfl, Nat.le_of_ble_eq_true rfl⟩ ⟨Nat.le_of_ble_eq_true rfl, Nat.le_of_ble_eq_true rfl⟩ (Nat.le_of_ble_eq_true rfl) ?_
  rintro _ S1 ⟨rfl, hS1⟩
  obtain rfl := hS1.symm
  refine g_top (y := (S.1 11 2 &&& alC n)) rfl ?_
  refine g_istore X dX0_worthBy_82 (Nat.le_of_ble_eq_true rfl) ?_
  refine g_iconst (v := 0) X dX0_worthBy_84 rfl ?_
  refine g_istore X dX0_worthBy_85 (Nat.le_of_ble_eq_true rfl) ?_
  refine g_loop (σ := Nat) (fun (i : Nat) => gk_si S 301 (nmL (nm6 (S.1 301) (S.1 11 0) (nI k) (S.1 13 k) (nI f) (S.1 12 f) (S.1 (20 + f) k)) (S.1 11 2 &&& alC n) i)) (fun (i : Nat) => ([some (.ref (E.2.2.1 0)), some (.ref a1), some (.ref (E.2.2.1 11)), some (.int x), some (.int y), some (.int (S.1 11 2 &&& alC n)), some (.int (nI i))] : List (Option Value))) (fun (i : Nat) => i ≤ 8) (fun (i : Nat) => 8 - i) (0) ?_ (rfl) (le_1 rfl (le_1 rfl (le_1 rfl (le_1 rfl (le_1 rfl (le_1 rfl (le_1 rfl le_n))))))) ?_
  · exact Nat.zero_le _
  intro i hI ih
  try dsimp only at hI ih ⊢
  refine g_iload X dX0_worthBy_87 rfl ?_
  refine g_bipush (v := 8) X dX0_worthBy_89 rfl ?_
  refine g_icmp_ge (tgt := 117) X dX0_worthBy_91 rfl (fun c91 => ?_) (fun c91 => ?_)
  · have hi8 : i = 8 := Nat.le_antisymm hI ((nI_leI (by decide) (by omega)).mp c91)
    subst hi8
    refine g_aload_n X dX0_worthBy_117 rfl ?_
    refine g_getN (C := RX4) (T := TX4) (N := 5) X 0 in_X4 dX0_worthBy_118 q390 (rd_dy ht) rfl (Nat.le_of_ble_eq_true rfl) (fun _ h9 => h9) rfl ?_
    refine g_ifnonnull (tgt := 135) X dX0_worthBy_121 rfl ?_
    refine g_aload_n X dX0_worthBy_135 rfl ?_
    refine g_getN (C := RX4) (T := TX4) (N := 5) X 0 in_X4 dX0_worthBy_136 q390 (rd_dy ht) rfl (Nat.le_of_ble_eq_true rfl) (fun _ h9 => h9) rfl ?_
    refine g_aload_n X dX0_worthBy_139 rfl ?_
    refine g_get (C := RX0) (T := TX0) (N := 13) X 6 in_X0 dX0_worthBy_140 q247 (rd0 ho) rfl (Nat.le_of_ble_eq_true rfl) (fun _ h9 => h9) rfl ?_
    refine g_callF X (show gk_Im l E gk_ofT (frD d) (loD d) wa [.ref (E.2.2.1 301)] (gk_si S 301 (nmL (nm6 (S.1 301) (S.1 11 0) (nI k) (S.1 13 k) (nI f) (S.1 12 f) (S.1 (20 + f) k)) (S.1 11 2 &&& alC n) 8)) (fun r S2 => r = some (.long (M (nmL (nm6 (S.1 301) (S.1 11 0) (nI k) (S.1 13 k) (nI f) (S.1 12 f) (S.1 (20 + f) k)) (S.1 11 2 &&& alC n) 8))) ∧ S2 = gk_si S 301 (nmL (nm6 (S.1 301) (S.1 11 0) (nI k) (S.1 13 k) (nI f) (S.1 12 f) (S.1 (20 + f) k)) (S.1 11 2 &&& alC n) 8)) from den_im (S := gk_si S 301 (nmL (nm6 (S.1 301) (S.1 11 0) (nI k) (S.1 13 k) (nI f) (S.1 12 f) (S.1 (20 + f) k)) (S.1 11 2 &&& alC n) 8)) ho (fun _ _ z => z) (rdi ho 301 rfl) hic hd) q1058 hd_ofT dX0_worthBy_143 rfl ⟨by have := frD_eq d; show frD d + 1 ≤ 250; omega, by have := loD_eq d; show 29 + loD d ≤ 8000; omega⟩ ⟨Nat.le_of_ble_eq_true rfl, Nat.le_of_ble_eq_true rfl⟩ (Nat.le_of_ble_eq_true rfl) ?_
    rintro _ S1 ⟨rfl, hS1⟩
    obtain rfl := hS1.symm
    refine g_bipush (v := (-99)) X dX0_worthBy_148 rfl ?_
    refine g_bipush (v := 99) X dX0_worthBy_150 rfl ?_
    refine g_callS X (k_X0_held ho) (lw_S q1059 q1060 q135 q1061) hd_X0_held dX0_worthBy_152 rfl ⟨Nat.le_of_ble_eq_true rfl, Nat.le_of_ble_eq_true rfl⟩ ⟨Nat.le_of_ble_eq_true rfl, Nat.le_of_ble_eq_true rfl⟩ (Nat.le_of_ble_eq_true rfl) ?_
    rintro _ S1 ⟨rfl, hS1⟩
    obtain rfl := hS1.symm
    exact g_iret X hr dX0_worthBy_155 (Nat.le_of_ble_eq_true rfl) (Nat.le_of_ble_eq_true rfl) (⟨rfl, rfl⟩)
  · have hi8 : i < 8 := (nI_ltI (by omega) (by decide)).mp (Int32.not_le.mp c91)
    refine g_aload_n X dX0_worthBy_94 rfl ?_
    refine g_get (C := RX0) (T := TX0) (N := 13) X 6 in_X0 dX0_worthBy_95 q247 (rd0 ho) rfl (Nat.le_of_ble_eq_true rfl) (fun _ h9 => h9) rfl ?_
    refine g_bipush (v := 10) X dX0_worthBy_98 rfl ?_
    refine g_iload X dX0_worthBy_100 rfl ?_
    refine g_iadd X dX0_worthBy_102 ?_
    refine g_iload X dX0_worthBy_103 rfl ?_
    refine g_iload X dX0_worthBy_105 rfl ?_
    refine g_ishr X dX0_worthBy_107 ?_
    refine g_iconst (v := 1) X dX0_worthBy_108 rfl ?_
    refine g_iand X dX0_worthBy_109 ?_
    refine g_iast X ho (301) (j := 10 + i) dX0_worthBy_110 rfl (rfl) (by show nI 10 + nI i = _; rw [nI_add]) (by omega) (by decide) ?_
    refine g_iinc (v := 1) X dX0_worthBy_111 rfl rfl (Nat.le_of_ble_eq_true rfl) ?_
    refine g_goto (tgt := 87) X dX0_worthBy_114 rfl ?_
    refine g_eq (S2 := gk_si S 301 (nmL (nm6 (S.1 301) (S.1 11 0) (nI k) (S.1 13 k) (nI f) (S.1 12 f) (S.1 (20 + f) k)) (S.1 11 2 &&& alC n) (i + 1))) (by rw [si_si]; rfl) ?_
    refine g_sub (le_1 rfl (le_1 rfl (le_1 rfl (le_1 rfl (le_1 rfl (le_1 rfl (le_1 e_1 le_n))))))) (ih (i + 1) ?_ ?_)
    · try dsimp only
      omega
    · try dsimp only
      omega
theorem k_X0_worthBy_11 {l : Launch} {E : gk_E} (ho : E.2.2.2.2 = true) {S : gk_S} {x : Int32} {y : Int32} {a n f k : Nat} {g : Nat → Int32} {a1 : Nat} {W : Option mnB} {ic : Nat → Nat} (hu : RU E S a n g) (hx : x = nI f) (hf : f < 5) (hy : y = nI k) (hk : k < 5) (hw : wtO E ic S.2.2.2 a1 W) (hic : icA S ic) : gk_T l E yX0_worthBy cX0_worthBy 7 (some .int) 250 8000 0 0 [.ref (E.2.2.1 0), .ref a1, .ref (E.2.2.1 11), .int x, .int y] S (fun r S' => r = some (.int (wvC W (nmC S 11 n f k))) ∧ S' = gk_si S 301 (nmC S 11 n f k)) := by
  rcases hw with ⟨rfl, tb, dl, nc, cl, ht⟩ | ⟨M, wa, d, tb, dl, nc, cl, rfl, ht, hd, hd60⟩
  · exact k_X0_worthBy_n_11 ho hu hx hf hy hk ht
  · exact k_X0_worthBy_w_11 ho hu hx hf hy hk ht hd hd60 hic
set_option maxHeartbeats 600000 in
theorem k_X0_worthBy_n_304 {l : Launch} {E : gk_E} (ho : E.2.2.2.2 = true) {S : gk_S} {x : Int32} {y : Int32} {a n f k : Nat} {g : Nat → Int32} {a1 tb dl : Nat} {nc cl : Int32} (hu : RU E S a n g) (hx : x = nI f) (hf : f < 5) (hy : y = nI k) (hk : k < 5) (ht : S.2.2.2 a1 = some (.inr (4, [.null, .ref tb, .int nc, .int cl, .ref dl]))) : gk_T l E yX0_worthBy cX0_worthBy 7 ((some .int)) 250 8000 0 0 [.ref (E.2.2.1 0), .ref a1, .ref (E.2.2.1 304), .int x, .int y] S (fun r S' => r = some (.int (wvC none (nmC S 304 n f k))) ∧ S' = gk_si S 301 (nmC S 304 n f k)) := by
  refine gk_T.of [some (.ref (E.2.2.1 0)), some (.ref a1), some (.ref (E.2.2.1 304)), some (.int x), some (.int y), none, none] (by decide) (Nat.le_of_ble_eq_true rfl) (le_1 rfl (le_1 rfl (le_1 rfl (le_1 rfl (le_1 rfl (le_p (le_p le_n))))))) ?_
  intro p_ e_ R_ s_ m_ args_ below_ meth_ c_ hR X hr hin
  subst hR
  refine g_aload_n X dX0_worthBy_0 rfl ?_
  refine g_get (C := RX0) (T := TX0) (N := 13) X 6 in_X0 dX0_worthBy_1 q247 (rd0 ho) rfl (Nat.le_of_ble_eq_true rfl) (fun _ h9 => h9) rfl ?_
  refine g_iconst (v := 4) X dX0_worthBy_4 rfl ?_
  refine g_aload_n X dX0_worthBy_5 rfl ?_
  refine g_iconst (v := 0) X dX0_worthBy_6 rfl ?_
  refine g_iald (j := 0) X dX0_worthBy_7 (rdi ho (304) (rfl)) rfl (by decide) (by decide) ?_
  refine g_iast X ho (301) (j := 4) dX0_worthBy_8 rfl (rfl) rfl (by decide) (by decide) ?_
  refine g_aload_n X dX0_worthBy_9 rfl ?_
  refine g_get (C := RX0) (T := TX0) (N := 13) X 6 in_X0 dX0_worthBy_10 q247 (rd0 ho) rfl (Nat.le_of_ble_eq_true rfl) (fun _ h9 => h9) rfl ?_
  refine g_iconst (v := 5) X dX0_worthBy_13 rfl ?_
  refine g_iload X dX0_worthBy_14 rfl ?_
  refine g_top (y := nI k) hy ?_
  refine g_iast X ho (301) (j := 5) dX0_worthBy_16 rfl (rfl) rfl (by decide) (by decide) ?_
  refine g_aload_n X dX0_worthBy_17 rfl ?_
  refine g_get (C := RX0) (T := TX0) (N := 13) X 6 in_X0 dX0_worthBy_18 q247 (rd0 ho) rfl (Nat.le_of_ble_eq_true rfl) (fun _ h9 => h9) rfl ?_
  refine g_bipush (v := 6) X dX0_worthBy_21 rfl ?_
  refine g_aload_n X dX0_worthBy_23 rfl ?_
  refine g_get (C := RX0) (T := TX0) (N := 13) X 0 in_X0 dX0_worthBy_24 q241 (rd0 ho) rfl (Nat.le_of_ble_eq_true rfl) (fun _ h9 => h9) rfl ?_
  refine g_getN (C := RX1) (T := TX1) (N := 8) X 3 in_X1 dX0_worthBy_27 q201 (rd1 ho) rfl (Nat.le_of_ble_eq_true rfl) (fun _ h9 => h9) rfl ?_
  refine g_iload X dX0_worthBy_30 rfl ?_
  refine g_iald (j := k) X dX0_worthBy_32 (rdi ho (13) (rfl)) hy hk (by decide) ?_
  refine g_iast X ho (301) (j := 6) dX0_worthBy_33 rfl (rfl) rfl (by decide) (by decide) ?_
  refine g_aload_n X dX0_worthBy_34 rfl ?_
  refine g_get (C := RX0) (T := TX0) (N := 13) X 6 in_X0 dX0_worthBy_35 q247 (rd0 ho) rfl (Nat.le_of_ble_eq_true rfl) (fun _ h9 => h9) rfl ?_
  refine g_bipush (v := 7) X dX0_worthBy_38 rfl ?_
  refine g_iload_n X dX0_worthBy_40 rfl ?_
  refine g_top (y := nI f) hx ?_
  refine g_iast X ho (301) (j := 7) dX0_worthBy_41 rfl (rfl) rfl (by decide) (by decide) ?_
  refine g_aload_n X dX0_worthBy_42 rfl ?_
  refine g_get (C := RX0) (T := TX0) (N := 13) X 6 in_X0 dX0_worthBy_43 q247 (rd0 ho) rfl (Nat.le_of_ble_eq_true rfl) (fun _ h9 => h9) rfl ?_
  refine g_bipush (v := 8) X dX0_worthBy_46 rfl ?_
  refine g_aload_n X dX0_worthBy_48 rfl ?_
  refine g_get (C := RX0) (T := TX0) (N := 13) X 0 in_X0 dX0_worthBy_49 q241 (rd0 ho) rfl (Nat.le_of_ble_eq_true rfl) (fun _ h9 => h9) rfl ?_
  refine g_getN (C := RX1) (T := TX1) (N := 8) X 2 in_X1 dX0_worthBy_52 q199 (rd1 ho) rfl (Nat.le_of_ble_eq_true rfl) (fun _ h9 => h9) rfl ?_
  refine g_iload_n X dX0_worthBy_55 rfl ?_
  refine g_iald (j := f) X dX0_worthBy_56 (rdi ho (12) (rfl)) hx hf (by decide) ?_
  refine g_iast X ho (301) (j := 8) dX0_worthBy_57 rfl (rfl) rfl (by decide) (by decide) ?_
  refine g_aload_n X dX0_worthBy_58 rfl ?_
  refine g_get (C := RX0) (T := TX0) (N := 13) X 6 in_X0 dX0_worthBy_59 q247 (rd0 ho) rfl (Nat.le_of_ble_eq_true rfl) (fun _ h9 => h9) rfl ?_
  refine g_bipush (v := 9) X dX0_worthBy_62 rfl ?_
  refine g_aload_n X dX0_worthBy_64 rfl ?_
  refine g_get (C := RX0) (T := TX0) (N := 13) X 0 in_X0 dX0_worthBy_65 q241 (rd0 ho) rfl (Nat.le_of_ble_eq_true rfl) (fun _ h9 => h9) rfl ?_
  refine g_getN (C := RX1) (T := TX1) (N := 8) X 4 in_X1 dX0_worthBy_68 q203 (rd1 ho) rfl (Nat.le_of_ble_eq_true rfl) (fun _ h9 => h9) rfl ?_
  refine g_iload_n X dX0_worthBy_71 rfl ?_
  refine g_aald (t := 4) (j := f) X dX0_worthBy_72 (rd14 ho) rfl rfl hx hf (by decide) rfl ?_
  refine g_iload X dX0_worthBy_73 rfl ?_
  refine g_iald (j := k) X dX0_worthBy_75 (rdi ho (20 + (f)) (kd_want hf)) hy hk (by decide) ?_
  refine g_top (y := S.1 (20 + f) k) (by simp only [si_n (show 20 + f ≠ 301 by omega)]) ?_
  refine g_iast X ho (301) (j := 9) dX0_worthBy_76 rfl (rfl) rfl (by decide) (by decide) ?_
  refine g_eq (S2 := gk_si S 301 (nmL (nm6 (S.1 301) (S.1 304 0) (nI k) (S.1 13 k) (nI f) (S.1 12 f) (S.1 (20 + f) k)) (S.1 304 2 &&& alC n) 0)) (by simp only [si_si, si_s]; rfl) ?_
  refine g_aload_n X dX0_worthBy_77 rfl ?_
  refine g_aload_n X dX0_worthBy_78 rfl ?_
  refine g_callV (C := RX0) (T := TX0) (N := 13) X (k_X0_heldNow ho (S := gk_si S 301 _) rfl hu) (lw_V q1035 q1037 qs30 q135 q1038) hd_X0_heldNow dX0_worthBy_79 (rd0 ho) rfl rfl ⟨Nat.le_of_ble_eq_true rfl, Nat.le_of_ble_eq_true rfl⟩ ⟨Nat.le_of_ble_eq_true rfl, Nat.le_of_ble_eq_true rfl⟩ (Nat.le_of_ble_eq_true rfl) ?_
  rintro _ S1 ⟨rfl, hS1⟩
  obtain rfl := hS1.symm
  refine g_top (y := (S.1 304 2 &&& alC n)) rfl ?_
  refine g_istore X dX0_worthBy_82 (Nat.le_of_ble_eq_true rfl) ?_
  refine g_iconst (v := 0) X dX0_worthBy_84 rfl ?_
  refine g_istore X dX0_worthBy_85 (Nat.le_of_ble_eq_true rfl) ?_
  refine g_loop (σ := Nat) (fun (i : Nat) => gk_si S 301 (nmL (nm6 (S.1 301) (S.1 304 0) (nI k) (S.1 13 k) (nI f) (S.1 12 f) (S.1 (20 + f) k)) (S.1 304 2 &&& alC n) i)) (fun (i : Nat) => ([some (.ref (E.2.2.1 0)), some (.ref a1), some (.ref (E.2.2.1 304)), some (.int x), some (.int y), some (.int (S.1 304 2 &&& alC n)), some (.int (nI i))] : List (Option Value))) (fun (i : Nat) => i ≤ 8) (fun (i : Nat) => 8 - i) (0) ?_ (rfl) (le_1 rfl (le_1 rfl (le_1 rfl (le_1 rfl (le_1 rfl (le_1 rfl (le_1 rfl le_n))))))) ?_
  · exact Nat.zero_le _
  intro i hI ih
  try dsimp only at hI ih ⊢
  refine g_iload X dX0_worthBy_87 rfl ?_
  refine g_bipush (v := 8) X dX0_worthBy_89 rfl ?_
  refine g_icmp_ge (tgt := 117) X dX0_worthBy_91 rfl (fun c91 => ?_) (fun c91 => ?_)
  · have hi8 : i = 8 := Nat.le_antisymm hI ((nI_leI (by decide) (by omega)).mp c91)
    subst hi8
    refine g_aload_n X dX0_worthBy_117 rfl ?_
    refine g_getN (C := RX4) (T := TX4) (N := 5) X 0 in_X4 dX0_worthBy_118 q390 (rd_dy ht) rfl (Nat.le_of_ble_eq_true rfl) (fun _ h9 => h9) rfl ?_
    refine g_ifnonnullN X dX0_worthBy_121 ?_
    refine g_aload_n X dX0_worthBy_124 rfl ?_
    refine g_get (C := RX0) (T := TX0) (N := 13) X 6 in_X0 dX0_worthBy_125 q247 (rd0 ho) rfl (Nat.le_of_ble_eq_true rfl) (fun _ h9 => h9) rfl ?_
    refine g_bipush (v := 9) X dX0_worthBy_128 rfl ?_
    refine g_iald (j := 9) X dX0_worthBy_130 (rdi ho (301) (rfl)) rfl (by decide) (by decide) ?_
    refine g_i2l X dX0_worthBy_131 rfl ?_
    refine g_goto (tgt := 148) X dX0_worthBy_132 rfl ?_
    refine g_bipush (v := (-99)) X dX0_worthBy_148 rfl ?_
    refine g_bipush (v := 99) X dX0_worthBy_150 rfl ?_
    refine g_callS X (k_X0_held ho) (lw_S q1059 q1060 q135 q1061) hd_X0_held dX0_worthBy_152 rfl ⟨Nat.le_of_ble_eq_true rfl, Nat.le_of_ble_eq_true rfl⟩ ⟨Nat.le_of_ble_eq_true rfl, Nat.le_of_ble_eq_true rfl⟩ (Nat.le_of_ble_eq_true rfl) ?_
    rintro _ S1 ⟨rfl, hS1⟩
    obtain rfl := hS1.symm
    exact g_iret X hr dX0_worthBy_155 (Nat.le_of_ble_eq_true rfl) (Nat.le_of_ble_eq_true rfl) (⟨rfl, rfl⟩)
  · have hi8 : i < 8 := (nI_ltI (by omega) (by decide)).mp (Int32.not_le.mp c91)
    refine g_aload_n X dX0_worthBy_94 rfl ?_
    refine g_get (C := RX0) (T := TX0) (N := 13) X 6 in_X0 dX0_worthBy_95 q247 (rd0 ho) rfl (Nat.le_of_ble_eq_true rfl) (fun _ h9 => h9) rfl ?_
    refine g_bipush (v := 10) X dX0_worthBy_98 rfl ?_
    refine g_iload X dX0_worthBy_100 rfl ?_
    refine g_iadd X dX0_worthBy_102 ?_
    refine g_iload X dX0_worthBy_103 rfl ?_
    refine g_iload X dX0_worthBy_105 rfl ?_
    refine g_ishr X dX0_worthBy_107 ?_
    refine g_iconst (v := 1) X dX0_worthBy_108 rfl ?_
    refine g_iand X dX0_worthBy_109 ?_
    refine g_iast X ho (301) (j := 10 + i) dX0_worthBy_110 rfl (rfl) (by show nI 10 + nI i = _; rw [nI_add]) (by omega) (by decide) ?_
    refine g_iinc (v := 1) X dX0_worthBy_111 rfl rfl (Nat.le_of_ble_eq_true rfl) ?_
    refine g_goto (tgt := 87) X dX0_worthBy_114 rfl ?_
    refine g_eq (S2 := gk_si S 301 (nmL (nm6 (S.1 301) (S.1 304 0) (nI k) (S.1 13 k) (nI f) (S.1 12 f) (S.1 (20 + f) k)) (S.1 304 2 &&& alC n) (i + 1))) (by rw [si_si]; rfl) ?_
    refine g_sub (le_1 rfl (le_1 rfl (le_1 rfl (le_1 rfl (le_1 rfl (le_1 rfl (le_1 e_1 le_n))))))) (ih (i + 1) ?_ ?_)
    · try dsimp only
      omega
    · try dsimp only
      omega
set_option maxHeartbeats 600000 in
theorem k_X0_worthBy_w_304 {l : Launch} {E : gk_E} (ho : E.2.2.2.2 = true) {S : gk_S} {x : Int32} {y : Int32} {a n f k : Nat} {g : Nat → Int32} {a1 tb dl : Nat} {nc cl : Int32} {wa d : Nat} {M : mnB} {ic : Nat → Nat} (hu : RU E S a n g) (hx : x = nI f) (hf : f < 5) (hy : y = nI k) (hk : k < 5) (ht : S.2.2.2 a1 = some (.inr (4, [.ref wa, .ref tb, .int nc, .int cl, .ref dl]))) (hd : den E ic S.2.2.2 d true wa M) (hd60 : d ≤ 60) (hic : icA S ic) : gk_T l E yX0_worthBy cX0_worthBy 7 ((some .int)) 250 8000 0 0 [.ref (E.2.2.1 0), .ref a1, .ref (E.2.2.1 304), .int x, .int y] S (fun r S' => r = some (.int (wvC (some M) (nmC S 304 n f k))) ∧ S' = gk_si S 301 (nmC S 304 n f k)) := by
  refine gk_T.of [some (.ref (E.2.2.1 0)), some (.ref a1), some (.ref (E.2.2.1 304)), some (.int x), some (.int y), none, none] (by decide) (Nat.le_of_ble_eq_true rfl) (le_1 rfl (le_1 rfl (le_1 rfl (le_1 rfl (le_1 rfl (le_p (le_p le_n))))))) ?_
  intro p_ e_ R_ s_ m_ args_ below_ meth_ c_ hR X hr hin
  subst hR
  refine g_aload_n X dX0_worthBy_0 rfl ?_
  refine g_get (C := RX0) (T := TX0) (N := 13) X 6 in_X0 dX0_worthBy_1 q247 (rd0 ho) rfl (Nat.le_of_ble_eq_true rfl) (fun _ h9 => h9) rfl ?_
  refine g_iconst (v := 4) X dX0_worthBy_4 rfl ?_
  refine g_aload_n X dX0_worthBy_5 rfl ?_
  refine g_iconst (v := 0) X dX0_worthBy_6 rfl ?_
  refine g_iald (j := 0) X dX0_worthBy_7 (rdi ho (304) (rfl)) rfl (by decide) (by decide) ?_
  refine g_iast X ho (301) (j := 4) dX0_worthBy_8 rfl (rfl) rfl (by decide) (by decide) ?_
  refine g_aload_n X dX0_worthBy_9 rfl ?_
  refine g_get (C := RX0) (T := TX0) (N := 13) X 6 in_X0 dX0_worthBy_10 q247 (rd0 ho) rfl (Nat.le_of_ble_eq_true rfl) (fun _ h9 => h9) rfl ?_
  refine g_iconst (v := 5) X dX0_worthBy_13 rfl ?_
  refine g_iload X dX0_worthBy_14 rfl ?_
  refine g_top (y := nI k) hy ?_
  refine g_iast X ho (301) (j := 5) dX0_worthBy_16 rfl (rfl) rfl (by decide) (by decide) ?_
  refine g_aload_n X dX0_worthBy_17 rfl ?_
  refine g_get (C := RX0) (T := TX0) (N := 13) X 6 in_X0 dX0_worthBy_18 q247 (rd0 ho) rfl (Nat.le_of_ble_eq_true rfl) (fun _ h9 => h9) rfl ?_
  refine g_bipush (v := 6) X dX0_worthBy_21 rfl ?_
  refine g_aload_n X dX0_worthBy_23 rfl ?_
  refine g_get (C := RX0) (T := TX0) (N := 13) X 0 in_X0 dX0_worthBy_24 q241 (rd0 ho) rfl (Nat.le_of_ble_eq_true rfl) (fun _ h9 => h9) rfl ?_
  refine g_getN (C := RX1) (T := TX1) (N := 8) X 3 in_X1 dX0_worthBy_27 q201 (rd1 ho) rfl (Nat.le_of_ble_eq_true rfl) (fun _ h9 => h9) rfl ?_
  refine g_iload X dX0_worthBy_30 rfl ?_
  refine g_iald (j := k) X dX0_worthBy_32 (rdi ho (13) (rfl)) hy hk (by decide) ?_
  refine g_iast X ho (301) (j := 6) dX0_worthBy_33 rfl (rfl) rfl (by decide) (by decide) ?_
  refine g_aload_n X dX0_worthBy_34 rfl ?_
  refine g_get (C := RX0) (T := TX0) (N := 13) X 6 in_X0 dX0_worthBy_35 q247 (rd0 ho) rfl (Nat.le_of_ble_eq_true rfl) (fun _ h9 => h9) rfl ?_
  refine g_bipush (v := 7) X dX0_worthBy_38 rfl ?_
  refine g_iload_n X dX0_worthBy_40 rfl ?_
  refine g_top (y := nI f) hx ?_
  refine g_iast X ho (301) (j := 7) dX0_worthBy_41 rfl (rfl) rfl (by decide) (by decide) ?_
  refine g_aload_n X dX0_worthBy_42 rfl ?_
  refine g_get (C := RX0) (T := TX0) (N := 13) X 6 in_X0 dX0_worthBy_43 q247 (rd0 ho) rfl (Nat.le_of_ble_eq_true rfl) (fun _ h9 => h9) rfl ?_
  refine g_bipush (v := 8) X dX0_worthBy_46 rfl ?_
  refine g_aload_n X dX0_worthBy_48 rfl ?_
  refine g_get (C := RX0) (T := TX0) (N := 13) X 0 in_X0 dX0_worthBy_49 q241 (rd0 ho) rfl (Nat.le_of_ble_eq_true rfl) (fun _ h9 => h9) rfl ?_
  refine g_getN (C := RX1) (T := TX1) (N := 8) X 2 in_X1 dX0_worthBy_52 q199 (rd1 ho) rfl (Nat.le_of_ble_eq_true rfl) (fun _ h9 => h9) rfl ?_
  refine g_iload_n X dX0_worthBy_55 rfl ?_
  refine g_iald (j := f) X dX0_worthBy_56 (rdi ho (12) (rfl)) hx hf (by decide) ?_
  refine g_iast X ho (301) (j := 8) dX0_worthBy_57 rfl (rfl) rfl (by decide) (by decide) ?_
  refine g_aload_n X dX0_worthBy_58 rfl ?_
  refine g_get (C := RX0) (T := TX0) (N := 13) X 6 in_X0 dX0_worthBy_59 q247 (rd0 ho) rfl (Nat.le_of_ble_eq_true rfl) (fun _ h9 => h9) rfl ?_
  refine g_bipush (v := 9) X dX0_worthBy_62 rfl ?_
  refine g_aload_n X dX0_worthBy_64 rfl ?_
  refine g_get (C := RX0) (T := TX0) (N := 13) X 0 in_X0 dX0_worthBy_65 q241 (rd0 ho) rfl (Nat.le_of_ble_eq_true rfl) (fun _ h9 => h9) rfl ?_
  refine g_getN (C := RX1) (T := TX1) (N := 8) X 4 in_X1 dX0_worthBy_68 q203 (rd1 ho) rfl (Nat.le_of_ble_eq_true rfl) (fun _ h9 => h9) rfl ?_
  refine g_iload_n X dX0_worthBy_71 rfl ?_
  refine g_aald (t := 4) (j := f) X dX0_worthBy_72 (rd14 ho) rfl rfl hx hf (by decide) rfl ?_
  refine g_iload X dX0_worthBy_73 rfl ?_
  refine g_iald (j := k) X dX0_worthBy_75 (rdi ho (20 + (f)) (kd_want hf)) hy hk (by decide) ?_
  refine g_top (y := S.1 (20 + f) k) (by simp only [si_n (show 20 + f ≠ 301 by omega)]) ?_
  refine g_iast X ho (301) (j := 9) dX0_worthBy_76 rfl (rfl) rfl (by decide) (by decide) ?_
  refine g_eq (S2 := gk_si S 301 (nmL (nm6 (S.1 301) (S.1 304 0) (nI k) (S.1 13 k) (nI f) (S.1 12 f) (S.1 (20 + f) k)) (S.1 304 2 &&& alC n) 0)) (by simp only [si_si, si_s]; rfl) ?_
  refine g_aload_n X dX0_worthBy_77 rfl ?_
  refine g_aload_n X dX0_worthBy_78 rfl ?_
  refine g_callV (C := RX0) (T := TX0) (N := 13) X (k_X0_heldNow ho (S := gk_si S 301 _) rfl hu) (lw_V q1035 q1037 qs30 q135 q1038) hd_X0_heldNow dX0_worthBy_79 (rd0 ho) rfl rfl ⟨Nat.le_of_ble_eq_true rfl, Nat.le_of_ble_eq_true rfl⟩ ⟨Nat.le_of_ble_eq_true rfl, Nat.le_of_ble_eq_true rfl⟩ (Nat.le_of_ble_eq_true rfl) ?_
  rintro _ S1 ⟨rfl, hS1⟩
  obtain rfl := hS1.symm
  refine g_top (y := (S.1 304 2 &&& alC n)) rfl ?_
  refine g_istore X dX0_worthBy_82 (Nat.le_of_ble_eq_true rfl) ?_
  refine g_iconst (v := 0) X dX0_worthBy_84 rfl ?_
  refine g_istore X dX0_worthBy_85 (Nat.le_of_ble_eq_true rfl) ?_
  refine g_loop (σ := Nat) (fun (i : Nat) => gk_si S 301 (nmL (nm6 (S.1 301) (S.1 304 0) (nI k) (S.1 13 k) (nI f) (S.1 12 f) (S.1 (20 + f) k)) (S.1 304 2 &&& alC n) i)) (fun (i : Nat) => ([some (.ref (E.2.2.1 0)), some (.ref a1), some (.ref (E.2.2.1 304)), some (.int x), some (.int y), some (.int (S.1 304 2 &&& alC n)), some (.int (nI i))] : List (Option Value))) (fun (i : Nat) => i ≤ 8) (fun (i : Nat) => 8 - i) (0) ?_ (rfl) (le_1 rfl (le_1 rfl (le_1 rfl (le_1 rfl (le_1 rfl (le_1 rfl (le_1 rfl le_n))))))) ?_
  · exact Nat.zero_le _
  intro i hI ih
  try dsimp only at hI ih ⊢
  refine g_iload X dX0_worthBy_87 rfl ?_
  refine g_bipush (v := 8) X dX0_worthBy_89 rfl ?_
  refine g_icmp_ge (tgt := 117) X dX0_worthBy_91 rfl (fun c91 => ?_) (fun c91 => ?_)
  · have hi8 : i = 8 := Nat.le_antisymm hI ((nI_leI (by decide) (by omega)).mp c91)
    subst hi8
    refine g_aload_n X dX0_worthBy_117 rfl ?_
    refine g_getN (C := RX4) (T := TX4) (N := 5) X 0 in_X4 dX0_worthBy_118 q390 (rd_dy ht) rfl (Nat.le_of_ble_eq_true rfl) (fun _ h9 => h9) rfl ?_
    refine g_ifnonnull (tgt := 135) X dX0_worthBy_121 rfl ?_
    refine g_aload_n X dX0_worthBy_135 rfl ?_
    refine g_getN (C := RX4) (T := TX4) (N := 5) X 0 in_X4 dX0_worthBy_136 q390 (rd_dy ht) rfl (Nat.le_of_ble_eq_true rfl) (fun _ h9 => h9) rfl ?_
    refine g_aload_n X dX0_worthBy_139 rfl ?_
    refine g_get (C := RX0) (T := TX0) (N := 13) X 6 in_X0 dX0_worthBy_140 q247 (rd0 ho) rfl (Nat.le_of_ble_eq_true rfl) (fun _ h9 => h9) rfl ?_
    refine g_callF X (show gk_Im l E gk_ofT (frD d) (loD d) wa [.ref (E.2.2.1 301)] (gk_si S 301 (nmL (nm6 (S.1 301) (S.1 304 0) (nI k) (S.1 13 k) (nI f) (S.1 12 f) (S.1 (20 + f) k)) (S.1 304 2 &&& alC n) 8)) (fun r S2 => r = some (.long (M (nmL (nm6 (S.1 301) (S.1 304 0) (nI k) (S.1 13 k) (nI f) (S.1 12 f) (S.1 (20 + f) k)) (S.1 304 2 &&& alC n) 8))) ∧ S2 = gk_si S 301 (nmL (nm6 (S.1 301) (S.1 304 0) (nI k) (S.1 13 k) (nI f) (S.1 12 f) (S.1 (20 + f) k)) (S.1 304 2 &&& alC n) 8)) from den_im (S := gk_si S 301 (nmL (nm6 (S.1 301) (S.1 304 0) (nI k) (S.1 13 k) (nI f) (S.1 12 f) (S.1 (20 + f) k)) (S.1 304 2 &&& alC n) 8)) ho (fun _ _ z => z) (rdi ho 301 rfl) hic hd) q1058 hd_ofT dX0_worthBy_143 rfl ⟨by have := frD_eq d; show frD d + 1 ≤ 250; omega, by have := loD_eq d; show 29 + loD d ≤ 8000; omega⟩ ⟨Nat.le_of_ble_eq_true rfl, Nat.le_of_ble_eq_true rfl⟩ (Nat.le_of_ble_eq_true rfl) ?_
    rintro _ S1 ⟨rfl, hS1⟩
    obtain rfl := hS1.symm
    refine g_bipush (v := (-99)) X dX0_worthBy_148 rfl ?_
    refine g_bipush (v := 99) X dX0_worthBy_150 rfl ?_
    refine g_callS X (k_X0_held ho) (lw_S q1059 q1060 q135 q1061) hd_X0_held dX0_worthBy_152 rfl ⟨Nat.le_of_ble_eq_true rfl, Nat.le_of_ble_eq_true rfl⟩ ⟨Nat.le_of_ble_eq_true rfl, Nat.le_of_ble_eq_true rfl⟩ (Nat.le_of_ble_eq_true rfl) ?_
    rintro _ S1 ⟨rfl, hS1⟩
    obtain rfl := hS1.symm
    exact g_iret X hr dX0_worthBy_155 (Nat.le_of_ble_eq_true rfl) (Nat.le_of_ble_eq_true rfl) (⟨rfl, rfl⟩)
  · have hi8 : i < 8 := (nI_ltI (by omega) (by decide)).mp (Int32.not_le.mp c91)
    refine g_aload_n X dX0_worthBy_94 rfl ?_
    refine g_get (C := RX0) (T := TX0) (N := 13) X 6 in_X0 dX0_worthBy_95 q247 (rd0 ho) rfl (Nat.le_of_ble_eq_true rfl) (fun _ h9 => h9) rfl ?_
    refine g_bipush (v := 10) X dX0_worthBy_98 rfl ?_
    refine g_iload X dX0_worthBy_100 rfl ?_
    refine g_iadd X dX0_worthBy_102 ?_
    refine g_iload X dX0_worthBy_103 rfl ?_
    refine g_iload X dX0_worthBy_105 rfl ?_
    refine g_ishr X dX0_worthBy_107 ?_
    refine g_iconst (v := 1) X dX0_worthBy_108 rfl ?_
    refine g_iand X dX0_worthBy_109 ?_
    refine g_iast X ho (301) (j := 10 + i) dX0_worthBy_110 rfl (rfl) (by show nI 10 + nI i = _; rw [nI_add]) (by omega) (by decide) ?_
    refine g_iinc (v := 1) X dX0_worthBy_111 rfl rfl (Nat.le_of_ble_eq_true rfl) ?_
    refine g_goto (tgt := 87) X dX0_worthBy_114 rfl ?_
    refine g_eq (S2 := gk_si S 301 (nmL (nm6 (S.1 301) (S.1 304 0) (nI k) (S.1 13 k) (nI f) (S.1 12 f) (S.1 (20 + f) k)) (S.1 304 2 &&& alC n) (i + 1))) (by rw [si_si]; rfl) ?_
    refine g_sub (le_1 rfl (le_1 rfl (le_1 rfl (le_1 rfl (le_1 rfl (le_1 rfl (le_1 e_1 le_n))))))) (ih (i + 1) ?_ ?_)
    · try dsimp only
      omega
    · try dsimp only
      omega
theorem k_X0_worthBy_304 {l : Launch} {E : gk_E} (ho : E.2.2.2.2 = true) {S : gk_S} {x : Int32} {y : Int32} {a n f k : Nat} {g : Nat → Int32} {a1 : Nat} {W : Option mnB} {ic : Nat → Nat} (hu : RU E S a n g) (hx : x = nI f) (hf : f < 5) (hy : y = nI k) (hk : k < 5) (hw : wtO E ic S.2.2.2 a1 W) (hic : icA S ic) : gk_T l E yX0_worthBy cX0_worthBy 7 (some .int) 250 8000 0 0 [.ref (E.2.2.1 0), .ref a1, .ref (E.2.2.1 304), .int x, .int y] S (fun r S' => r = some (.int (wvC W (nmC S 304 n f k))) ∧ S' = gk_si S 301 (nmC S 304 n f k)) := by
  rcases hw with ⟨rfl, tb, dl, nc, cl, ht⟩ | ⟨M, wa, d, tb, dl, nc, cl, rfl, ht, hd, hd60⟩
  · exact k_X0_worthBy_n_304 ho hu hx hf hy hk ht
  · exact k_X0_worthBy_w_304 ho hu hx hf hy hk ht hd hd60 hic
