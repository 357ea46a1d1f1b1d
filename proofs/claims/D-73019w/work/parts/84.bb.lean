/-- the table of a claim -/
def tbI (M : mnB) (w : Nat) : Int32 := itr (fun w b => b ||| (if M (vwC w) = 1 then one (nI w) else 0)) w 0
theorem tb_t {M : mnB} {w : Nat} (h : M (vwC w) = 1) : tbI M (w + 1) = tbI M w ||| one (nI w) := congrArg (fun z => tbI M w ||| z) (if_pos h)
theorem tb_f {M : mnB} {w : Nat} (h : ¬ M (vwC w) = 1) : tbI M (w + 1) = tbI M w ||| 0 := congrArg (fun z => tbI M w ||| z) (if_neg h)
/-- the texts' array and how many claims, behind i clauses -/
def tlF (t : Nat → Int32) (j : Nat) (cm : Nat → mnB) (i : Nat) : (Nat → Int32) × Nat := itr (fun i q => if t (714 * j + 1 + 4 * i) = 1 then (upd q.1 (714 * j + 706 + q.2) (tbI (cm i) 16), q.2 + 1) else q) i (t, 0)
theorem tl_t {t : Nat → Int32} {j i : Nat} {cm : Nat → mnB} (h : t (714 * j + 1 + 4 * i) = 1) : tlF t j cm (i + 1) = (upd (tlF t j cm i).1 (714 * j + 706 + (tlF t j cm i).2) (tbI (cm i) 16), (tlF t j cm i).2 + 1) := if_pos h
theorem tl_f {t : Nat → Int32} {j i : Nat} {cm : Nat → mnB} (h : ¬ t (714 * j + 1 + 4 * i) = 1) : tlF t j cm (i + 1) = tlF t j cm i := if_neg h
theorem tl_lo {t : Nat → Int32} {j : Nat} {cm : Nat → mnB} : ∀ {i p : Nat}, p < 714 * j + 706 → (tlF t j cm i).1 p = t p
  | 0, _, _ => rfl
  | i + 1, p, hp => by
    by_cases h : t (714 * j + 1 + 4 * i) = 1
    · rw [tl_t h]
      show upd _ _ _ p = _
      rw [upd_n (by omega), tl_lo hp]
    · rw [tl_f h, tl_lo hp]
theorem tl_up {t : Nat → Int32} {j : Nat} {cm : Nat → mnB} {i : Nat} : ∀ {k : Nat}, (tlF t j cm i).2 ≤ (tlF t j cm (i + k)).2
  | 0 => Nat.le_refl _
  | k + 1 => by
    refine Nat.le_trans (tl_up (k := k)) ?_
    show _ ≤ (tlF t j cm (i + k + 1)).2
    by_cases h : t (714 * j + 1 + 4 * (i + k)) = 1
    · rw [tl_t h]
      exact Nat.le_succ _
    · rw [tl_f h]
      exact Nat.le_refl _
theorem tl_le {t : Nat → Int32} {j : Nat} {cm : Nat → mnB} {i n : Nat} (h : i ≤ n) : (tlF t j cm i).2 ≤ (tlF t j cm n).2 := by
  obtain ⟨k, rfl⟩ := Nat.le.dest h
  exact tl_up
theorem cdA_c {t t' : Nat → Int32} {j : Nat} (h : ∀ p, p < 714 * j + 705 → t' p = t p) : ∀ {C : List (Nat × Nat)} {i : Nat}, i + C.length ≤ 304 → cdA t j i C → cdA t' j i C
  | [], _, _, _ => trivial
  | ow :: C, i, hi, z => by
    have hl : i + (C.length + 1) ≤ 304 := hi
    exact ⟨(h _ (by omega)).trans z.1, (h _ (by omega)).trans z.2.1, cdA_c h (by omega) z.2.2⟩
theorem dt_dt {S : gk_S} {F F' : Nat → Int32} {A A' : Nat → Int64} {B B' : Nat → Int32} : gk_dt (gk_dt S F A B) F' A' B' = gk_dt S F' A' B' := by
  unfold gk_dt gk_si gk_sl
  refine Prod.ext ?_ (Prod.ext ?_ rfl)
  · funext k
    by_cases h1 : k = 407
    · simp [va_up, h1]
    · by_cases h2 : k = 405 <;> simp [va_up, h1, h2]
  · funext k
    by_cases h : k = 0 <;> simp [va_up, h]
theorem dt_si {S : gk_S} {F : Nat → Int32} {A : Nat → Int64} {B : Nat → Int32} {i : Nat} {f : Nat → Int32} (h1 : i ≠ 405) (h2 : i ≠ 407) : gk_si (gk_dt S F A B) i f = gk_dt (gk_si S i f) F A B := by
  unfold gk_dt gk_si gk_sl
  refine Prod.ext ?_ (Prod.ext rfl rfl)
  funext k
  by_cases e1 : k = i
  · simp [va_up, e1, h1, h2]
  · simp [va_up, e1]
theorem dt_self {S : gk_S} : S = gk_dt S (S.1 405) (S.2.1 0) (S.1 407) := by
  rw [← dt_id, si_id]
theorem lay_0 {S : gk_S} {u : Nat → Int32} : gk_si S 201 u = gk_dt (gk_si (gk_si S 201 u) 402 (S.1 402)) (S.1 405) (S.2.1 0) (S.1 407) := by
  have h : gk_si (gk_si S 201 u) 402 (S.1 402) = gk_si S 201 u := si_id (S := gk_si S 201 u) (i := 402)
  rw [h]
  exact dt_self (S := gk_si S 201 u)
set_option maxHeartbeats 600000 in
theorem k_X2_layTables {l : Launch} {E : gk_E} (ho : E.2.2.2.2 = true) {S : gk_S} {x : Int32} {j nc : Nat} {cm : Nat → mnB} (hx : x = nI j) (hj : j < 4) (hn : nc ≤ 24) (hn2 : S.1 402 (714 * j) = nI nc) (hcm : ∀ i, i < nc → S.1 402 (714 * j + 1 + 4 * i) = 1 → ∃ (C : List (Nat × Nat)) (t0 t1 : Nat), S.1 402 (714 * j + 1 + 4 * i + 1) = nI t0 ∧ S.1 402 (714 * j + 1 + 4 * i + 2) = nI t1 ∧ t0 + C.length = t1 ∧ t1 ≤ 304 ∧ cdA (S.1 402) j t0 C ∧ mA C (cm i)) (h8 : (tlF (S.1 402) j cm nc).2 ≤ 8) (hlw : lwB (S.2.1 0)) : gk_T l E yX2_layTables cX2_layTables 7 (none) 4 98 0 0 [.ref (E.2.2.1 3), .int x] S (fun r S' => ∃ (F : Nat → Int32) (A : Nat → Int64) (B : Nat → Int32), r = none ∧ S' = gk_dt (gk_si (gk_si S 201 (upd (S.1 201) 24 0)) 402 (upd (tlF (S.1 402) j cm nc).1 (714 * j + 705) (nI (tlF (S.1 402) j cm nc).2))) F A B ∧ lwB A) := by
  refine gk_T.of [some (.ref (E.2.2.1 3)), some (.int x), none, none, none, none, none] (by decide) (Nat.le_of_ble_eq_true rfl) (le_1 rfl (le_1 rfl (le_p (le_p (le_p (le_p (le_p le_n))))))) ?_
  intro p_ e_ R_ s_ m_ args_ below_ meth_ c_ hR X hr hin
  subst hR
  refine g_sipush (v := 714) X dX2_layTables_0 rfl ?_
  refine g_iload_n X dX2_layTables_3 rfl ?_
  refine g_imul X dX2_layTables_4 ?_
  refine g_top (y := nI (714 * j)) (by rw [hx]; show nI 714 * nI j = _; rw [pk_mul]) ?_
  refine g_istore_n X dX2_layTables_5 (Nat.le_of_ble_eq_true rfl) ?_
  refine g_iconst (v := 0) X dX2_layTables_6 rfl ?_
  refine g_istore_n X dX2_layTables_7 (Nat.le_of_ble_eq_true rfl) ?_
  refine g_aload_n X dX2_layTables_8 rfl ?_
  refine g_iconst (v := 1) X dX2_layTables_9 rfl ?_
  refine g_put3 X ho 24 dX2_layTables_10 q1429 rfl (Nat.le_of_ble_eq_true rfl) rfl rfl rfl rfl (Nat.le_of_ble_eq_true rfl) rfl ?_
  refine g_iconst (v := 0) X dX2_layTables_13 rfl ?_
  refine g_istore X dX2_layTables_14 (Nat.le_of_ble_eq_true rfl) ?_
  refine g_loop (σ := Nat × (Nat → Int32) × (Nat → Int64) × (Nat → Int32)) (fun (q : Nat × (Nat → Int32) × (Nat → Int64) × (Nat → Int32)) => match q with | (i, F, A, B) => gk_dt (gk_si (gk_si S 201 (upd (S.1 201) 24 1)) 402 (tlF (S.1 402) j cm i).1) F A B) (fun (q : Nat × (Nat → Int32) × (Nat → Int64) × (Nat → Int32)) => match q with | (i, F, A, B) => ([some (.ref (E.2.2.1 3)), some (.int x), some (.int (nI (714 * j))), some (.int (nI (tlF (S.1 402) j cm i).2)), some (.int (nI i)), none, none] : List (Option Value))) (fun (q : Nat × (Nat → Int32) × (Nat → Int64) × (Nat → Int32)) => match q with | (i, F, A, B) => i ≤ nc ∧ lwB A) (fun (q : Nat × (Nat → Int32) × (Nat → Int64) × (Nat → Int32)) => match q with | (i, F, A, B) => nc - i) ((0, S.1 405, S.2.1 0, S.1 407)) ?_ (lay_0) (le_1 rfl (le_1 rfl (le_1 rfl (le_1 rfl (le_1 rfl (le_0 (le_0 le_n))))))) ?_
  · exact ⟨Nat.zero_le _, hlw⟩
  rintro ⟨i, F, A, B⟩ hI ih
  try dsimp only at hI ih ⊢
  obtain ⟨hI1, hI2⟩ := hI
  refine g_iload X dX2_layTables_16 rfl ?_
  refine g_aload_n X dX2_layTables_18 rfl ?_
  refine g_get (C := RX2) (T := TX2) (N := 35) X 2 in_X2 dX2_layTables_19 q1407 (rd3 ho) rfl (Nat.le_of_ble_eq_true rfl) (fun _ h9 => h9) rfl ?_
  refine g_iload_n X dX2_layTables_22 rfl ?_
  refine g_iald (j := 714 * j) X dX2_layTables_23 (rdi ho (402) (rfl)) rfl (by omega) (by decide) ?_
  refine g_top (y := nI nc) ((tl_lo (t := S.1 402) (j := j) (cm := cm) (i := i) (by omega)).trans hn2) ?_
  refine g_icmp_ge (tgt := 116) X dX2_layTables_24 rfl (fun c24 => ?_) (fun c24 => ?_)
  · obtain rfl : i = nc := Nat.le_antisymm hI1 ((nI_leI (by omega) (by omega)).mp c24)
    refine g_aload_n X dX2_layTables_116 rfl ?_
    refine g_get (C := RX2) (T := TX2) (N := 35) X 2 in_X2 dX2_layTables_117 q1407 (rd3 ho) rfl (Nat.le_of_ble_eq_true rfl) (fun _ h9 => h9) rfl ?_
    refine g_iload_n X dX2_layTables_120 rfl ?_
    refine g_sipush (v := 705) X dX2_layTables_121 rfl ?_
    refine g_iadd X dX2_layTables_124 ?_
    refine g_iload_n X dX2_layTables_125 rfl ?_
    refine g_iast X ho (402) (j := 714 * j + 705) dX2_layTables_126 rfl (rfl) (by show nI (714 * j) + nI 705 = _; rw [nI_add]) (by omega) (by decide) ?_
    refine g_aload_n X dX2_layTables_127 rfl ?_
    refine g_iconst (v := 0) X dX2_layTables_128 rfl ?_
    refine g_put3 X ho 24 dX2_layTables_129 q1429 rfl (Nat.le_of_ble_eq_true rfl) rfl rfl rfl rfl (Nat.le_of_ble_eq_true rfl) rfl ?_
    exact g_vret X hr dX2_layTables_132 (Nat.le_of_ble_eq_true rfl) (Nat.le_of_ble_eq_true rfl) (⟨F, A, B, rfl, by rw [dt_si (by decide) (by decide), dt_si (by decide) (by decide), si_si, si_co (i := 402) (j := 201) (by decide), si_si]; exact congrArg (fun u => gk_dt (gk_si (gk_si S 201 u) 402 (upd (tlF (S.1 402) j cm i).1 (714 * j + 705) (nI (tlF (S.1 402) j cm i).2))) F A B) (upd_upd (f := S.1 201)), hI2⟩)
  · have hin : i < nc := (nI_ltI (by omega) (by omega)).mp (Int32.not_le.mp c24)
    refine g_aload_n X dX2_layTables_27 rfl ?_
    refine g_get (C := RX2) (T := TX2) (N := 35) X 2 in_X2 dX2_layTables_28 q1407 (rd3 ho) rfl (Nat.le_of_ble_eq_true rfl) (fun _ h9 => h9) rfl ?_
    refine g_iload_n X dX2_layTables_31 rfl ?_
    refine g_iconst (v := 1) X dX2_layTables_32 rfl ?_
    refine g_iadd X dX2_layTables_33 ?_
    refine g_iconst (v := 4) X dX2_layTables_34 rfl ?_
    refine g_iload X dX2_layTables_35 rfl ?_
    refine g_imul X dX2_layTables_37 ?_
    refine g_iadd X dX2_layTables_38 ?_
    refine g_iald (j := 714 * j + 1 + 4 * i) X dX2_layTables_39 (rdi ho (402) (rfl)) (by show nI (714 * j) + nI 1 + nI 4 * nI i = _; rw [pk_mul, nI_add, nI_add]) (by omega) (by decide) ?_
    refine g_top (y := S.1 402 (714 * j + 1 + 4 * i)) (tl_lo (t := S.1 402) (j := j) (cm := cm) (i := i) (by omega)) ?_
    refine g_iconst (v := 1) X dX2_layTables_40 rfl ?_
    refine g_icmp_eq (tgt := 47) X dX2_layTables_41 rfl (fun c41 => ?_) (fun c41 => ?_)
    · obtain ⟨C, t0, t1, k1, k2, k3, k4, k5, k6⟩ := hcm i hin c41
      have h82 : (tlF (S.1 402) j cm i).2 < 8 := by
        have := tl_le (t := S.1 402) (j := j) (cm := cm) (show i + 1 ≤ nc by omega)
        rw [tl_t c41] at this
        dsimp only at this
        omega
      refine g_iconst (v := 0) X dX2_layTables_47 rfl ?_
      refine g_istore X dX2_layTables_48 (Nat.le_of_ble_eq_true rfl) ?_
      refine g_iconst (v := 0) X dX2_layTables_50 rfl ?_
      refine g_istore X dX2_layTables_51 (Nat.le_of_ble_eq_true rfl) ?_
      refine g_loop (σ := Nat × (Nat → Int32) × (Nat → Int64) × (Nat → Int32)) (fun (q : Nat × (Nat → Int32) × (Nat → Int64) × (Nat → Int32)) => match q with | (w, F2, A2, B2) => gk_dt (gk_si (gk_si S 201 (upd (S.1 201) 24 1)) 402 (tlF (S.1 402) j cm i).1) F2 A2 B2) (fun (q : Nat × (Nat → Int32) × (Nat → Int64) × (Nat → Int32)) => match q with | (w, F2, A2, B2) => ([some (.ref (E.2.2.1 3)), some (.int x), some (.int (nI (714 * j))), some (.int (nI (tlF (S.1 402) j cm i).2)), some (.int (nI i)), some (.int (tbI (cm i) w)), some (.int (nI w))] : List (Option Value))) (fun (q : Nat × (Nat → Int32) × (Nat → Int64) × (Nat → Int32)) => match q with | (w, F2, A2, B2) => w ≤ 16 ∧ lwB A2) (fun (q : Nat × (Nat → Int32) × (Nat → Int64) × (Nat → Int32)) => match q with | (w, F2, A2, B2) => 16 - w) ((0, F, A, B)) ?_ (rfl) (le_1 rfl (le_1 rfl (le_1 rfl (le_1 rfl (le_1 rfl (le_1 rfl (le_1 rfl le_n))))))) ?_
      · exact ⟨Nat.zero_le _, hI2⟩
      rintro ⟨w, F2, A2, B2⟩ hJ ih2
      try dsimp only at hJ ih2 ⊢
      obtain ⟨hJ1, hJ2⟩ := hJ
      refine g_iload X dX2_layTables_53 rfl ?_
      refine g_bipush (v := 16) X dX2_layTables_55 rfl ?_
      refine g_icmp_ge (tgt := 91) X dX2_layTables_57 rfl (fun c57 => ?_) (fun c57 => ?_)
      · obtain rfl : w = 16 := Nat.le_antisymm hJ1 ((nI_leI (by decide) (by omega)).mp c57)
        refine g_aload_n X dX2_layTables_91 rfl ?_
        refine g_get (C := RX2) (T := TX2) (N := 35) X 2 in_X2 dX2_layTables_92 q1407 (rd3 ho) rfl (Nat.le_of_ble_eq_true rfl) (fun _ h9 => h9) rfl ?_
        refine g_iload_n X dX2_layTables_95 rfl ?_
        refine g_sipush (v := 705) X dX2_layTables_96 rfl ?_
        refine g_iadd X dX2_layTables_99 ?_
        refine g_iconst (v := 1) X dX2_layTables_100 rfl ?_
        refine g_iadd X dX2_layTables_101 ?_
        refine g_iload_n X dX2_layTables_102 rfl ?_
        refine g_iadd X dX2_layTables_103 ?_
        refine g_iload X dX2_layTables_104 rfl ?_
        refine g_iast X ho (402) (j := 714 * j + 706 + (tlF (S.1 402) j cm i).2) dX2_layTables_106 rfl (rfl) (by show nI (714 * j) + nI 705 + nI 1 + nI _ = _; rw [nI_add, nI_add, nI_add]) (by omega) (by decide) ?_
        refine g_iinc (v := 1) X dX2_layTables_107 rfl rfl (Nat.le_of_ble_eq_true rfl) ?_
        refine g_iinc (v := 1) X dX2_layTables_110 rfl rfl (Nat.le_of_ble_eq_true rfl) ?_
        refine g_goto (tgt := 16) X dX2_layTables_113 rfl ?_
        refine g_eq (S2 := gk_dt (gk_si (gk_si S 201 (upd (S.1 201) 24 1)) 402 (tlF (S.1 402) j cm (i + 1)).1) F2 A2 B2) (by rw [dt_si (by decide) (by decide), si_si, tl_t c41]; rfl) ?_
        refine g_sub (le_1 rfl (le_1 rfl (le_1 rfl (le_1 (congrArg (fun z => some (Value.int z)) ((nI_1 _).trans (by rw [tl_t c41]))) (le_1 e_1 (le_0 (le_0 le_n))))))) (ih (i + 1, F2, A2, B2) ?_ ?_)
        · exact ⟨by omega, hJ2⟩
        · show nc - (i + 1) < nc - i; omega
      · have hw16 : w < 16 := (nI_ltI (by omega) (by decide)).mp (Int32.not_le.mp c57)
        refine g_iload X dX2_layTables_60 rfl ?_
        refine g_aload_n X dX2_layTables_62 rfl ?_
        refine g_iload_n X dX2_layTables_63 rfl ?_
        refine g_iload X dX2_layTables_64 rfl ?_
        refine g_iload X dX2_layTables_66 rfl ?_
        refine g_callV (C := RX2) (T := TX2) (N := 35) X (k_X2_isSo ho (S := gk_dt (gk_si (gk_si S 201 (upd (S.1 201) 24 1)) 402 (tlF (S.1 402) j cm i).1) F2 A2 B2) hx hj rfl (by omega) ((tl_lo (by omega)).trans k1) ((tl_lo (by omega)).trans k2) k3 k4 (cdA_c (fun z hz => tl_lo (by omega)) (by omega) k5) (by show ¬ upd (S.1 201) 24 1 24 = 0; rw [upd_s]; decide) k6 hJ2) (lw_V q1695 q1697 qs91 q139 q1698) hd_X2_isSo dX2_layTables_68 (rd3 ho) rfl rfl ⟨Nat.le_of_ble_eq_true rfl, Nat.le_of_ble_eq_true rfl⟩ ⟨Nat.le_of_ble_eq_true rfl, Nat.le_of_ble_eq_true rfl⟩ (Nat.le_of_ble_eq_true rfl) ?_
        rintro _ S1 ⟨A1, B1, rfl, hS1, hA1⟩
        obtain rfl := hS1.symm
        refine g_ifp_eq (tgt := 81) X dX2_layTables_71 rfl (fun c71 => ?_) (fun c71 => ?_)
        · refine g_iconst (v := 0) X dX2_layTables_81 rfl ?_
          refine g_ior X dX2_layTables_82 ?_
          refine g_istore X dX2_layTables_83 (Nat.le_of_ble_eq_true rfl) ?_
          refine g_iinc (v := 1) X dX2_layTables_85 rfl rfl (Nat.le_of_ble_eq_true rfl) ?_
          refine g_goto (tgt := 53) X dX2_layTables_88 rfl ?_
          refine g_eq dt_dt ?_
          refine g_sub (le_1 rfl (le_1 rfl (le_1 rfl (le_1 rfl (le_1 rfl (le_1 (congrArg (fun z => some (Value.int z)) ((tb_f c71).symm)) (le_1 e_1 le_n))))))) (ih2 (w + 1, nwL F2 w 4, A1, B1) ?_ ?_)
          · exact ⟨by omega, hA1⟩
          · show 16 - (w + 1) < 16 - w; omega
        · refine g_iconst (v := 1) X dX2_layTables_74 rfl ?_
          refine g_iload X dX2_layTables_75 rfl ?_
          refine g_ishl X dX2_layTables_77 ?_
          refine g_goto (tgt := 82) X dX2_layTables_78 rfl ?_
          refine g_ior X dX2_layTables_82 ?_
          refine g_istore X dX2_layTables_83 (Nat.le_of_ble_eq_true rfl) ?_
          refine g_iinc (v := 1) X dX2_layTables_85 rfl rfl (Nat.le_of_ble_eq_true rfl) ?_
          refine g_goto (tgt := 53) X dX2_layTables_88 rfl ?_
          refine g_eq dt_dt ?_
          refine g_sub (le_1 rfl (le_1 rfl (le_1 rfl (le_1 rfl (le_1 rfl (le_1 (congrArg (fun z => some (Value.int z)) ((tb_t c71).symm)) (le_1 e_1 le_n))))))) (ih2 (w + 1, nwL F2 w 4, A1, B1) ?_ ?_)
          · exact ⟨by omega, hA1⟩
          · show 16 - (w + 1) < 16 - w; omega
    · refine g_goto (tgt := 110) X dX2_layTables_44 rfl ?_
      refine g_iinc (v := 1) X dX2_layTables_110 rfl rfl (Nat.le_of_ble_eq_true rfl) ?_
      refine g_goto (tgt := 16) X dX2_layTables_113 rfl ?_
      refine g_eq (S2 := gk_dt (gk_si (gk_si S 201 (upd (S.1 201) 24 1)) 402 (tlF (S.1 402) j cm (i + 1)).1) F A B) (by rw [tl_f c41]) ?_
      refine g_sub (le_1 rfl (le_1 rfl (le_1 rfl (le_1 (congrArg (fun z => some (Value.int z)) (by rw [tl_f c41])) (le_1 e_1 (le_0 (le_0 le_n))))))) (ih (i + 1, F, A, B) ?_ ?_)
      · exact ⟨by omega, hI2⟩
      · show nc - (i + 1) < nc - i; omega
