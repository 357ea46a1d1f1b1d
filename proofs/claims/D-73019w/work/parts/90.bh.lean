theorem or5 : ∀ w, w < 32 → ∀ i, i < 5 → nI w ||| one (nI i) = nI (w ||| 2 ^ i) ∧ (w ||| 2 ^ i) < 32 := by decide +kernel
theorem bMs_bad {n v : Nat} {g A cl : Nat → Int32} : ∀ {i : Nat}, i ≤ 5 → ∃ w, w < 32 ∧ (bMs n g (A, v, cl, 0) i).2.2.2 = nI w
  | 0, _ => ⟨0, by decide, by rw [bMs_0]; rfl⟩
  | i + 1, h => by
    obtain ⟨w, hw, e⟩ := bMs_bad (n := n) (v := v) (g := g) (A := A) (cl := cl) (i := i) (by omega)
    by_cases c : (rfM n g (bMs n g (A, v, cl, 0) i).2.1 i (bMs n g (A, v, cl, 0) i).1).2 = true
    · rw [bMs_t c]
      dsimp only
      rw [e]
      exact ⟨_, (or5 w hw i (by omega)).2, (or5 w hw i (by omega)).1⟩
    · rw [bMs_f c]
      exact ⟨w, hw, e⟩
theorem wr_st {S : gk_S} {wr : Bool} {A cl u F T : Nat → Int32} {L : Nat → Int64} {nb f : Nat} {x z : Int32} (h : wr = true ↔ ¬ u 25 = 0) : (if u 25 = 0 then gk_m4 S A cl u F L T else gk_si (gk_m4 S A cl u F L T) 400 (wmC A nb f x (cl f) z)) = gk_m4 S (if wr = true then wmC A nb f x (cl f) z else A) cl u F L T := by
  by_cases c : u 25 = 0
  · rw [if_pos c, if_neg (fun y => h.mp y c)]
  · rw [if_neg c, if_pos (h.mpr c), m4_a]
theorem m4_t {S : gk_S} {A A' cl u F F' T T' : Nat → Int32} {L L' : Nat → Int64} : gk_dt (gk_si (gk_m4 S A cl u F L T) 400 A') F' L' T' = gk_m4 S A' cl u F' L' T' := by rw [m4_a, m4_d]
theorem nd_0 {nf d f : Nat} (h : nf - 1 - d = f) (hd : d < nf) : nI (nf - d) - 1 = nI f := by
  have e : nf - d = f + 1 := by omega
  rw [e, nI_pred]
theorem nd_1 {nf d : Nat} (hd : d < nf) : nI (nf - d) - 1 + (-1) = nI (nf - (d + 1)) - 1 := by
  have e : nf - d = (nf - (d + 1)) + 1 := by omega
  rw [e, nI_pred, Int32.sub_eq_add_neg]
set_option maxHeartbeats 4000000 in
theorem k_X2_pass {l : Launch} {E : gk_E} (ho : E.2.2.2.2 = true) {S : gk_S}  {n nf v nb : Nat} {g : Nat → Int32} {W : Option mnB} {wr : Bool} (hu : MU S n g) (h0 : S.1 400 0 = nI nf) (h1 : nf ≤ 5) (hv : S.1 400 6 = nI v) (hv2 : v < 30859) (hb : S.1 400 8 = nI nb) (hb2 : nb ≤ 20) (hw : wtM (S.1 402) (S.1 400 2) W) (hcl : S.1 201 24 = 0) (hsm : smA (S.1 400)) (hlw : lwB (S.2.1 0)) (hwr : wr = true ↔ ¬ S.1 201 25 = 0) : gk_T l E yX2_pass cX2_pass 4 (none) 5 122 0 0 [.ref (E.2.2.1 3)] S (fun r S' => ∃ (F : Nat → Int32) (L1 : Nat → Int64) (T : Nat → Int32), r = none ∧ S' = gk_m4 S (psRM wr S n nf v nb g W) (psBM S n nf v g).2.2.1 (upd (S.1 201) 26 (S.1 201 26 + bcI (psBM S n nf v g).2.2.2)) F L1 T ∧ offM F (S.1 405) ∧ lwB L1) := by
  have hn8 : n ≤ 8 := hu.1
  have hok : ∀ {i : Nat}, i ≤ nf → bOM (clA (S.1 400) 8) (bMs n g (clA (S.1 400) 8, v, S.1 408, 0) i) := fun {i} hi => bMs_ok hn8 ((clA_n (by omega)).trans ((upd_n (by decide)).trans hv)) hv2 (by omega)
  have hcA : ∀ k, (k < 6 ∨ k = 8 ∨ 27 ≤ k) → clA (S.1 400) 8 k = S.1 400 k := fun k hk => (clA_n (by omega)).trans (upd_n (by omega))
  refine gk_T.of [some (.ref (E.2.2.1 3)), none, none, none] (by decide) (Nat.le_of_ble_eq_true rfl) (le_1 rfl (le_p (le_p (le_p le_n)))) ?_
  intro p_ e_ R_ s_ m_ args_ below_ meth_ c_ hR X hr hin
  subst hR
  refine g_aload_n X dX2_pass_0 rfl ?_
  refine g_get (C := RX2) (T := TX2) (N := 35) X 0 in_X2 dX2_pass_1 q1405 (rd3 ho) rfl (Nat.le_of_ble_eq_true rfl) (fun _ h9 => h9) rfl ?_
  refine g_bipush (v := 7) X dX2_pass_4 rfl ?_
  refine g_iconst (v := 0) X dX2_pass_6 rfl ?_
  refine g_iast X ho (400) (j := 7) dX2_pass_7 rfl (rfl) rfl (by decide) (by decide) ?_
  refine g_iconst (v := 0) X dX2_pass_8 rfl ?_
  refine g_istore_n X dX2_pass_9 (Nat.le_of_ble_eq_true rfl) ?_
  refine g_loop (σ := Nat) (fun (i : Nat) => gk_si S 400 (clA (S.1 400) i)) (fun (i : Nat) => ([some (.ref (E.2.2.1 3)), some (.int (nI i)), none, none] : List (Option Value))) (fun (i : Nat) => i ≤ 8) (fun (i : Nat) => 8 - i) (0) ?_ ((congrArg (gk_si S 400) clA_0.symm)) (le_1 rfl (le_1 rfl (le_0 (le_0 le_n)))) ?_
  · exact Nat.zero_le _
  intro i hI ih
  try dsimp only at hI ih ⊢
  refine g_iload_n X dX2_pass_10 rfl ?_
  refine g_bipush (v := 8) X dX2_pass_11 rfl ?_
  refine g_icmp_ge (tgt := 50) X dX2_pass_13 rfl (fun c13 => ?_) (fun c13 => ?_)
  · obtain rfl : i = 8 := Nat.le_antisymm hI ((nI_leI (by decide) (by omega)).mp c13)
    refine g_iconst (v := 0) X dX2_pass_50 rfl ?_
    refine g_istore_n X dX2_pass_51 (Nat.le_of_ble_eq_true rfl) ?_
    refine g_iconst (v := 0) X dX2_pass_52 rfl ?_
    refine g_istore_n X dX2_pass_53 (Nat.le_of_ble_eq_true rfl) ?_
    refine g_loop (σ := Nat × (Nat → Int32) × (Nat → Int64) × (Nat → Int32)) (fun (q : Nat × (Nat → Int32) × (Nat → Int64) × (Nat → Int32)) => match q with | (i, F, L1, T) => gk_m4 S ((bMs n g (clA (S.1 400) 8, v, S.1 408, 0) i).1) ((bMs n g (clA (S.1 400) 8, v, S.1 408, 0) i).2.2.1) (S.1 201) (F) (L1) (T)) (fun (q : Nat × (Nat → Int32) × (Nat → Int64) × (Nat → Int32)) => match q with | (i, F, L1, T) => ([some (.ref (E.2.2.1 3)), some (.int (bMs n g (clA (S.1 400) 8, v, S.1 408, 0) i).2.2.2), some (.int (nI i)), none] : List (Option Value))) (fun (q : Nat × (Nat → Int32) × (Nat → Int64) × (Nat → Int32)) => match q with | (i, F, L1, T) => i ≤ nf ∧ offM F (S.1 405) ∧ lwB L1) (fun (q : Nat × (Nat → Int32) × (Nat → Int64) × (Nat → Int32)) => match q with | (i, F, L1, T) => nf - i) ((0, S.1 405, S.2.1 0, S.1 407)) ?_ ((m4_B rfl)) (le_1 rfl (le_1 m4_B2 (le_1 rfl (le_0 le_n)))) ?_
    · exact ⟨Nat.zero_le _, fun _ _ => rfl, hlw⟩
    rintro ⟨i, F, L1, T⟩ hI ih
    try dsimp only at hI ih ⊢
    obtain ⟨hI1, hI2, hI3⟩ := hI
    refine g_iload_n X dX2_pass_54 rfl ?_
    refine g_aload_n X dX2_pass_55 rfl ?_
    refine g_get (C := RX2) (T := TX2) (N := 35) X 0 in_X2 dX2_pass_56 q1405 (rd3 ho) rfl (Nat.le_of_ble_eq_true rfl) (fun _ h9 => h9) rfl ?_
    refine g_iconst (v := 0) X dX2_pass_59 rfl ?_
    refine g_iald (j := 0) X dX2_pass_60 (rdi ho (400) (rfl)) rfl (by decide) (by decide) ?_
    refine g_top (y := nI nf) (((hok hI1).2.2 0 (by omega)).trans ((hcA 0 (by omega)).trans h0)) ?_
    refine g_icmp_ge (tgt := 84) X dX2_pass_61 rfl (fun c61 => ?_) (fun c61 => ?_)
    · obtain rfl : nf = i := Nat.le_antisymm ((nI_leI (by omega) (by omega)).mp c61) hI1
      obtain ⟨k1, k2, k3⟩ := hok hI1
      obtain ⟨wb, hwb, ebad⟩ := bMs_bad (n := n) (v := v) (g := g) (A := clA (S.1 400) 8) (cl := S.1 408) (i := nf) h1
      have hA : ∀ k, (k < 6 ∨ k = 8 ∨ 27 ≤ k) → (psBM S n nf v g).1 k = S.1 400 k := fun k hk => (k3 k hk).trans (hcA k hk)
      have hA2 : (psBM S n nf v g).1 2 = S.1 400 2 := hA 2 (by omega)
      have hc0 : cOM (psBM S n nf v g).1 ((psBM S n nf v g).1, 31, nb) := ⟨(hA 8 (by omega)).trans hb, hb2, fun _ _ => rfl⟩
      have hcl2 : (upd (S.1 201) 26 (S.1 201 26 + bcI (psBM S n nf v g).2.2.2)) 24 = 0 := (upd_n (by decide)).trans hcl
      have hwr2 : wr = true ↔ ¬ (upd (S.1 201) 26 (S.1 201 26 + bcI (psBM S n nf v g).2.2.2)) 25 = 0 := by rw [upd_n (by decide)]; exact hwr
      refine g_aload_n X dX2_pass_84 rfl ?_
      refine g_dup X dX2_pass_85 rfl ?_
      refine g_get (C := RX2) (T := TX2) (N := 35) X 26 in_X2 dX2_pass_86 q1431 (rd3 ho) rfl (Nat.le_of_ble_eq_true rfl) (fun _ h9 => h9) rfl ?_
      refine g_iload_n X dX2_pass_89 rfl ?_
      refine g_callS X (k_X2_bits ho ebad (by omega)) (lw_S q1822 q1823 q139 q1824) hd_X2_bits dX2_pass_90 rfl ⟨Nat.le_of_ble_eq_true rfl, Nat.le_of_ble_eq_true rfl⟩ ⟨Nat.le_of_ble_eq_true rfl, Nat.le_of_ble_eq_true rfl⟩ (Nat.le_of_ble_eq_true rfl) ?_
      rintro _ S1 ⟨rfl, hS1⟩
      obtain rfl := hS1.symm
      refine g_iadd X dX2_pass_93 ?_
      refine g_put3 X ho 26 dX2_pass_94 q1431 rfl (Nat.le_of_ble_eq_true rfl) rfl rfl rfl rfl (Nat.le_of_ble_eq_true rfl) rfl ?_
      refine g_eq (S2 := gk_m4 S ((psBM S n nf v g).1) ((psBM S n nf v g).2.2.1) ((upd (S.1 201) 26 (S.1 201 26 + bcI (psBM S n nf v g).2.2.2))) (F) (L1) (T)) (by rw [m4_u]; rfl) ?_
      refine g_bipush (v := 31) X dX2_pass_97 rfl ?_
      refine g_istore_n X dX2_pass_99 (Nat.le_of_ble_eq_true rfl) ?_
      refine g_iconst (v := 0) X dX2_pass_100 rfl ?_
      refine g_istore_n X dX2_pass_101 (Nat.le_of_ble_eq_true rfl) ?_
      refine g_loop (σ := Nat × (Nat → Int32) × (Nat → Int64) × (Nat → Int32)) (fun (q : Nat × (Nat → Int32) × (Nat → Int64) × (Nat → Int32)) => match q with | (f, F, L1, T) => gk_m4 S ((cM1 wr (vlM S n (psBM S n nf v g).1 W) (psBM S n nf v g).2.2.1 (psBM S n nf v g).2.2.2 ((psBM S n nf v g).1, 31, nb) f).1) ((psBM S n nf v g).2.2.1) ((upd (S.1 201) 26 (S.1 201 26 + bcI (psBM S n nf v g).2.2.2))) (F) (L1) (T)) (fun (q : Nat × (Nat → Int32) × (Nat → Int64) × (Nat → Int32)) => match q with | (f, F, L1, T) => ([some (.ref (E.2.2.1 3)), some (.int (psBM S n nf v g).2.2.2), some (.int (cM1 wr (vlM S n (psBM S n nf v g).1 W) (psBM S n nf v g).2.2.1 (psBM S n nf v g).2.2.2 ((psBM S n nf v g).1, 31, nb) f).2.1), some (.int (nI f))] : List (Option Value))) (fun (q : Nat × (Nat → Int32) × (Nat → Int64) × (Nat → Int32)) => match q with | (f, F, L1, T) => f ≤ nf ∧ offM F (S.1 405) ∧ lwB L1) (fun (q : Nat × (Nat → Int32) × (Nat → Int64) × (Nat → Int32)) => match q with | (f, F, L1, T) => nf - f) ((0, F, L1, T)) ?_ (m4_C) (le_1 rfl (le_1 rfl (le_1 m4_C2 (le_1 rfl le_n)))) ?_
      · exact ⟨Nat.zero_le _, hI2, hI3⟩
      rintro ⟨f, F, L1, T⟩ hJ ih2
      try dsimp only at hJ ih2 ⊢
      obtain ⟨hJ1, hJ2, hJ3⟩ := hJ
      refine g_iload_n X dX2_pass_102 rfl ?_
      refine g_aload_n X dX2_pass_103 rfl ?_
      refine g_get (C := RX2) (T := TX2) (N := 35) X 0 in_X2 dX2_pass_104 q1405 (rd3 ho) rfl (Nat.le_of_ble_eq_true rfl) (fun _ h9 => h9) rfl ?_
      refine g_iconst (v := 0) X dX2_pass_107 rfl ?_
      refine g_iald (j := 0) X dX2_pass_108 (rdi ho (400) (rfl)) rfl (by decide) (by decide) ?_
      obtain ⟨o1, o2, o3⟩ := cM1_ok (wr := wr) (V := (vlM S n (psBM S n nf v g).1 W)) (cl := (psBM S n nf v g).2.2.1) (bad := (psBM S n nf v g).2.2.2) (i := f) hc0 (by omega)
      refine g_top (y := nI nf) ((o3 0 (by omega)).trans ((hA 0 (by omega)).trans h0)) ?_
      refine g_icmp_ge (tgt := 142) X dX2_pass_109 rfl (fun c109 => ?_) (fun c109 => ?_)
      · obtain rfl : nf = f := Nat.le_antisymm ((nI_leI (by omega) (by omega)).mp c109) hJ1
        have hc1 : cOM (psBM S n nf v g).1 (psCM wr S n nf v nb g W) := ⟨o1, o2, o3⟩
        refine g_aload_n X dX2_pass_142 rfl ?_
        refine g_get (C := RX2) (T := TX2) (N := 35) X 0 in_X2 dX2_pass_143 q1405 (rd3 ho) rfl (Nat.le_of_ble_eq_true rfl) (fun _ h9 => h9) rfl ?_
        refine g_iconst (v := 0) X dX2_pass_146 rfl ?_
        refine g_iald (j := 0) X dX2_pass_147 (rdi ho (400) (rfl)) rfl (by decide) (by decide) ?_
        refine g_top (y := nI nf) ((o3 0 (by omega)).trans ((hA 0 (by omega)).trans h0)) ?_
        refine g_iconst (v := 1) X dX2_pass_148 rfl ?_
        refine g_isub X dX2_pass_149 ?_
        refine g_istore_n X dX2_pass_150 (Nat.le_of_ble_eq_true rfl) ?_
        refine g_loop (σ := Nat × (Nat → Int32) × (Nat → Int64) × (Nat → Int32)) (fun (q : Nat × (Nat → Int32) × (Nat → Int64) × (Nat → Int32)) => match q with | (d, F, L1, T) => gk_m4 S ((cM2 wr (vlM S n (psBM S n nf v g).1 W) (psBM S n nf v g).2.2.1 (psBM S n nf v g).2.2.2 nf (psCM wr S n nf v nb g W) d).1) ((psBM S n nf v g).2.2.1) ((upd (S.1 201) 26 (S.1 201 26 + bcI (psBM S n nf v g).2.2.2))) (F) (L1) (T)) (fun (q : Nat × (Nat → Int32) × (Nat → Int64) × (Nat → Int32)) => match q with | (d, F, L1, T) => ([some (.ref (E.2.2.1 3)), some (.int (psBM S n nf v g).2.2.2), some (.int (cM2 wr (vlM S n (psBM S n nf v g).1 W) (psBM S n nf v g).2.2.1 (psBM S n nf v g).2.2.2 nf (psCM wr S n nf v nb g W) d).2.1), some (.int (nI (nf - d) - 1))] : List (Option Value))) (fun (q : Nat × (Nat → Int32) × (Nat → Int64) × (Nat → Int32)) => match q with | (d, F, L1, T) => d ≤ nf ∧ offM F (S.1 405) ∧ lwB L1) (fun (q : Nat × (Nat → Int32) × (Nat → Int64) × (Nat → Int32)) => match q with | (d, F, L1, T) => nf - d) ((0, F, L1, T)) ?_ ((m4_D (q0 := (psCM wr S n nf v nb g W)))) (le_1 rfl (le_1 rfl (le_1 (m4_D2 (q0 := (psCM wr S n nf v nb g W))) (le_1 rfl le_n)))) ?_
        · exact ⟨Nat.zero_le _, hJ2, hJ3⟩
        rintro ⟨d, F, L1, T⟩ hK ih3
        try dsimp only at hK ih3 ⊢
        obtain ⟨hK1, hK2, hK3⟩ := hK
        refine g_iload_n X dX2_pass_151 rfl ?_
        refine g_if_lt (tgt := 185) X dX2_pass_152 rfl (fun c152 => ?_) (fun c152 => ?_)
        · have hdn : nf = d := by
            rcases Nat.lt_or_ge d nf with z | z
            · exact absurd c152 (by rw [nd_0 rfl z]; exact nI_pos (by omega))
            · omega
          subst hdn
          refine g_aload_n X dX2_pass_185 rfl ?_
          refine g_get (C := RX2) (T := TX2) (N := 35) X 0 in_X2 dX2_pass_186 q1405 (rd3 ho) rfl (Nat.le_of_ble_eq_true rfl) (fun _ h9 => h9) rfl ?_
          refine g_iconst (v := 5) X dX2_pass_189 rfl ?_
          refine g_dup2_11 X dX2_pass_190 rfl rfl ?_
          refine g_iald (j := 5) X dX2_pass_191 (rdi ho (400) (rfl)) rfl (by decide) (by decide) ?_
          refine g_iconst (v := 1) X dX2_pass_192 rfl ?_
          refine g_iadd X dX2_pass_193 ?_
          refine g_iast X ho (400) (j := 5) dX2_pass_194 rfl (rfl) rfl (by decide) (by decide) ?_
          exact g_vret X hr dX2_pass_195 (Nat.le_of_ble_eq_true rfl) (Nat.le_of_ble_eq_true rfl) (⟨F, L1, T, rfl, by rw [m4_a]; rfl, hK2, hK3⟩)
        · have hdn : d < nf := Nat.lt_of_not_le (fun z => c152 (by rw [show nf - d = 0 by omega]; decide))
          obtain ⟨o1, o2, o3⟩ := cM2_ok (wr := wr) (V := (vlM S n (psBM S n nf v g).1 W)) (cl := (psBM S n nf v g).2.2.1) (bad := (psBM S n nf v g).2.2.2) (nf := nf) (i := d) h1 hc1 hK1
          have hdm := nd_1 hdn
          have hd0 := nd_0 rfl hdn
          refine g_iload_n X dX2_pass_155 rfl ?_
          refine g_iload_n X dX2_pass_156 rfl ?_
          refine g_top (y := nI (nf - 1 - d)) hd0 ?_
          refine g_callS X (k_X2_has ho) (lw_S q1711 q1712 q139 q1713) hd_X2_has dX2_pass_157 rfl ⟨Nat.le_of_ble_eq_true rfl, Nat.le_of_ble_eq_true rfl⟩ ⟨Nat.le_of_ble_eq_true rfl, Nat.le_of_ble_eq_true rfl⟩ (Nat.le_of_ble_eq_true rfl) ?_
          rintro _ S1 ⟨rfl, hS1⟩
          obtain rfl := hS1.symm
          refine g_ifp_ne (tgt := 166) X dX2_pass_160 rfl (fun c160 => ?_) (fun c160 => ?_)
          · refine g_aload_n X dX2_pass_166 rfl ?_
            refine g_iload_n X dX2_pass_167 rfl ?_
            refine g_top (y := nI (nf - 1 - d)) hd0 ?_
            refine g_iload_n X dX2_pass_168 rfl ?_
            refine g_callV (C := RX2) (T := TX2) (N := 35) X (k_X2_taken ho (S := gk_m4 S ((cM2 wr (vlM S n (psBM S n nf v g).1 W) (psBM S n nf v g).2.2.1 (psBM S n nf v g).2.2.2 nf (psCM wr S n nf v nb g W) d).1) ((psBM S n nf v g).2.2.1) ((upd (S.1 201) 26 (S.1 201 26 + bcI (psBM S n nf v g).2.2.2))) (F) (L1) (T)) (n := n) (g := g) (W := W) (MU_a hu ((o3 2 (by omega)).trans hA2) rfl) rfl (by omega) (by show wtM (S.1 402) ((cM2 wr (vlM S n (psBM S n nf v g).1 W) (psBM S n nf v g).2.2.1 (psBM S n nf v g).2.2.2 nf (psCM wr S n nf v nb g W) d).1 2) W; rw [(o3 2 (by omega)).trans hA2]; exact hw) hcl2 (fun k hk => ag_nm (fun z hz => by show -9999 ≤ ((cM2 wr (vlM S n (psBM S n nf v g).1 W) (psBM S n nf v g).2.2.1 (psBM S n nf v g).2.2.2 nf (psCM wr S n nf v nb g W) d).1 z).toInt ∧ ((cM2 wr (vlM S n (psBM S n nf v g).1 W) (psBM S n nf v g).2.2.1 (psBM S n nf v g).2.2.2 nf (psCM wr S n nf v nb g W) d).1 z).toInt ≤ 9999; rw [o3 z (by omega), hA z (by omega)]; exact hsm z hz) (by omega) hk) hK3) (lw_V q1825 q1827 qs109 q139 q1828) hd_X2_taken dX2_pass_169 (rd3 ho) rfl rfl ⟨Nat.le_of_ble_eq_true rfl, Nat.le_of_ble_eq_true rfl⟩ ⟨Nat.le_of_ble_eq_true rfl, Nat.le_of_ble_eq_true rfl⟩ (Nat.le_of_ble_eq_true rfl) ?_
            rintro _ S1 ⟨F1, L2, T1, rfl, hS1, hF1, hL2⟩
            obtain rfl := hS1.symm
            have hF2 : offM F1 (S.1 405) := fun z hz => (hF1 z hz).trans (hK2 z hz)
            have hbo : boF (fun k => wvM W (vcM (gk_m4 S ((cM2 wr (vlM S n (psBM S n nf v g).1 W) (psBM S n nf v g).2.2.1 (psBM S n nf v g).2.2.2 nf (psCM wr S n nf v nb g W) d).1) ((psBM S n nf v g).2.2.1) ((upd (S.1 201) 26 (S.1 201 26 + bcI (psBM S n nf v g).2.2.2))) (F) (L1) (T)) (nf - 1 - d) k n)) (cM2 wr (vlM S n (psBM S n nf v g).1 W) (psBM S n nf v g).2.2.1 (psBM S n nf v g).2.2.2 nf (psCM wr S n nf v nb g W) d).2.1 5 = cB (vlM S n (psBM S n nf v g).1 W) (nf - 1 - d) (cM2 wr (vlM S n (psBM S n nf v g).1 W) (psBM S n nf v g).2.2.1 (psBM S n nf v g).2.2.2 nf (psCM wr S n nf v nb g W) d).2.1 := bo_c (by decide) (fun z hz => congrArg (wvM W) (vcM_c (S := gk_si S 400 (psBM S n nf v g).1) hK2 (fun y hy => o3 y (by omega)) (by omega) hz))
            refine g_top (y := (cM2 wr (vlM S n (psBM S n nf v g).1 W) (psBM S n nf v g).2.2.1 (psBM S n nf v g).2.2.2 nf (psCM wr S n nf v nb g W) d).2.1 &&& (one (cB (vlM S n (psBM S n nf v g).1 W) (nf - 1 - d) (cM2 wr (vlM S n (psBM S n nf v g).1 W) (psBM S n nf v g).2.2.1 (psBM S n nf v g).2.2.2 nf (psCM wr S n nf v nb g W) d).2.1) ^^^ -1)) (by rw [hbo]) ?_
            refine g_eq (S2 := gk_m4 S ((upd (cM2 wr (vlM S n (psBM S n nf v g).1 W) (psBM S n nf v g).2.2.1 (psBM S n nf v g).2.2.2 nf (psCM wr S n nf v nb g W) d).1 (17 + 2 * (nf - 1 - d)) (cB (vlM S n (psBM S n nf v g).1 W) (nf - 1 - d) (cM2 wr (vlM S n (psBM S n nf v g).1 W) (psBM S n nf v g).2.2.1 (psBM S n nf v g).2.2.2 nf (psCM wr S n nf v nb g W) d).2.1))) ((psBM S n nf v g).2.2.1) ((upd (S.1 201) 26 (S.1 201 26 + bcI (psBM S n nf v g).2.2.2))) (F1) (L2) (T1)) (by rw [m4_t, hbo]; rfl) ?_
            refine g_istore_n X dX2_pass_172 (Nat.le_of_ble_eq_true rfl) ?_
            refine g_aload_n X dX2_pass_173 rfl ?_
            refine g_iload_n X dX2_pass_174 rfl ?_
            refine g_top (y := nI (nf - 1 - d)) hd0 ?_
            refine g_iconst (v := 1) X dX2_pass_175 rfl ?_
            refine g_callV (C := RX2) (T := TX2) (N := 35) X (k_X2_write ho (S := gk_m4 S ((upd (cM2 wr (vlM S n (psBM S n nf v g).1 W) (psBM S n nf v g).2.2.1 (psBM S n nf v g).2.2.2 nf (psCM wr S n nf v nb g W) d).1 (17 + 2 * (nf - 1 - d)) (cB (vlM S n (psBM S n nf v g).1 W) (nf - 1 - d) (cM2 wr (vlM S n (psBM S n nf v g).1 W) (psBM S n nf v g).2.2.1 (psBM S n nf v g).2.2.2 nf (psCM wr S n nf v nb g W) d).2.1))) ((psBM S n nf v g).2.2.1) ((upd (S.1 201) 26 (S.1 201 26 + bcI (psBM S n nf v g).2.2.2))) (F1) (L2) (T1)) (nb := (cM2 wr (vlM S n (psBM S n nf v g).1 W) (psBM S n nf v g).2.2.1 (psBM S n nf v g).2.2.2 nf (psCM wr S n nf v nb g W) d).2.2) (by show upd _ _ _ 8 = _; rw [upd_n (by omega)]; exact o1) o2 rfl (by omega)) (lw_V q1837 q1839 qs112 q139 q1840) hd_X2_write dX2_pass_176 (rd3 ho) rfl rfl ⟨Nat.le_of_ble_eq_true rfl, Nat.le_of_ble_eq_true rfl⟩ ⟨Nat.le_of_ble_eq_true rfl, Nat.le_of_ble_eq_true rfl⟩ (Nat.le_of_ble_eq_true rfl) ?_
            rintro _ S1 ⟨rfl, hS1⟩
            obtain rfl := hS1.symm
            refine g_eq (wr_st (wr := wr) (nb := (cM2 wr (vlM S n (psBM S n nf v g).1 W) (psBM S n nf v g).2.2.1 (psBM S n nf v g).2.2.2 nf (psCM wr S n nf v nb g W) d).2.2) (f := (nf - 1 - d)) (x := nI (nf - 1 - d)) (z := 1) hwr2) ?_
            refine g_iinc (v := (-1)) X dX2_pass_179 rfl rfl (Nat.le_of_ble_eq_true rfl) ?_
            refine g_goto (tgt := 151) X dX2_pass_182 rfl ?_
            refine g_eq (S2 := gk_m4 S ((cM2 wr (vlM S n (psBM S n nf v g).1 W) (psBM S n nf v g).2.2.1 (psBM S n nf v g).2.2.2 nf (psCM wr S n nf v nb g W) (d + 1)).1) ((psBM S n nf v g).2.2.1) ((upd (S.1 201) 26 (S.1 201 26 + bcI (psBM S n nf v g).2.2.2))) (F1) (L2) (T1)) (by rw [cM2_t rfl c160]; first | done | rfl) ?_
            refine g_sub (le_1 rfl (le_1 rfl (le_1 (congrArg (fun z => some (Value.int z)) (by rw [cM2_t rfl c160]; first | done | rfl)) (le_1 (congrArg (fun z => some (Value.int z)) (hdm)) le_n)))) (ih3 (d + 1, F1, L2, T1) ?_ ?_)
            · exact ⟨by omega, hF2, hL2⟩
            · show nf - (d + 1) < nf - d; omega
          · refine g_goto (tgt := 179) X dX2_pass_163 rfl ?_
            refine g_iinc (v := (-1)) X dX2_pass_179 rfl rfl (Nat.le_of_ble_eq_true rfl) ?_
            refine g_goto (tgt := 151) X dX2_pass_182 rfl ?_
            refine g_eq (S2 := gk_m4 S ((cM2 wr (vlM S n (psBM S n nf v g).1 W) (psBM S n nf v g).2.2.1 (psBM S n nf v g).2.2.2 nf (psCM wr S n nf v nb g W) (d + 1)).1) ((psBM S n nf v g).2.2.1) ((upd (S.1 201) 26 (S.1 201 26 + bcI (psBM S n nf v g).2.2.2))) (F) (L1) (T)) (by rw [cM2_f rfl c160]; first | done | rfl) ?_
            refine g_sub (le_1 rfl (le_1 rfl (le_1 (congrArg (fun z => some (Value.int z)) (by rw [cM2_f rfl c160]; first | done | rfl)) (le_1 (congrArg (fun z => some (Value.int z)) (hdm)) le_n)))) (ih3 (d + 1, F, L1, T) ?_ ?_)
            · exact ⟨by omega, hK2, hK3⟩
            · show nf - (d + 1) < nf - d; omega
      · have hfn : f < nf := (nI_ltI (by omega) (by omega)).mp (Int32.not_le.mp c109)
        refine g_iload_n X dX2_pass_112 rfl ?_
        refine g_iload_n X dX2_pass_113 rfl ?_
        refine g_callS X (k_X2_has ho) (lw_S q1711 q1712 q139 q1713) hd_X2_has dX2_pass_114 rfl ⟨Nat.le_of_ble_eq_true rfl, Nat.le_of_ble_eq_true rfl⟩ ⟨Nat.le_of_ble_eq_true rfl, Nat.le_of_ble_eq_true rfl⟩ (Nat.le_of_ble_eq_true rfl) ?_
        rintro _ S1 ⟨rfl, hS1⟩
        obtain rfl := hS1.symm
        refine g_ifp_eq (tgt := 123) X dX2_pass_117 rfl (fun c117 => ?_) (fun c117 => ?_)
        · refine g_aload_n X dX2_pass_123 rfl ?_
          refine g_iload_n X dX2_pass_124 rfl ?_
          refine g_iload_n X dX2_pass_125 rfl ?_
          refine g_callV (C := RX2) (T := TX2) (N := 35) X (k_X2_taken ho (S := gk_m4 S ((cM1 wr (vlM S n (psBM S n nf v g).1 W) (psBM S n nf v g).2.2.1 (psBM S n nf v g).2.2.2 ((psBM S n nf v g).1, 31, nb) f).1) ((psBM S n nf v g).2.2.1) ((upd (S.1 201) 26 (S.1 201 26 + bcI (psBM S n nf v g).2.2.2))) (F) (L1) (T)) (n := n) (g := g) (W := W) (MU_a hu ((o3 2 (by omega)).trans hA2) rfl) rfl (by omega) (by show wtM (S.1 402) ((cM1 wr (vlM S n (psBM S n nf v g).1 W) (psBM S n nf v g).2.2.1 (psBM S n nf v g).2.2.2 ((psBM S n nf v g).1, 31, nb) f).1 2) W; rw [(o3 2 (by omega)).trans hA2]; exact hw) hcl2 (fun k hk => ag_nm (fun z hz => by show -9999 ≤ ((cM1 wr (vlM S n (psBM S n nf v g).1 W) (psBM S n nf v g).2.2.1 (psBM S n nf v g).2.2.2 ((psBM S n nf v g).1, 31, nb) f).1 z).toInt ∧ ((cM1 wr (vlM S n (psBM S n nf v g).1 W) (psBM S n nf v g).2.2.1 (psBM S n nf v g).2.2.2 ((psBM S n nf v g).1, 31, nb) f).1 z).toInt ≤ 9999; rw [o3 z (by omega), hA z (by omega)]; exact hsm z hz) (by omega) hk) hJ3) (lw_V q1825 q1827 qs109 q139 q1828) hd_X2_taken dX2_pass_126 (rd3 ho) rfl rfl ⟨Nat.le_of_ble_eq_true rfl, Nat.le_of_ble_eq_true rfl⟩ ⟨Nat.le_of_ble_eq_true rfl, Nat.le_of_ble_eq_true rfl⟩ (Nat.le_of_ble_eq_true rfl) ?_
          rintro _ S1 ⟨F1, L2, T1, rfl, hS1, hF1, hL2⟩
          obtain rfl := hS1.symm
          have hF2 : offM F1 (S.1 405) := fun z hz => (hF1 z hz).trans (hJ2 z hz)
          have hbo : boF (fun k => wvM W (vcM (gk_m4 S ((cM1 wr (vlM S n (psBM S n nf v g).1 W) (psBM S n nf v g).2.2.1 (psBM S n nf v g).2.2.2 ((psBM S n nf v g).1, 31, nb) f).1) ((psBM S n nf v g).2.2.1) ((upd (S.1 201) 26 (S.1 201 26 + bcI (psBM S n nf v g).2.2.2))) (F) (L1) (T)) f k n)) (cM1 wr (vlM S n (psBM S n nf v g).1 W) (psBM S n nf v g).2.2.1 (psBM S n nf v g).2.2.2 ((psBM S n nf v g).1, 31, nb) f).2.1 5 = cB (vlM S n (psBM S n nf v g).1 W) f (cM1 wr (vlM S n (psBM S n nf v g).1 W) (psBM S n nf v g).2.2.1 (psBM S n nf v g).2.2.2 ((psBM S n nf v g).1, 31, nb) f).2.1 := bo_c (by decide) (fun z hz => congrArg (wvM W) (vcM_c (S := gk_si S 400 (psBM S n nf v g).1) hJ2 (fun y hy => o3 y (by omega)) (by omega) hz))
          refine g_top (y := (cM1 wr (vlM S n (psBM S n nf v g).1 W) (psBM S n nf v g).2.2.1 (psBM S n nf v g).2.2.2 ((psBM S n nf v g).1, 31, nb) f).2.1 &&& (one (cB (vlM S n (psBM S n nf v g).1 W) f (cM1 wr (vlM S n (psBM S n nf v g).1 W) (psBM S n nf v g).2.2.1 (psBM S n nf v g).2.2.2 ((psBM S n nf v g).1, 31, nb) f).2.1) ^^^ -1)) (by rw [hbo]) ?_
          refine g_eq (S2 := gk_m4 S ((upd (cM1 wr (vlM S n (psBM S n nf v g).1 W) (psBM S n nf v g).2.2.1 (psBM S n nf v g).2.2.2 ((psBM S n nf v g).1, 31, nb) f).1 (17 + 2 * f) (cB (vlM S n (psBM S n nf v g).1 W) f (cM1 wr (vlM S n (psBM S n nf v g).1 W) (psBM S n nf v g).2.2.1 (psBM S n nf v g).2.2.2 ((psBM S n nf v g).1, 31, nb) f).2.1))) ((psBM S n nf v g).2.2.1) ((upd (S.1 201) 26 (S.1 201 26 + bcI (psBM S n nf v g).2.2.2))) (F1) (L2) (T1)) (by rw [m4_t, hbo]; rfl) ?_
          refine g_istore_n X dX2_pass_129 (Nat.le_of_ble_eq_true rfl) ?_
          refine g_aload_n X dX2_pass_130 rfl ?_
          refine g_iload_n X dX2_pass_131 rfl ?_
          refine g_iconst (v := 0) X dX2_pass_132 rfl ?_
          refine g_callV (C := RX2) (T := TX2) (N := 35) X (k_X2_write ho (S := gk_m4 S ((upd (cM1 wr (vlM S n (psBM S n nf v g).1 W) (psBM S n nf v g).2.2.1 (psBM S n nf v g).2.2.2 ((psBM S n nf v g).1, 31, nb) f).1 (17 + 2 * f) (cB (vlM S n (psBM S n nf v g).1 W) f (cM1 wr (vlM S n (psBM S n nf v g).1 W) (psBM S n nf v g).2.2.1 (psBM S n nf v g).2.2.2 ((psBM S n nf v g).1, 31, nb) f).2.1))) ((psBM S n nf v g).2.2.1) ((upd (S.1 201) 26 (S.1 201 26 + bcI (psBM S n nf v g).2.2.2))) (F1) (L2) (T1)) (nb := (cM1 wr (vlM S n (psBM S n nf v g).1 W) (psBM S n nf v g).2.2.1 (psBM S n nf v g).2.2.2 ((psBM S n nf v g).1, 31, nb) f).2.2) (by show upd _ _ _ 8 = _; rw [upd_n (by omega)]; exact o1) o2 rfl (by omega)) (lw_V q1837 q1839 qs112 q139 q1840) hd_X2_write dX2_pass_133 (rd3 ho) rfl rfl ⟨Nat.le_of_ble_eq_true rfl, Nat.le_of_ble_eq_true rfl⟩ ⟨Nat.le_of_ble_eq_true rfl, Nat.le_of_ble_eq_true rfl⟩ (Nat.le_of_ble_eq_true rfl) ?_
          rintro _ S1 ⟨rfl, hS1⟩
          obtain rfl := hS1.symm
          refine g_eq (wr_st (wr := wr) (nb := (cM1 wr (vlM S n (psBM S n nf v g).1 W) (psBM S n nf v g).2.2.1 (psBM S n nf v g).2.2.2 ((psBM S n nf v g).1, 31, nb) f).2.2) (f := f) (x := nI f) (z := 0) hwr2) ?_
          refine g_iinc (v := 1) X dX2_pass_136 rfl rfl (Nat.le_of_ble_eq_true rfl) ?_
          refine g_goto (tgt := 102) X dX2_pass_139 rfl ?_
          refine g_eq (S2 := gk_m4 S ((cM1 wr (vlM S n (psBM S n nf v g).1 W) (psBM S n nf v g).2.2.1 (psBM S n nf v g).2.2.2 ((psBM S n nf v g).1, 31, nb) (f + 1)).1) ((psBM S n nf v g).2.2.1) ((upd (S.1 201) 26 (S.1 201 26 + bcI (psBM S n nf v g).2.2.2))) (F1) (L2) (T1)) (by rw [cM1_f c117]; first | done | rfl) ?_
          refine g_sub (le_1 rfl (le_1 rfl (le_1 (congrArg (fun z => some (Value.int z)) (by rw [cM1_f c117]; first | done | rfl)) (le_1 e_1 le_n)))) (ih2 (f + 1, F1, L2, T1) ?_ ?_)
          · exact ⟨by omega, hF2, hL2⟩
          · show nf - (f + 1) < nf - f; omega
        · refine g_goto (tgt := 136) X dX2_pass_120 rfl ?_
          refine g_iinc (v := 1) X dX2_pass_136 rfl rfl (Nat.le_of_ble_eq_true rfl) ?_
          refine g_goto (tgt := 102) X dX2_pass_139 rfl ?_
          refine g_eq (S2 := gk_m4 S ((cM1 wr (vlM S n (psBM S n nf v g).1 W) (psBM S n nf v g).2.2.1 (psBM S n nf v g).2.2.2 ((psBM S n nf v g).1, 31, nb) (f + 1)).1) ((psBM S n nf v g).2.2.1) ((upd (S.1 201) 26 (S.1 201 26 + bcI (psBM S n nf v g).2.2.2))) (F) (L1) (T)) (by rw [cM1_t c117]; first | done | rfl) ?_
          refine g_sub (le_1 rfl (le_1 rfl (le_1 (congrArg (fun z => some (Value.int z)) (by rw [cM1_t c117]; first | done | rfl)) (le_1 e_1 le_n)))) (ih2 (f + 1, F, L1, T) ?_ ?_)
          · exact ⟨by omega, hJ2, hJ3⟩
          · show nf - (f + 1) < nf - f; omega
    · have hin : i < nf := (nI_ltI (by omega) (by omega)).mp (Int32.not_le.mp c61)
      obtain ⟨k1, k2, k3⟩ := hok hI1
      refine g_aload_n X dX2_pass_64 rfl ?_
      refine g_iload_n X dX2_pass_65 rfl ?_
      refine g_callV (C := RX2) (T := TX2) (N := 35) X (k_X2_isRefutedNow ho (S := gk_m4 S ((bMs n g (clA (S.1 400) 8, v, S.1 408, 0) i).1) ((bMs n g (clA (S.1 400) 8, v, S.1 408, 0) i).2.2.1) (S.1 201) (F) (L1) (T)) (MU_a hu ((k3 2 (by omega)).trans (hcA 2 (by omega))) rfl) k1 k2 rfl (by omega)) (lw_V q1804 q1806 qs106 q139 q1807) hd_X2_isRefutedNow dX2_pass_66 (rd3 ho) rfl rfl ⟨Nat.le_of_ble_eq_true rfl, Nat.le_of_ble_eq_true rfl⟩ ⟨Nat.le_of_ble_eq_true rfl, Nat.le_of_ble_eq_true rfl⟩ (Nat.le_of_ble_eq_true rfl) ?_
      rintro _ S1 ⟨rfl, hS1⟩
      obtain rfl := hS1.symm
      refine g_eq (S2 := gk_m4 S ((rfM n g (bMs n g (clA (S.1 400) 8, v, S.1 408, 0) i).2.1 i (bMs n g (clA (S.1 400) 8, v, S.1 408, 0) i).1).1) (upd (bMs n g (clA (S.1 400) 8, v, S.1 408, 0) i).2.2.1 i (rfL n (bMs n g (clA (S.1 400) 8, v, S.1 408, 0) i).2.1)) (S.1 201) (F) (L1) (T)) (by rw [m4_c, m4_a]; rfl) ?_
      refine g_ifp_eq (tgt := 78) X dX2_pass_69 rfl (fun c69 => ?_) (fun c69 => ?_)
      · refine g_iinc (v := 1) X dX2_pass_78 rfl rfl (Nat.le_of_ble_eq_true rfl) ?_
        refine g_goto (tgt := 54) X dX2_pass_81 rfl ?_
        refine g_eq (S2 := gk_m4 S ((bMs n g (clA (S.1 400) 8, v, S.1 408, 0) (i + 1)).1) ((bMs n g (clA (S.1 400) 8, v, S.1 408, 0) (i + 1)).2.2.1) (S.1 201) (F) (L1) (T)) (by rw [bMs_f c69]) ?_
        refine g_sub (le_1 rfl (le_1 (congrArg (fun z => some (Value.int z)) (by rw [bMs_f c69])) (le_1 e_1 (le_0 le_n)))) (ih (i + 1, F, L1, T) ?_ ?_)
        · exact ⟨by omega, hI2, hI3⟩
        · show nf - (i + 1) < nf - i; omega
      · refine g_iload_n X dX2_pass_72 rfl ?_
        refine g_iconst (v := 1) X dX2_pass_73 rfl ?_
        refine g_iload_n X dX2_pass_74 rfl ?_
        refine g_ishl X dX2_pass_75 ?_
        refine g_ior X dX2_pass_76 ?_
        refine g_istore_n X dX2_pass_77 (Nat.le_of_ble_eq_true rfl) ?_
        refine g_iinc (v := 1) X dX2_pass_78 rfl rfl (Nat.le_of_ble_eq_true rfl) ?_
        refine g_goto (tgt := 54) X dX2_pass_81 rfl ?_
        refine g_eq (S2 := gk_m4 S ((bMs n g (clA (S.1 400) 8, v, S.1 408, 0) (i + 1)).1) ((bMs n g (clA (S.1 400) 8, v, S.1 408, 0) (i + 1)).2.2.1) (S.1 201) (F) (L1) (T)) (by rw [bMs_t c69]) ?_
        refine g_sub (le_1 rfl (le_1 (congrArg (fun z => some (Value.int z)) (by rw [bMs_t c69])) (le_1 e_1 (le_0 le_n)))) (ih (i + 1, F, L1, T) ?_ ?_)
        · exact ⟨by omega, hI2, hI3⟩
        · show nf - (i + 1) < nf - i; omega
  · have hi8 : i < 8 := (nI_ltI (by omega) (by decide)).mp (Int32.not_le.mp c13)
    refine g_aload_n X dX2_pass_16 rfl ?_
    refine g_get (C := RX2) (T := TX2) (N := 35) X 0 in_X2 dX2_pass_17 q1405 (rd3 ho) rfl (Nat.le_of_ble_eq_true rfl) (fun _ h9 => h9) rfl ?_
    refine g_bipush (v := 9) X dX2_pass_20 rfl ?_
    refine g_iload_n X dX2_pass_22 rfl ?_
    refine g_iadd X dX2_pass_23 ?_
    refine g_iald (j := 9 + i) X dX2_pass_24 (rdi ho (400) (rfl)) (by show nI 9 + nI i = _; rw [nI_add]) (by omega) (by decide) ?_
    refine g_aload_n X dX2_pass_25 rfl ?_
    refine g_get (C := RX2) (T := TX2) (N := 35) X 0 in_X2 dX2_pass_26 q1405 (rd3 ho) rfl (Nat.le_of_ble_eq_true rfl) (fun _ h9 => h9) rfl ?_
    refine g_iconst (v := 5) X dX2_pass_29 rfl ?_
    refine g_iald (j := 5) X dX2_pass_30 (rdi ho (400) (rfl)) rfl (by decide) (by decide) ?_
    refine g_icmp_gt (tgt := 44) X dX2_pass_31 rfl (fun c31 => ?_) (fun c31 => ?_)
    · refine g_iinc (v := 1) X dX2_pass_44 rfl rfl (Nat.le_of_ble_eq_true rfl) ?_
      refine g_goto (tgt := 10) X dX2_pass_47 rfl ?_
      refine g_eq (S2 := gk_si S 400 (clA (S.1 400) (i + 1))) (by rw [clA_f (Int32.not_le.mpr c31)]) ?_
      refine g_sub (le_1 rfl (le_1 e_1 (le_0 (le_0 le_n)))) (ih (i + 1) ?_ ?_)
      · try dsimp only
        omega
      · try dsimp only
        omega
    · refine g_aload_n X dX2_pass_34 rfl ?_
      refine g_get (C := RX2) (T := TX2) (N := 35) X 0 in_X2 dX2_pass_35 q1405 (rd3 ho) rfl (Nat.le_of_ble_eq_true rfl) (fun _ h9 => h9) rfl ?_
      refine g_bipush (v := 9) X dX2_pass_38 rfl ?_
      refine g_iload_n X dX2_pass_40 rfl ?_
      refine g_iadd X dX2_pass_41 ?_
      refine g_iconst (v := 0) X dX2_pass_42 rfl ?_
      refine g_iast X ho (400) (j := 9 + i) dX2_pass_43 rfl (rfl) (by show nI 9 + nI i = _; rw [nI_add]) (by omega) (by decide) ?_
      refine g_iinc (v := 1) X dX2_pass_44 rfl rfl (Nat.le_of_ble_eq_true rfl) ?_
      refine g_goto (tgt := 10) X dX2_pass_47 rfl ?_
      refine g_eq (S2 := gk_si S 400 (clA (S.1 400) (i + 1))) (by rw [si_si, clA_t (Int32.not_lt.mp c31)]; rfl) ?_
      refine g_sub (le_1 rfl (le_1 e_1 (le_0 (le_0 le_n)))) (ih (i + 1) ?_ ?_)
      · try dsimp only
        omega
      · try dsimp only
        omega
