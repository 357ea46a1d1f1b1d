abbrev cls : Type := Nat → Nat × Int32 × Int32 × Int32
/-- the clauses of text j in the texts' array -/
def ClM (t : Nat → Int32) (j nc : Nat) (cs : cls) : Prop := nc ≤ 24 ∧ t (714 * j) = nI nc ∧ ∀ k, k < nc → t (714 * j + 1 + 4 * k) = nI (cs k).1 ∧ (cs k).1 < 9 ∧ t (714 * j + 1 + 4 * k + 1) = (cs k).2.1 ∧ (((cs k).1 = 3 ∨ (cs k).1 = 4) → t (714 * j + 1 + 4 * k + 2) = (cs k).2.2.1) ∧ ((cs k).1 = 4 → t (714 * j + 1 + 4 * k + 3) = (cs k).2.2.2) ∧ ((cs k).1 = 8 → ∃ m, m ≤ 100 ∧ (cs k).2.1 = nI m)
def plA (o : Nat → Int32) (n : Nat) (g : Nat → Int32) (W : Option mnB) (cs : cls) : Nat → Nat → (Nat → Int32) → Int32 × (Nat → Int32)
  | 0, _, A => (-1, A)
  | m + 1, k, A => if (dgA o n g W (cs k).1 (cs k).2.1 (cs k).2.2.1 (cs k).2.2.2 A).1 = true then plA o n g W cs m (k + 1) (dgA o n g W (cs k).1 (cs k).2.1 (cs k).2.2.1 (cs k).2.2.2 A).2 else (nI k, (dgA o n g W (cs k).1 (cs k).2.1 (cs k).2.2.1 (cs k).2.2.2 A).2)
theorem plA_t {o : Nat → Int32} {n : Nat} {g : Nat → Int32} {W : Option mnB} {cs : cls} {m k : Nat} {A : Nat → Int32} (hm : 0 < m) (h : (dgA o n g W (cs k).1 (cs k).2.1 (cs k).2.2.1 (cs k).2.2.2 A).1 = true) : plA o n g W cs m k A = plA o n g W cs (m - 1) (k + 1) (dgA o n g W (cs k).1 (cs k).2.1 (cs k).2.2.1 (cs k).2.2.2 A).2 := by
  cases m with
  | zero => omega
  | succ m => exact if_pos h
theorem plA_f {o : Nat → Int32} {n : Nat} {g : Nat → Int32} {W : Option mnB} {cs : cls} {m k : Nat} {A : Nat → Int32} (hm : 0 < m) (h : ¬ (dgA o n g W (cs k).1 (cs k).2.1 (cs k).2.2.1 (cs k).2.2.2 A).1 = true) : plA o n g W cs m k A = (nI k, (dgA o n g W (cs k).1 (cs k).2.1 (cs k).2.2.1 (cs k).2.2.2 A).2) := by
  cases m with
  | zero => omega
  | succ m => exact if_neg h
theorem plA_0 {o : Nat → Int32} {n : Nat} {g : Nat → Int32} {W : Option mnB} {cs : cls} {k : Nat} {A : Nat → Int32} : plA o n g W cs 0 k A = (-1, A) := rfl
set_option maxHeartbeats 1000000 in
theorem k_X2_played {l : Launch} {E : gk_E} (ho : E.2.2.2.2 = true) {S : gk_S} {x : Int32} {n nf nx : Nat} {g o : Nat → Int32} {W : Option mnB} {nc : Nat → Nat} {cs : Nat → cls} (hx1 : S.1 400 1 = nI nx) (hx4 : nx ≤ 4) (hcl : ∀ j, j < nx → ClM (S.1 402) j (nc j) (cs j)) (he : EnM S n nf g W) (hco : coM S) (hoff : offM (S.1 405) o) : gk_T l E yX2_played cX2_played 3 ((some .int)) 8 189 0 0 [.ref (E.2.2.1 3), .int x] S (fun r S' => r = some (.int (if 0 ≤ x ∧ x ≤ S.1 400 1 - 1 then (plA o n g W (cs (ix x)) (nc (ix x)) 0 (S.1 400)).1 else -2)) ∧ S'.1 400 = (if 0 ≤ x ∧ x ≤ S.1 400 1 - 1 then (plA o n g W (cs (ix x)) (nc (ix x)) 0 (S.1 400)).2 else S.1 400) ∧ (∃ nf', EnM S' n nf' g W) ∧ coM S' ∧ FrM S S') := by
  refine gk_T.of [some (.ref (E.2.2.1 3)), some (.int x), none] (by decide) (Nat.le_of_ble_eq_true rfl) (le_1 rfl (le_1 rfl (le_p le_n))) ?_
  intro p_ e_ R_ s_ m_ args_ below_ meth_ c_ hR X hr hin
  subst hR
  refine g_iload_n X dX2_played_0 rfl ?_
  refine g_iconst (v := 0) X dX2_played_1 rfl ?_
  refine g_aload_n X dX2_played_2 rfl ?_
  refine g_get (C := RX2) (T := TX2) (N := 35) X 0 in_X2 dX2_played_3 q1405 (rd3 ho) rfl (Nat.le_of_ble_eq_true rfl) (fun _ h9 => h9) rfl ?_
  refine g_iconst (v := 1) X dX2_played_6 rfl ?_
  refine g_iald (j := 1) X dX2_played_7 (rdi ho (400) (rfl)) rfl (by decide) (by decide) ?_
  refine g_iconst (v := 1) X dX2_played_8 rfl ?_
  refine g_isub X dX2_played_9 ?_
  refine g_callS X (k_X2_isIn ho) (lw_S q1516 q1517 q139 q1518) hd_X2_isIn dX2_played_10 rfl ⟨Nat.le_of_ble_eq_true rfl, Nat.le_of_ble_eq_true rfl⟩ ⟨Nat.le_of_ble_eq_true rfl, Nat.le_of_ble_eq_true rfl⟩ (Nat.le_of_ble_eq_true rfl) ?_
  rintro _ S1 ⟨rfl, hS1⟩
  obtain rfl := hS1.symm
  refine g_ifp_ne (tgt := 19) X dX2_played_13 rfl (fun c13 => ?_) (fun c13 => ?_)
  · have hP : 0 ≤ x ∧ x ≤ S.1 400 1 - 1 := c13
    have hxx := ix_i c13.1
    have hxn : ix x < nx := by
      have h2 := c13.2
      rw [hx1] at h2
      rcases Nat.eq_zero_or_pos nx with z | z
      · exfalso
        rw [z] at h2
        exact absurd (Int32.le_trans c13.1 h2) (by decide)
      · obtain ⟨m, rfl⟩ := Nat.exists_eq_succ_of_ne_zero (Nat.pos_iff_ne_zero.mp z)
        rw [nI_pred] at h2
        exact Nat.lt_succ_of_le (ix_le m (by omega) c13.1 h2)
    obtain ⟨hc24, hc0, hcs⟩ := hcl (ix x) hxn
    refine g_iconst (v := 0) X dX2_played_19 rfl ?_
    refine g_istore_n X dX2_played_20 (Nat.le_of_ble_eq_true rfl) ?_
    refine g_loop (σ := Nat × gk_S) (fun (q : Nat × gk_S) => match q with | (k, S1) => S1) (fun (q : Nat × gk_S) => match q with | (k, S1) => ([some (.ref (E.2.2.1 3)), some (.int x), some (.int (nI k))] : List (Option Value))) (fun (q : Nat × gk_S) => match q with | (k, S1) => k ≤ nc (ix x) ∧ plA o n g W (cs (ix x)) (nc (ix x) - k) k (S1.1 400) = plA o n g W (cs (ix x)) (nc (ix x)) 0 (S.1 400) ∧ (∃ nf, EnM S1 n nf g W) ∧ coM S1 ∧ FrM S S1) (fun (q : Nat × gk_S) => match q with | (k, S1) => nc (ix x) - k) ((0, S)) ?_ (rfl) (le_1 rfl (le_1 rfl (le_1 rfl le_n))) ?_
    · exact ⟨Nat.zero_le _, by rw [Nat.sub_zero], ⟨nf, he⟩, hco, FrM.rf hco.2.2.1⟩
    rintro ⟨k, S1⟩ hI ih
    try dsimp only at hI ih ⊢
    obtain ⟨hI1, hI2, ⟨nf2, hI3⟩, hI4, hI5⟩ := hI
    refine g_iload_n X dX2_played_21 rfl ?_
    refine g_aload_n X dX2_played_22 rfl ?_
    refine g_get (C := RX2) (T := TX2) (N := 35) X 2 in_X2 dX2_played_23 q1407 (rd3 ho) rfl (Nat.le_of_ble_eq_true rfl) (fun _ h9 => h9) rfl ?_
    refine g_sipush (v := 714) X dX2_played_26 rfl ?_
    refine g_iload_n X dX2_played_29 rfl ?_
    refine g_imul X dX2_played_30 ?_
    refine g_iald (j := 714 * ix x) X dX2_played_31 (rdi ho (402) (rfl)) (by rw [hxx, ix_n (by omega)]; show nI 714 * nI _ = _; rw [pk_mul]) (by omega) (by decide) ?_
    refine g_top (y := nI (nc (ix x))) (by rw [hI5.1 402 (by decide) (by decide) (by decide) (by decide) (by decide) (by decide)]; exact hc0) ?_
    refine g_icmp_ge (tgt := 61) X dX2_played_32 rfl (fun c32 => ?_) (fun c32 => ?_)
    · have hkn : k = nc (ix x) := Nat.le_antisymm hI1 ((nI_leI (by omega) (by omega)).mp c32)
      rw [hkn, Nat.sub_self, plA_0] at hI2
      refine g_iconst (v := (-1)) X dX2_played_61 rfl ?_
      exact g_iret X hr dX2_played_62 (Nat.le_of_ble_eq_true rfl) (Nat.le_of_ble_eq_true rfl) (⟨by rw [if_pos hP, ← hI2], by rw [if_pos hP, ← hI2], ⟨nf2, hI3⟩, hI4, hI5⟩)
    · have hkn : k < nc (ix x) := (nI_ltI (by omega) (by omega)).mp (Int32.not_le.mp c32)
      obtain ⟨j1, j2, j3, j4, j5, j6⟩ := hcs k hkn
      have e402 : S1.1 402 = S.1 402 := hI5.1 402 (by decide) (by decide) (by decide) (by decide) (by decide) (by decide)
      refine g_aload_n X dX2_played_35 rfl ?_
      refine g_sipush (v := 714) X dX2_played_36 rfl ?_
      refine g_iload_n X dX2_played_39 rfl ?_
      refine g_imul X dX2_played_40 ?_
      refine g_iconst (v := 1) X dX2_played_41 rfl ?_
      refine g_iadd X dX2_played_42 ?_
      refine g_iconst (v := 4) X dX2_played_43 rfl ?_
      refine g_iload_n X dX2_played_44 rfl ?_
      refine g_imul X dX2_played_45 ?_
      refine g_iadd X dX2_played_46 ?_
      refine g_top (y := nI (714 * ix x + 1 + 4 * k)) (by rw [hxx, ix_n (by omega)]; show nI 714 * nI _ + nI 1 + nI 4 * nI k = _; rw [pk_mul, pk_mul, nI_add, nI_add]) ?_
      refine g_callV (C := RX2) (T := TX2) (N := 35) X (k_X2_isPlayed ho (S := S1) (nf := nf2) (s := (cs (ix x) k).1) (a := (cs (ix x) k).2.1) (b := (cs (ix x) k).2.2.1) (c := (cs (ix x) k).2.2.2) rfl (by omega) (by rw [e402]; exact j1) j2 (by rw [e402]; exact j3) (fun z => by rw [e402]; exact j4 z) (fun z => by rw [e402]; exact j5 z) j6 hI3 hI4 (fun z hz => (hI5.2.2.1 z hz).trans (hoff z hz))) (lw_V q1849 q1851 qs114 q139 q1852) hd_X2_isPlayed dX2_played_47 (rd3 ho) rfl rfl ⟨Nat.le_of_ble_eq_true rfl, Nat.le_of_ble_eq_true rfl⟩ ⟨Nat.le_of_ble_eq_true rfl, Nat.le_of_ble_eq_true rfl⟩ (Nat.le_of_ble_eq_true rfl) ?_
      rintro _ S2 ⟨rfl, hA2, hE2, hC2, hF2⟩
      refine g_ifp_ne (tgt := 55) X dX2_played_50 rfl (fun c50 => ?_) (fun c50 => ?_)
      · refine g_iinc (v := 1) X dX2_played_55 rfl rfl (Nat.le_of_ble_eq_true rfl) ?_
        refine g_goto (tgt := 21) X dX2_played_58 rfl ?_
        refine g_sub (le_1 rfl (le_1 rfl (le_1 e_1 le_n))) (ih (k + 1, S2) ?_ ?_)
        · exact ⟨by omega, by rw [← hI2, plA_t (m := nc (ix x) - k) (by omega) c50, show nc (ix x) - k - 1 = nc (ix x) - (k + 1) by omega, hA2], hE2, hC2, hI5.tr hF2⟩
        · show nc (ix x) - (k + 1) < nc (ix x) - k; omega
      · refine g_iload_n X dX2_played_53 rfl ?_
        exact g_iret X hr dX2_played_54 (Nat.le_of_ble_eq_true rfl) (Nat.le_of_ble_eq_true rfl) (⟨by rw [if_pos hP, ← hI2, plA_f (m := nc (ix x) - k) (by omega) c50], by rw [if_pos hP, ← hI2, plA_f (m := nc (ix x) - k) (by omega) c50]; exact hA2, hE2, hC2, hI5.tr hF2⟩)
  · refine g_bipush (v := (-2)) X dX2_played_16 rfl ?_
    exact g_iret X hr dX2_played_18 (Nat.le_of_ble_eq_true rfl) (Nat.le_of_ble_eq_true rfl) (⟨by rw [if_neg c13], by rw [if_neg c13], ⟨nf, he⟩, hco, FrM.rf hco.2.2.1⟩)
