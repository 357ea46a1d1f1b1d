def plL (o : Nat → Int32) (n : Nat) (g : Nat → Int32) (W : Option mnB) (cs : cls) : List Nat → (Nat → Int32) → Int32 × (Nat → Int32)
  | [], A => (-1, A)
  | k :: L, A => if (dgA o n g W (cs k).1 (cs k).2.1 (cs k).2.2.1 (cs k).2.2.2 A).1 = true then plL o n g W cs L (dgA o n g W (cs k).1 (cs k).2.1 (cs k).2.2.1 (cs k).2.2.2 A).2 else (nI k, (dgA o n g W (cs k).1 (cs k).2.1 (cs k).2.2.1 (cs k).2.2.2 A).2)
theorem plA_L {o : Nat → Int32} {n : Nat} {g : Nat → Int32} {W : Option mnB} {cs : cls} : ∀ {m k : Nat} {A : Nat → Int32}, plA o n g W cs m k A = plL o n g W cs (List.range' k m) A
  | 0, _, _ => rfl
  | m + 1, k, A => by
    rw [List.range'_succ]
    unfold plA plL
    rw [plA_L]
theorem plL_f {o : Nat → Int32} {n : Nat} {g : Nat → Int32} {W : Option mnB} {cs : cls} : ∀ {L : List Nat} {A : Nat → Int32}, plL o n g W cs (L.filter (fun k => decide (2 ≤ (cs k).1))) A = plL o n g W cs L A
  | [], _ => rfl
  | k :: L, A => by
    by_cases h : 2 ≤ (cs k).1
    · rw [List.filter_cons_of_pos (by simpa using h)]
      show (if _ then plL o n g W cs (L.filter _) _ else _) = (if _ then plL o n g W cs L _ else _)
      rw [plL_f]
    · rw [List.filter_cons_of_neg (by simpa using h)]
      show _ = (if (dgA o n g W (cs k).1 (cs k).2.1 (cs k).2.2.1 (cs k).2.2.2 A).1 = true then plL o n g W cs L (dgA o n g W (cs k).1 (cs k).2.1 (cs k).2.2.1 (cs k).2.2.2 A).2 else _)
      rw [dg_9 (by omega), if_pos rfl]
      exact plL_f
def doL (nc : Nat) (cs : cls) : List Nat := (List.range' 0 nc).filter (fun k => decide (2 ≤ (cs k).1))
theorem doL_mem {nc k : Nat} {cs : cls} (h : k ∈ doL nc cs) : k < nc ∧ 2 ≤ (cs k).1 := by
  obtain ⟨h1, h2⟩ := List.mem_filter.mp h
  have := List.mem_range'.mp h1
  exact ⟨by omega, by simpa using h2⟩
/-- the doings of the Text at a1 -/
def DoC (E : gk_E) (h : gk_H) (a1 nc : Nat) (cs : cls) : Prop := ∃ (w : Value) (tb dl : Nat) (n2 cl : Int32) (x : Nat → Option Nat), h a1 = some (.inr (4, [w, .ref tb, .int n2, .int cl, .ref dl])) ∧ lsD E h dl (doL nc cs).length x ∧ ∀ (i : Nat) (hi : i < (doL nc cs).length), ∃ d, x i = some d ∧ h d = some (.inr (16, [.int (nI (200 + (cs ((doL nc cs)[i])).1)), .int (cs ((doL nc cs)[i])).2.1, .int (cs ((doL nc cs)[i])).2.2.1, .int (cs ((doL nc cs)[i])).2.2.2, .int (nI ((doL nc cs)[i]))]))
/-- what clauses are -/
def ClS (nc : Nat) (cs : cls) : Prop := nc ≤ 24 ∧ ∀ k, k < nc → (cs k).1 < 9 ∧ ((cs k).1 = 8 → ∃ m, m ≤ 100 ∧ (cs k).2.1 = nI m)
set_option maxHeartbeats 2000000 in
theorem k_X0_played {l : Launch} {E : gk_E} (ho : E.2.2.2.2 = true) {S : gk_S} {x : Int32} {ic : Nat → Nat} {r0 n nx : Nat} {g o A : Nat → Int32} {W : Option mnB} {nc at_ : Nat → Nat} {cs : Nat → cls} (hx1 : S.1 10 1 = nI nx) (hx4 : nx ≤ 4) (hA1 : A 1 = nI nx) (hat : ∀ j, j < nx → S.2.2.1 0 j = some (at_ j) ∧ DoC E S.2.2.2 (at_ j) (nc j) (cs j) ∧ ClS (nc j) (cs j)) (hpl : PlC E ic S r0 n g W A) : gk_T l E yX0_played cX0_played 4 ((some .int)) 256 8144 0 0 [.ref (E.2.2.1 0), .int x] S (fun r S' => r = some (.int (if 0 ≤ x ∧ x ≤ A 1 - 1 then (plA o n g W (cs (ix x)) (nc (ix x)) 0 A).1 else -2)) ∧ PlC E ic S' r0 n g W (if 0 ≤ x ∧ x ≤ A 1 - 1 then (plA o n g W (cs (ix x)) (nc (ix x)) 0 A).2 else A) ∧ FrC plX S S' ∧ ∀ j, j ≠ 0 → j ≠ 3 → S'.1 10 j = S.1 10 j) := by
  refine gk_T.of [some (.ref (E.2.2.1 0)), some (.int x), none, none] (by decide) (Nat.le_of_ble_eq_true rfl) (le_1 rfl (le_1 rfl (le_p (le_p le_n)))) ?_
  intro p_ e_ R_ s_ m_ args_ below_ meth_ c_ hR X hr hin
  subst hR
  refine g_aload_n X dX0_played_0 rfl ?_
  refine g_iload_n X dX0_played_1 rfl ?_
  refine g_callV (C := RX0) (T := TX0) (N := 13) X (k_X0_isText ho) (lw_V q995 q997 qs24 q135 q998) hd_X0_isText dX0_played_2 (rd0 ho) rfl rfl ⟨Nat.le_of_ble_eq_true rfl, Nat.le_of_ble_eq_true rfl⟩ ⟨Nat.le_of_ble_eq_true rfl, Nat.le_of_ble_eq_true rfl⟩ (Nat.le_of_ble_eq_true rfl) ?_
  rintro _ S1 ⟨rfl, hS1⟩
  obtain rfl := hS1.symm
  refine g_ifp_ne (tgt := 11) X dX0_played_5 rfl (fun c5 => ?_) (fun c5 => ?_)
  · have hP : 0 ≤ x ∧ x ≤ A 1 - 1 := by rw [hA1, ← hx1]; exact c5
    have hxx := ix_i c5.1
    have hxn : ix x < nx := by
      have h2 := c5.2
      rw [hx1] at h2
      rcases Nat.eq_zero_or_pos nx with z | z
      · exfalso
        rw [z] at h2
        exact absurd (Int32.le_trans c5.1 h2) (by decide)
      · obtain ⟨m, rfl⟩ := Nat.exists_eq_succ_of_ne_zero (Nat.pos_iff_ne_zero.mp z)
        rw [nI_pred] at h2
        exact Nat.lt_succ_of_le (ix_le m (by omega) c5.1 h2)
    obtain ⟨ht1, ⟨w, tb, dl, n2, cl, xs, ha1, hls, hds⟩, hcl⟩ := hat (ix x) hxn
    have hL24 : (doL (nc (ix x)) (cs (ix x))).length ≤ 24 := Nat.le_trans (List.length_filter_le _ _) (by rw [List.length_range']; exact hcl.1)
    refine g_aload_n X dX0_played_11 rfl ?_
    refine g_get (C := RX0) (T := TX0) (N := 13) X 0 in_X0 dX0_played_12 q241 (rd0 ho) rfl (Nat.le_of_ble_eq_true rfl) (fun _ h9 => h9) rfl ?_
    refine g_getN (C := RX1) (T := TX1) (N := 8) X 7 in_X1 dX0_played_15 q209 (rd1 ho) rfl (Nat.le_of_ble_eq_true rfl) (fun _ h9 => h9) rfl ?_
    refine g_iload_n X dX0_played_18 rfl ?_
    refine g_aald (t := 5) (j := ix x) X dX0_played_19 (rd17 ho) rfl rfl hxx (by omega) (by decide) (v := .ref (at_ (ix x))) (by rw [ht1]; rfl) ?_
    refine g_getN (C := RX4) (T := TX4) (N := 5) X 4 in_X4 dX0_played_20 q399 (rd_dy ha1) rfl (Nat.le_of_ble_eq_true rfl) (fun _ h9 => h9) rfl ?_
    refine g_astore_n X dX0_played_23 (Nat.le_of_ble_eq_true rfl) ?_
    refine g_iconst (v := 0) X dX0_played_24 rfl ?_
    refine g_istore_n X dX0_played_25 (Nat.le_of_ble_eq_true rfl) ?_
    refine g_loop (σ := Nat × gk_S × (Nat → Int32)) (fun (q : Nat × gk_S × (Nat → Int32)) => match q with | (i, S1, B) => S1) (fun (q : Nat × gk_S × (Nat → Int32)) => match q with | (i, S1, B) => ([some (.ref (E.2.2.1 0)), some (.int x), some (.ref dl), some (.int (nI i))] : List (Option Value))) (fun (q : Nat × gk_S × (Nat → Int32)) => match q with | (i, S1, B) => i ≤ (doL (nc (ix x)) (cs (ix x))).length ∧ plL o n g W (cs (ix x)) ((doL (nc (ix x)) (cs (ix x))).drop i) B = plL o n g W (cs (ix x)) (doL (nc (ix x)) (cs (ix x))) A ∧ PlC E ic S1 r0 n g W B ∧ FrC plX S S1 ∧ (∀ j, j ≠ 0 → j ≠ 3 → S1.1 10 j = S.1 10 j)) (fun (q : Nat × gk_S × (Nat → Int32)) => match q with | (i, S1, B) => (doL (nc (ix x)) (cs (ix x))).length - i) ((0, S, A)) ?_ (rfl) (le_1 rfl (le_1 rfl (le_1 rfl (le_1 rfl le_n)))) ?_
    · exact ⟨Nat.zero_le _, by rw [List.drop_zero], hpl, FrC.rf, fun _ _ _ => rfl⟩
    rintro ⟨i, S1, B⟩ hI ih
    try dsimp only at hI ih ⊢
    obtain ⟨hI1, hI2, hI3, hI4, hI5⟩ := hI
    refine g_iload_n X dX0_played_26 rfl ?_
    obtain ⟨mo, b, nn, lA⟩ := hls.ls (S := S1) (fun q e z => by rw [hI4.1]; exact z)
    refine g_aload_n X dX0_played_27 rfl ?_
    refine g_callV (C := RJ3) (T := TJ3) (N := 3) X (k_J3_size ho lA) (lw_V q1106 q816 q817 q144 q818) hd_J3_size dX0_played_28 (rd_dy lA.1) rfl rfl ⟨Nat.le_of_ble_eq_true rfl, Nat.le_of_ble_eq_true rfl⟩ ⟨Nat.le_of_ble_eq_true rfl, Nat.le_of_ble_eq_true rfl⟩ (Nat.le_of_ble_eq_true rfl) ?_
    rintro _ S1 ⟨rfl, hS1⟩
    obtain rfl := hS1.symm
    refine g_icmp_ge (tgt := 67) X dX0_played_31 rfl (fun c31 => ?_) (fun c31 => ?_)
    · have hil : i = (doL (nc (ix x)) (cs (ix x))).length := Nat.le_antisymm hI1 ((nI_leI (by omega) (by omega)).mp c31)
      rw [hil, List.drop_length] at hI2
      refine g_iconst (v := (-1)) X dX0_played_67 rfl ?_
      exact g_iret X hr dX0_played_68 (Nat.le_of_ble_eq_true rfl) (Nat.le_of_ble_eq_true rfl) (⟨by rw [if_pos hP, plA_L, ← plL_f, show (List.range' 0 (nc (ix x))).filter (fun k => decide (2 ≤ (cs (ix x) k).1)) = (doL (nc (ix x)) (cs (ix x))) from rfl, ← hI2]; rfl, by rw [if_pos hP, plA_L, ← plL_f, show (List.range' 0 (nc (ix x))).filter (fun k => decide (2 ≤ (cs (ix x) k).1)) = (doL (nc (ix x)) (cs (ix x))) from rfl, ← hI2]; exact hI3, hI4, hI5⟩)
    · have hil : i < (doL (nc (ix x)) (cs (ix x))).length := (nI_ltI (by omega) (by omega)).mp (Int32.not_le.mp c31)
      obtain ⟨d, hxd, hd⟩ := hds i hil
      have hd1 : S1.2.2.2 d = some (.inr (16, [.int (nI (200 + (cs (ix x) ((doL (nc (ix x)) (cs (ix x)))[i])).1)), .int (cs (ix x) ((doL (nc (ix x)) (cs (ix x)))[i])).2.1, .int (cs (ix x) ((doL (nc (ix x)) (cs (ix x)))[i])).2.2.1, .int (cs (ix x) ((doL (nc (ix x)) (cs (ix x)))[i])).2.2.2, .int (nI ((doL (nc (ix x)) (cs (ix x)))[i]))])) := by rw [hI4.1]; exact hd
      have hdr : (doL (nc (ix x)) (cs (ix x))).drop i = (doL (nc (ix x)) (cs (ix x)))[i] :: (doL (nc (ix x)) (cs (ix x))).drop (i + 1) := List.drop_eq_getElem_cons hil
      obtain ⟨hm1, hm2⟩ := doL_mem (List.getElem_mem hil)
      obtain ⟨hc1, hc2⟩ := hcl.2 _ hm1
      obtain ⟨nf, ns, e1, e2, e3, e4, e5⟩ := hI3
      refine g_aload_n X dX0_played_34 rfl ?_
      refine g_aload_n X dX0_played_35 rfl ?_
      refine g_iload_n X dX0_played_36 rfl ?_
      refine g_callV (C := RJ3) (T := TJ3) (N := 3) X (k_J3_get ho lA rfl hil hxd) (lw_V q1107 q820 q821 q144 q822) hd_J3_get dX0_played_37 (rd_dy lA.1) rfl rfl ⟨Nat.le_of_ble_eq_true rfl, Nat.le_of_ble_eq_true rfl⟩ ⟨Nat.le_of_ble_eq_true rfl, Nat.le_of_ble_eq_true rfl⟩ (Nat.le_of_ble_eq_true rfl) ?_
      rintro _ S1 ⟨rfl, hS1⟩
      obtain rfl := hS1.symm
      refine g_castS (C := RX16) (T := TX16) (N := 5) X dX0_played_40 q1108 (rd_dy hd1) rfl ?_
      refine g_callV (C := RX0) (T := TX0) (N := 13) X (k_X0_does ho (S := S1) (o := o) (g := g) (W := W) hd1 ⟨hm2, by omega⟩ hc2 e1 e2 e3 e4 e5) (lw_V q1109 q1111 qs39 q135 q1112) hd_X0_does dX0_played_43 (rd0 ho) rfl rfl ⟨Nat.le_of_ble_eq_true rfl, Nat.le_of_ble_eq_true rfl⟩ ⟨Nat.le_of_ble_eq_true rfl, Nat.le_of_ble_eq_true rfl⟩ (Nat.le_of_ble_eq_true rfl) ?_
      rintro _ S2 ⟨rfl, hP2, hF2, hN2⟩
      refine g_ifp_ne (tgt := 61) X dX0_played_46 rfl (fun c46 => ?_) (fun c46 => ?_)
      · refine g_iinc (v := 1) X dX0_played_61 rfl rfl (Nat.le_of_ble_eq_true rfl) ?_
        refine g_goto (tgt := 26) X dX0_played_64 rfl ?_
        refine g_sub (le_1 rfl (le_1 rfl (le_1 rfl (le_1 e_1 le_n)))) (ih (i + 1, S2, (dgA o n g W (cs (ix x) ((doL (nc (ix x)) (cs (ix x)))[i])).1 (cs (ix x) ((doL (nc (ix x)) (cs (ix x)))[i])).2.1 (cs (ix x) ((doL (nc (ix x)) (cs (ix x)))[i])).2.2.1 (cs (ix x) ((doL (nc (ix x)) (cs (ix x)))[i])).2.2.2 B).2) ?_ ?_)
        · exact ⟨by omega, by rw [← hI2, hdr]; exact (if_pos c46).symm, hP2, hI4.tr hF2, fun j a b => (hN2 j a b).trans (hI5 j a b)⟩
        · show (doL (nc (ix x)) (cs (ix x))).length - (i + 1) < (doL (nc (ix x)) (cs (ix x))).length - i; omega
      · obtain ⟨mo2, b2, nn2, lA2⟩ := hls.ls (S := S2) (fun q e z => by rw [hF2.1, hI4.1]; exact z)
        have hd2 : S2.2.2.2 d = some (.inr (16, [.int (nI (200 + (cs (ix x) ((doL (nc (ix x)) (cs (ix x)))[i])).1)), .int (cs (ix x) ((doL (nc (ix x)) (cs (ix x)))[i])).2.1, .int (cs (ix x) ((doL (nc (ix x)) (cs (ix x)))[i])).2.2.1, .int (cs (ix x) ((doL (nc (ix x)) (cs (ix x)))[i])).2.2.2, .int (nI ((doL (nc (ix x)) (cs (ix x)))[i]))])) := by rw [hF2.1]; exact hd1
        refine g_aload_n X dX0_played_49 rfl ?_
        refine g_iload_n X dX0_played_50 rfl ?_
        refine g_callV (C := RJ3) (T := TJ3) (N := 3) X (k_J3_get ho lA2 rfl hil hxd) (lw_V q1107 q820 q821 q144 q822) hd_J3_get dX0_played_51 (rd_dy lA2.1) rfl rfl ⟨Nat.le_of_ble_eq_true rfl, Nat.le_of_ble_eq_true rfl⟩ ⟨Nat.le_of_ble_eq_true rfl, Nat.le_of_ble_eq_true rfl⟩ (Nat.le_of_ble_eq_true rfl) ?_
        rintro _ S1 ⟨rfl, hS1⟩
        obtain rfl := hS1.symm
        refine g_castS (C := RX16) (T := TX16) (N := 5) X dX0_played_54 q1108 (rd_dy hd2) rfl ?_
        refine g_callV (C := RX16) (T := TX16) (N := 5) X (k_X16_number ho hd2) (lw_V q1140 q1141 q1142 q169 q1143) hd_X16_number dX0_played_57 (rd_dy hd2) rfl rfl ⟨Nat.le_of_ble_eq_true rfl, Nat.le_of_ble_eq_true rfl⟩ ⟨Nat.le_of_ble_eq_true rfl, Nat.le_of_ble_eq_true rfl⟩ (Nat.le_of_ble_eq_true rfl) ?_
        rintro _ S1 ⟨rfl, hS1⟩
        obtain rfl := hS1.symm
        exact g_iret X hr dX0_played_60 (Nat.le_of_ble_eq_true rfl) (Nat.le_of_ble_eq_true rfl) (⟨by rw [if_pos hP, plA_L, ← plL_f, show (List.range' 0 (nc (ix x))).filter (fun k => decide (2 ≤ (cs (ix x) k).1)) = (doL (nc (ix x)) (cs (ix x))) from rfl, ← hI2, hdr, show plL o n g W (cs (ix x)) ((doL (nc (ix x)) (cs (ix x)))[i] :: (doL (nc (ix x)) (cs (ix x))).drop (i + 1)) B = _ from if_neg c46], by rw [if_pos hP, plA_L, ← plL_f, show (List.range' 0 (nc (ix x))).filter (fun k => decide (2 ≤ (cs (ix x) k).1)) = (doL (nc (ix x)) (cs (ix x))) from rfl, ← hI2, hdr, show plL o n g W (cs (ix x)) ((doL (nc (ix x)) (cs (ix x)))[i] :: (doL (nc (ix x)) (cs (ix x))).drop (i + 1)) B = _ from if_neg c46]; exact hP2, hI4.tr hF2, fun j a b => (hN2 j a b).trans (hI5 j a b)⟩)
  · refine g_bipush (v := (-2)) X dX0_played_8 rfl ?_
    exact g_iret X hr dX0_played_10 (Nat.le_of_ble_eq_true rfl) (Nat.le_of_ble_eq_true rfl) (⟨by rw [if_neg (fun z => c5 (by rw [hx1, ← hA1]; exact z))], by rw [if_neg (fun z => c5 (by rw [hx1, ← hA1]; exact z))]; exact hpl, FrC.rf, fun _ _ _ => rfl⟩)
