abbrev spX (i : Nat) : Prop := i = 10 ∨ i = 11 ∨ (40 ≤ i ∧ i < 70) ∨ i = 301 ∨ i = 302 ∨ i = 303
theorem ldR_f {X : Nat → Prop} {S S' : gk_S} {A A' : Nat → Int32} (h : ldR S A) (hf : FrC X S S') (hX : ∀ i, X i → ¬ (i = 12 ∨ i = 13 ∨ (20 ≤ i ∧ i < 25))) (hA : ∀ k, (27 ≤ k ∧ k < 62) → A' k = A k) : ldR S' A' := by
  obtain ⟨l1, l2, l3, l4⟩ := h
  refine ⟨fun k hk => ?_, fun f hf2 => ?_, fun f k hf2 hk => ?_, fun f k hf2 hk => ?_⟩
  · rw [hf.2.1 13 (fun z => hX _ z (by omega)), hA _ (by omega)]
    exact l1 k hk
  · rw [hf.2.1 12 (fun z => hX _ z (by omega)), hA _ (by omega)]
    exact l2 f hf2
  · rw [hf.2.1 (20 + f) (fun z => hX _ z (by omega)), hA _ (by omega)]
    exact l3 f k hf2 hk
  · rw [hA _ (by omega)]
    exact l4 f k hf2 hk
theorem co_pass {T T' : gk_S} {B o : Nat → Int32} {n nf ns : Nat} {g : Nat → Int32} {W : Option mnB} (hn : n ≤ 8) (hf : nf ≤ 5) (h : CoK T B ns) (h5 : ¬ B 5 = 9999) (hr : rwR true (T'.1 11) (pmA true o n nf g W B).1) (hF : FrC (fun i => i = 11 ∨ i = 301 ∨ i = 302 ∨ i = 303) T T') : CoK T' (pmA true o n nf g W B).1 ns := by
  obtain ⟨h1, h2, h3, h4, h6, h7⟩ := h
  obtain ⟨k1, k2, k3, k4⟩ := pmA_ok (wr := true) (o := o) (g := g) (W := W) hn hf h2
  refine ⟨hr, pmA_rw hn hf h2 h5, h3, by rw [hF.2.1 10 (by omega)]; exact h4, by rw [k1 3 (by omega)]; exact h6, fun i hi => ?_⟩
  rw [hF.2.1 (40 + i) (by omega)]
  exact StR_L (h7 i hi) (fun k hk => k1 _ (by omega))
set_option maxHeartbeats 1000000 in
theorem k_X0_spring {l : Launch} {E : gk_E} (ho : E.2.2.2.2 = true) {S : gk_S} {x : Int32} {ic : Nat → Nat} {a n nf ns : Nat} {g o A : Nat → Int32} {W : Option mnB} (he : EnC E ic S a n nf g W) (hk : CoK S A ns) (hl : ldR S A) : gk_T l E yX0_spring cX0_spring 4 ((some .int)) 253 8078 0 0 [.ref (E.2.2.1 0), .int x] S (fun r S' => r = some (.int (if spP A x then (arA o n nf g W (ix x) (A, 0)).2.2 else -1)) ∧ (∃ ns', CoK S' (if spP A x then (arA o n nf g W (ix x) (A, 0)).2.1 else A) ns') ∧ FrC spX S S' ∧ (∀ j, j ≠ 3 → S'.1 10 j = S.1 10 j) ∧ ldR S' (if spP A x then (arA o n nf g W (ix x) (A, 0)).2.1 else A)) := by
  refine gk_T.of [some (.ref (E.2.2.1 0)), some (.int x), none, none] (by decide) (Nat.le_of_ble_eq_true rfl) (le_1 rfl (le_1 rfl (le_p (le_p le_n)))) ?_
  intro p_ e_ R_ s_ m_ args_ below_ meth_ c_ hR X hr hin
  subst hR
  refine g_iload_n X dX0_spring_0 rfl ?_
  refine g_iconst (v := 1) X dX0_spring_1 rfl ?_
  refine g_bipush (v := 60) X dX0_spring_2 rfl ?_
  refine g_callS X (k_X0_in ho) (lw_S q291 q292 q135 q293) hd_X0_in dX0_spring_4 rfl ⟨Nat.le_of_ble_eq_true rfl, Nat.le_of_ble_eq_true rfl⟩ ⟨Nat.le_of_ble_eq_true rfl, Nat.le_of_ble_eq_true rfl⟩ (Nat.le_of_ble_eq_true rfl) ?_
  rintro _ S1 ⟨rfl, hS1⟩
  obtain rfl := hS1.symm
  refine g_ifp_eq (tgt := 27) X dX0_spring_7 rfl (fun c7 => ?_) (fun c7 => ?_)
  · refine g_iconst (v := (-1)) X dX0_spring_27 rfl ?_
    exact g_iret X hr dX0_spring_28 (Nat.le_of_ble_eq_true rfl) (Nat.le_of_ble_eq_true rfl) (⟨by rw [if_neg (fun z => c7 z.1)], ⟨ns, by rw [if_neg (fun z => c7 z.1)]; exact hk⟩, FrC.rf, fun _ _ => rfl, by rw [if_neg (fun z => c7 z.1)]; exact hl⟩)
  · refine g_aload_n X dX0_spring_10 rfl ?_
    refine g_get (C := RX0) (T := TX0) (N := 13) X 0 in_X0 dX0_spring_11 q241 (rd0 ho) rfl (Nat.le_of_ble_eq_true rfl) (fun _ h9 => h9) rfl ?_
    refine g_getN (C := RX1) (T := TX1) (N := 8) X 1 in_X1 dX0_spring_14 q197 (rd1 ho) rfl (Nat.le_of_ble_eq_true rfl) (fun _ h9 => h9) rfl ?_
    refine g_iconst (v := 0) X dX0_spring_17 rfl ?_
    
    refine g_iald (j := 0) X dX0_spring_18 (rdi ho (11) (rfl)) rfl (by decide) (by decide) ?_
    refine g_top (y := A 5) hk.1.1.1 ?_
    refine g_iload_n X dX0_spring_19 rfl ?_
    refine g_iadd X dX0_spring_20 ?_
    refine g_sipush (v := 9999) X dX0_spring_21 rfl ?_
    refine g_icmp_le (tgt := 29) X dX0_spring_24 rfl (fun c24 => ?_) (fun c24 => ?_)
    · have hP : spP A x := ⟨c7, c24⟩
      obtain ⟨w, hw, hxw⟩ := nI_of2 (M := 60) (n := 60) (by decide) (x := x) (fun z => Int32.lt_irrefl (a := x) (Int32.lt_of_lt_of_le z (Int32.le_trans (by decide) c7.1))) c7.2
      have hixx : ix x = w := by rw [hxw, ix_n (by omega)]
      obtain ⟨sp, hsp, hsp2⟩ := hk.2.1.2
      have hle : sp + w ≤ 9999 := by
        have z := hP.2
        rw [hsp2, hxw, nI_add] at z
        exact (nI_leI (a := sp + w) (b := 9999) (by omega) (by decide)).mp z
      refine g_iconst (v := 0) X dX0_spring_29 rfl ?_
      refine g_istore_n X dX0_spring_30 (Nat.le_of_ble_eq_true rfl) ?_
      refine g_iconst (v := 0) X dX0_spring_31 rfl ?_
      refine g_istore_n X dX0_spring_32 (Nat.le_of_ble_eq_true rfl) ?_
      refine g_loop (σ := Nat × gk_S × (Nat → Int32) × Int32 × Nat) (fun (q : Nat × gk_S × (Nat → Int32) × Int32 × Nat) => match q with | (k, S1, B, q2, ns1) => S1) (fun (q : Nat × gk_S × (Nat → Int32) × Int32 × Nat) => match q with | (k, S1, B, q2, ns1) => ([some (.ref (E.2.2.1 0)), some (.int x), some (.int q2), some (.int (nI k))] : List (Option Value))) (fun (q : Nat × gk_S × (Nat → Int32) × Int32 × Nat) => match q with | (k, S1, B, q2, ns1) => k ≤ w ∧ arA o n nf g W (w - k) (B, q2) = arA o n nf g W w (A, 0) ∧ CoK S1 B ns1 ∧ EnC E ic S1 a n nf g W ∧ ldR S1 B ∧ FrC spX S S1 ∧ (∀ j, j ≠ 3 → S1.1 10 j = S.1 10 j) ∧ B 5 = nI (sp + k) ∧ (∀ k, (k < 3 ∨ (27 ≤ k ∧ k < 62)) → B k = A k)) (fun (q : Nat × gk_S × (Nat → Int32) × Int32 × Nat) => match q with | (k, S1, B, q2, ns1) => w - k) ((0, S, A, 0, ns)) ?_ (rfl) (le_1 rfl (le_1 rfl (le_1 rfl (le_1 rfl le_n)))) ?_
      · exact ⟨Nat.zero_le _, rfl, hk, he, hl, FrC.rf, fun _ _ => rfl, hsp2, fun _ _ => rfl⟩
      rintro ⟨k, S1, B, q2, ns1⟩ hI ih
      try dsimp only at hI ih ⊢
      obtain ⟨hI1, hI2, hI3, hI4, hI5, hI6, hI7, hI8, hI9⟩ := hI
      refine g_iload_n X dX0_spring_33 rfl ?_
      refine g_iload_n X dX0_spring_34 rfl ?_
      refine g_icmp_ge (tgt := 68) X dX0_spring_35 rfl (fun c35 => ?_) (fun c35 => ?_)
      · have hkw : w = k := Nat.le_antisymm ((nI_leI (by omega) (by omega)).mp (by rw [← hxw]; exact c35)) hI1
        subst hkw
        rw [Nat.sub_self, arA_0] at hI2
        refine g_iload_n X dX0_spring_68 rfl ?_
        exact g_iret X hr dX0_spring_69 (Nat.le_of_ble_eq_true rfl) (Nat.le_of_ble_eq_true rfl) (⟨by rw [if_pos hP, hixx, ← hI2], ⟨ns1, by rw [if_pos hP, hixx, ← hI2]; exact hI3⟩, hI6, hI7, by rw [if_pos hP, hixx, ← hI2]; exact hI5⟩)
      · have hkw : k < w := (nI_ltI (by omega) (by omega)).mp (Int32.not_le.mp (by rw [← hxw]; exact c35))
        have hns1 := hI3.2.2.1
        have hB5 : ¬ B 5 = 9999 := fun z => by
          rw [hI8] at z
          have := (nI_eq (a := sp + k) (b := 9999) (by omega) (by decide)).mp z
          omega
        obtain ⟨hK1, hK2, hK3, hK4⟩ := kp_st hI3
        have hK5 : ¬ kpM B ns1 5 = 9999 := by rw [kpM_n hns1 (by omega)]; exact hB5
        have hE1 : EnC E ic (kpS S1 ns1) a n nf g W := hI4.c (hK3 0 (by decide)) (hK3 2 (by decide)) hK2.1
        have hL1 : ldR (kpS S1 ns1) (kpM B ns1) := ldR_f hI5 hK2 (fun i hi => by omega) (fun k hk => kpM_n hns1 (by omega))
        obtain ⟨q1, q2e, q3, q4⟩ := pmA_ok (wr := true) (o := o) (g := g) (W := W) hI4.1.1 hI4.2.2.1 hK1.2.1
        refine g_aload_n X dX0_spring_38 rfl ?_
        refine g_get (C := RX0) (T := TX0) (N := 13) X 0 in_X0 dX0_spring_39 q241 (rd0 ho) rfl (Nat.le_of_ble_eq_true rfl) (fun _ h9 => h9) rfl ?_
        refine g_callV (C := RX1) (T := TX1) (N := 8) X (k_X1_keeps ho hI3.2.2.2.1 hns1) (lw_V q1003 q1004 q1005 q136 q1006) hd_X1_keeps dX0_spring_42 (rd1 ho) rfl rfl ⟨Nat.le_of_ble_eq_true rfl, Nat.le_of_ble_eq_true rfl⟩ ⟨Nat.le_of_ble_eq_true rfl, Nat.le_of_ble_eq_true rfl⟩ (Nat.le_of_ble_eq_true rfl) ?_
        rintro _ S1 ⟨rfl, hS1⟩
        obtain rfl := hS1.symm
        refine g_iload_n X dX0_spring_45 rfl ?_
        refine g_aload_n X dX0_spring_46 rfl ?_
        refine g_aload_n X dX0_spring_47 rfl ?_
        refine g_get (C := RX0) (T := TX0) (N := 13) X 0 in_X0 dX0_spring_48 q241 (rd0 ho) rfl (Nat.le_of_ble_eq_true rfl) (fun _ h9 => h9) rfl ?_
        refine g_getN (C := RX1) (T := TX1) (N := 8) X 1 in_X1 dX0_spring_51 q197 (rd1 ho) rfl (Nat.le_of_ble_eq_true rfl) (fun _ h9 => h9) rfl ?_
        refine g_callV (C := RX0) (T := TX0) (N := 13) X (k_X0_passR_11 ho (S := (kpS S1 ns1)) (A := kpM B ns1) (o := o) hE1 hK1.2.1 hL1 hK1.1 hK5) (lw_V q1007 q1009 qs25 q135 q1010) hd_X0_passes dX0_spring_54 (rd0 ho) rfl rfl ⟨Nat.le_of_ble_eq_true rfl, Nat.le_of_ble_eq_true rfl⟩ ⟨Nat.le_of_ble_eq_true rfl, Nat.le_of_ble_eq_true rfl⟩ (Nat.le_of_ble_eq_true rfl) ?_
        rintro _ S2 ⟨rfl, hR2, hF2⟩
        refine g_callS X (k_J13_bitCount ho) (lw_S q1068 q1069 q163 q1070) hd_J13_bitCount dX0_spring_57 rfl ⟨Nat.le_of_ble_eq_true rfl, Nat.le_of_ble_eq_true rfl⟩ ⟨Nat.le_of_ble_eq_true rfl, Nat.le_of_ble_eq_true rfl⟩ (Nat.le_of_ble_eq_true rfl) ?_
        rintro _ S1 ⟨rfl, hS1⟩
        obtain rfl := hS1.symm
        refine g_iadd X dX0_spring_60 ?_
        refine g_istore_n X dX0_spring_61 (Nat.le_of_ble_eq_true rfl) ?_
        refine g_iinc (v := 1) X dX0_spring_62 rfl rfl (Nat.le_of_ble_eq_true rfl) ?_
        refine g_goto (tgt := 33) X dX0_spring_65 rfl ?_
        have hT2 : arA o n nf g W (w - (k + 1)) ((pmA true o n nf g W (kpM B ns1)).1, q2 + bcI (pmA true o n nf g W (kpM B ns1)).2) = arA o n nf g W w (A, 0) := by
          rw [← hI2, arA_f (m := w - k) (q := (B, q2)) (by omega) hB5, show w - k - 1 = w - (k + 1) by omega]
          unfold stA
          dsimp only
          rw [hI3.2.2.2.2.1, ix_n (by have := hI3.2.2.1; omega)]
        refine g_sub (le_1 rfl (le_1 rfl (le_1 rfl (le_1 e_1 le_n)))) (ih (k + 1, S2, (pmA true o n nf g W (kpM B ns1)).1, q2 + bcI (pmA true o n nf g W (kpM B ns1)).2, kpN ns1) ?_ ?_)
        · refine ⟨by omega, hT2, co_pass hI4.1.1 hI4.2.2.1 hK1 hK5 hR2 hF2, hE1.c (by rw [hF2.2.1 10 (by omega)]) (by rw [hF2.2.1 10 (by omega)]) hF2.1, ldR_f hL1 hF2 (fun i hi => by omega) (fun k hk => q1 k (by omega)), hI6.tr ((hK2.mono (fun i hi => by omega)).tr (hF2.mono (fun i hi => by omega))), fun j hj => ?_, ?_, fun j hj => ?_⟩
          · rw [hF2.2.1 10 (by omega), hK3 j hj]
            exact hI7 j hj
          · rw [q2e, kpM_n hI3.2.2.1 (by omega), hI8, nI_1]
            rfl
          · rw [q1 j (by omega), kpM_n hI3.2.2.1 (by omega)]
            exact hI9 j hj
        · show w - (k + 1) < w - k; omega
    · refine g_iconst (v := (-1)) X dX0_spring_27 rfl ?_
      exact g_iret X hr dX0_spring_28 (Nat.le_of_ble_eq_true rfl) (Nat.le_of_ble_eq_true rfl) (⟨by rw [if_neg (fun z => c24 z.2)], ⟨ns, by rw [if_neg (fun z => c24 z.2)]; exact hk⟩, FrC.rf, fun _ _ => rfl, by rw [if_neg (fun z => c24 z.2)]; exact hl⟩)
