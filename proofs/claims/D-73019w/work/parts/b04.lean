theorem arA_r {o : Nat → Int32} {n nf : Nat} {g : Nat → Int32} {W : Option mnB} : ∀ {m : Nat} {A : Nat → Int32} {r r' : Int32}, (arA o n nf g W m (A, r)).1 = (arA o n nf g W m (A, r')).1 ∧ (arA o n nf g W m (A, r)).2.1 = (arA o n nf g W m (A, r')).2.1
  | 0, _, _, _ => ⟨rfl, rfl⟩
  | m + 1, A, r, r' => by
    by_cases h : A 5 = 9999
    · rw [arA_t (m := m + 1) (q := (A, r)) (by omega) h, arA_t (m := m + 1) (q := (A, r')) (by omega) h]
      exact ⟨rfl, rfl⟩
    · rw [arA_f (m := m + 1) (q := (A, r)) (by omega) h, arA_f (m := m + 1) (q := (A, r')) (by omega) h]
      exact arA_r
theorem bad_in {wr : Bool} {o A g : Nat → Int32} {n nf : Nat} {W : Option mnB} (hf : nf ≤ 5) : ∃ w, w < 32 ∧ (pmA wr o n nf g W A).2 = nI w := by
  unfold pmA pbA
  exact bMs_bad hf
theorem bc_ne {wr : Bool} {o A g : Nat → Int32} {n nf : Nat} {W : Option mnB} (hf : nf ≤ 5) : ¬ (0 : Int32) + bcI (pmA wr o n nf g W A).2 = -1 := by
  obtain ⟨w, hw, e⟩ := bad_in (wr := wr) (o := o) (A := A) (g := g) (n := n) (W := W) hf
  rw [e, bcI_N (by omega), Int32.zero_add]
  exact nI_ne_m1 (by have := bcN_le (w := w); omega)
theorem sp1_t {o A g : Nat → Int32} {n nf : Nat} {W : Option mnB} (h : ¬ A 5 = 9999) : arA o n nf g W (ix 1) (A, 0) = (true, stA o n nf g W (A, 0)) := by
  rw [show ix 1 = 1 from rfl, arA_f (m := 1) (q := (A, 0)) (by decide) h]
  rfl
theorem sp1_i {A : Nat → Int32} (h : rwM A) : spP A 1 ↔ ¬ A 5 = 9999 := by
  obtain ⟨sp, hsp, e⟩ := h.2
  have e1 : A 5 + 1 = nI (sp + 1) := by rw [e, nI_1]
  constructor
  · intro z hz
    have := z.2
    rw [e1] at this
    have h2 := (nI_leI (a := sp + 1) (b := 9999) (by omega) (by decide)).mp this
    rw [e] at hz
    have := (nI_eq (a := sp) (b := 9999) (by omega) (by decide)).mp hz
    omega
  · intro z
    refine ⟨by decide, ?_⟩
    rw [e1]
    refine nI_le (b := 9999) ?_ (by decide)
    have : sp ≠ 9999 := fun w => z (by rw [e, w]; rfl)
    omega
set_option maxHeartbeats 1000000 in
theorem k_X0_passesAll {l : Launch} {E : gk_E} (ho : E.2.2.2.2 = true) {S : gk_S} {x : Int32} {ic : Nat → Nat} {a n nf ns mm : Nat} {g o A : Nat → Int32} {W : Option mnB} (hx : x = nI mm) (hm : mm ≤ 100) (he : EnC E ic S a n nf g W) (hk : CoK S A ns) (hl : ldR S A) : gk_T l E yX0_passesAll cX0_passesAll 3 ((some .boolean)) 254 8101 0 0 [.ref (E.2.2.1 0), .int x] S (fun r S' => r = some (.int (bP ((arA o n nf g W mm (A, 0)).1 = true))) ∧ (∃ ns', CoK S' (arA o n nf g W mm (A, 0)).2.1 ns') ∧ FrC spX S S' ∧ (∀ j, j ≠ 3 → S'.1 10 j = S.1 10 j) ∧ ldR S' (arA o n nf g W mm (A, 0)).2.1) := by
  refine gk_T.of [some (.ref (E.2.2.1 0)), some (.int x), none] (by decide) (Nat.le_of_ble_eq_true rfl) (le_1 rfl (le_1 rfl (le_p le_n))) ?_
  intro p_ e_ R_ s_ m_ args_ below_ meth_ c_ hR X hr hin
  subst hR
  refine g_iconst (v := 0) X dX0_passesAll_0 rfl ?_
  refine g_istore_n X dX0_passesAll_1 (Nat.le_of_ble_eq_true rfl) ?_
  refine g_loop (σ := Nat × gk_S × (Nat → Int32)) (fun (q : Nat × gk_S × (Nat → Int32)) => match q with | (k, S1, B) => S1) (fun (q : Nat × gk_S × (Nat → Int32)) => match q with | (k, S1, B) => ([some (.ref (E.2.2.1 0)), some (.int x), some (.int (nI k))] : List (Option Value))) (fun (q : Nat × gk_S × (Nat → Int32)) => match q with | (k, S1, B) => k ≤ mm ∧ (arA o n nf g W (mm - k) (B, 0)).1 = (arA o n nf g W mm (A, 0)).1 ∧ (arA o n nf g W (mm - k) (B, 0)).2.1 = (arA o n nf g W mm (A, 0)).2.1 ∧ (∃ ns1, CoK S1 B ns1) ∧ EnC E ic S1 a n nf g W ∧ ldR S1 B ∧ FrC spX S S1 ∧ (∀ j, j ≠ 3 → S1.1 10 j = S.1 10 j)) (fun (q : Nat × gk_S × (Nat → Int32)) => match q with | (k, S1, B) => mm - k) ((0, S, A)) ?_ (rfl) (le_1 rfl (le_1 rfl (le_1 rfl le_n))) ?_
  · exact ⟨Nat.zero_le _, rfl, rfl, ⟨ns, hk⟩, he, hl, FrC.rf, fun _ _ => rfl⟩
  rintro ⟨k, S1, B⟩ hI ih
  try dsimp only at hI ih ⊢
  obtain ⟨hI1, hI2, hI3, ⟨ns1, hI4⟩, hI5, hI6, hI7, hI8⟩ := hI
  refine g_iload_n X dX0_passesAll_2 rfl ?_
  refine g_iload_n X dX0_passesAll_3 rfl ?_
  refine g_icmp_ge (tgt := 24) X dX0_passesAll_4 rfl (fun c4 => ?_) (fun c4 => ?_)
  · have hkm : mm = k := Nat.le_antisymm ((nI_leI (by omega) (by omega)).mp (by rw [← hx]; exact c4)) hI1
    subst hkm
    rw [Nat.sub_self, arA_0] at hI2 hI3
    refine g_iconst (v := 1) X dX0_passesAll_24 rfl ?_
    refine g_zret X hr dX0_passesAll_25 ?_ (Nat.le_of_ble_eq_true rfl) (Nat.le_of_ble_eq_true rfl) ?_
    · first | rfl | exact nb_bP
    · exact ⟨by rw [← hI2]; rfl, ⟨ns1, by rw [← hI3]; exact hI4⟩, hI7, hI8, by rw [← hI3]; exact hI6⟩
  · have hkm : k < mm := (nI_ltI (by omega) (by omega)).mp (Int32.not_le.mp (by rw [← hx]; exact c4))
    refine g_aload_n X dX0_passesAll_7 rfl ?_
    refine g_iconst (v := 1) X dX0_passesAll_8 rfl ?_
    refine g_callV (C := RX0) (T := TX0) (N := 13) X (k_X0_spring ho (S := S1) (A := B) (o := o) hI5 hI4 hI6) (lw_V q1139 q1000 q1001 q135 q1002) hd_X0_spring dX0_passesAll_9 (rd0 ho) rfl rfl ⟨Nat.le_of_ble_eq_true rfl, Nat.le_of_ble_eq_true rfl⟩ ⟨Nat.le_of_ble_eq_true rfl, Nat.le_of_ble_eq_true rfl⟩ (Nat.le_of_ble_eq_true rfl) ?_
    rintro _ S2 ⟨rfl, ⟨ns2, hK2⟩, hF2, hN2, hL2⟩
    refine g_iconst (v := (-1)) X dX0_passesAll_12 rfl ?_
    refine g_icmp_ne (tgt := 18) X dX0_passesAll_13 rfl (fun c13 => ?_) (fun c13 => ?_)
    · refine g_iinc (v := 1) X dX0_passesAll_18 rfl rfl (Nat.le_of_ble_eq_true rfl) ?_
      refine g_goto (tgt := 2) X dX0_passesAll_21 rfl ?_
      have hB5 : ¬ B 5 = 9999 := fun z => c13 (by rw [if_neg (fun w => (sp1_i hI4.2.1).mp w z)])
      have hP1 : spP B 1 := (sp1_i hI4.2.1).mpr hB5
      rw [if_pos hP1, sp1_t hB5] at hK2 hL2
      have hr := arA_r (o := o) (n := n) (nf := nf) (g := g) (W := W) (m := mm - (k + 1)) (A := (stA o n nf g W (B, 0)).1) (r := 0) (r' := (stA o n nf g W (B, 0)).2)
      have hT : arA o n nf g W (mm - k) (B, 0) = arA o n nf g W (mm - (k + 1)) (stA o n nf g W (B, 0)) := by
        rw [arA_f (m := mm - k) (q := (B, 0)) (by omega) hB5, show mm - k - 1 = mm - (k + 1) by omega]
      refine g_sub (le_1 rfl (le_1 rfl (le_1 e_1 le_n))) (ih (k + 1, S2, (stA o n nf g W (B, 0)).1) ?_ ?_)
      · exact ⟨by omega, by rw [← hI2, hT]; exact hr.1, by rw [← hI3, hT]; exact hr.2, ⟨ns2, hK2⟩, hI5.c (hN2 0 (by decide)) (hN2 2 (by decide)) hF2.1, hL2, hI7.tr hF2, fun j hj => (hN2 j hj).trans (hI8 j hj)⟩
      · show mm - (k + 1) < mm - k; omega
    · have hB5 : B 5 = 9999 := Decidable.byContradiction (fun z => by
        have hP1 : spP B 1 := (sp1_i hI4.2.1).mpr z
        rw [if_pos hP1, sp1_t z] at c13
        exact bc_ne (o := o) (A := kpM B (ix (B 3))) (g := g) (n := n) (W := W) (wr := true) hI5.2.2.1 c13)
      have hP1 : ¬ spP B 1 := fun z => (sp1_i hI4.2.1).mp z hB5
      rw [if_neg hP1] at hK2 hL2
      rw [arA_t (m := mm - k) (q := (B, 0)) (by omega) hB5] at hI2 hI3
      refine g_iconst (v := 0) X dX0_passesAll_16 rfl ?_
      refine g_zret X hr dX0_passesAll_17 ?_ (Nat.le_of_ble_eq_true rfl) (Nat.le_of_ble_eq_true rfl) ?_
      · first | rfl | exact nb_bP
      · exact ⟨by rw [← hI2]; rfl, ⟨ns2, by rw [← hI3]; exact hK2⟩, hI7.tr hF2, fun j hj => (hN2 j hj).trans (hI8 j hj), by rw [← hI3]; exact hL2⟩
/-! by hand -/
theorem cs_iff {R A g : Nat → Int32} {n : Nat} {x : Int32} (hn : n ≤ 8) (h : coR R A) : csP n g (R 2) (fun k => R (3 + k)) x ↔ saP n g A x := by
  show _ ↔ csP n g (A 7) (fun k => A (9 + k)) x
  rw [h.2.2.1]
  constructor
  · rintro ⟨z1, z2, z3, z4⟩
    obtain ⟨c, hc, e⟩ := cl_ix hn z1
    refine ⟨z1, z2, ?_, z4⟩
    rw [e, ix_n (by omega)] at z3 ⊢
    show A (9 + c) = 0
    rw [← h.2.2.2.1 c (by omega)]
    exact z3
  · rintro ⟨z1, z2, z3, z4⟩
    obtain ⟨c, hc, e⟩ := cl_ix hn z1
    refine ⟨z1, z2, ?_, z4⟩
    rw [e, ix_n (by omega)] at z3 ⊢
    show R (3 + c) = 0
    rw [h.2.2.2.1 c (by omega)]
    exact z3
theorem rwR_u2 {R A : Nat → Int32} {v : Int32} (h : rwR true R A) : rwR true (upd R 2 v) (upd A 7 v) := by
  obtain ⟨⟨h0, h1, h2, h3, h4, h5⟩, nb, hb, hb2, hbk⟩ := h
  obtain ⟨z1, z2⟩ := hbk rfl
  refine ⟨⟨?_, ?_, ?_, fun c hc => ?_, fun f hf => ?_, fun f hf => ?_⟩, nb, hb, by rw [upd_n (by omega)]; exact hb2, fun _ => ⟨by rw [upd_n (by omega)]; exact z1, fun i hi => bkE_c (z2 i hi) (fun w hw => upd_n (by omega)) (upd_n (by omega))⟩⟩
  · rw [upd_n (by omega), upd_n (by omega)]; exact h0
  · rw [upd_n (by omega), upd_n (by omega)]; exact h1
  · rw [upd_s, upd_s]
  · rw [upd_n (by omega), upd_n (by omega)]; exact h3 c hc
  · rw [upd_n (by omega), upd_n (by omega)]; exact h4 f hf
  · rw [upd_n (by omega), upd_n (by omega)]; exact h5 f hf
theorem rwR_u3 {R A : Nat → Int32} {c : Nat} {v : Int32} (hc : c < 8) (h : rwR true R A) : rwR true (upd R (3 + c) v) (upd A (9 + c) v) := by
  obtain ⟨⟨h0, h1, h2, h3, h4, h5⟩, nb, hb, hb2, hbk⟩ := h
  obtain ⟨z1, z2⟩ := hbk rfl
  refine ⟨⟨?_, ?_, ?_, fun d hd => ?_, fun f hf => ?_, fun f hf => ?_⟩, nb, hb, by rw [upd_n (by omega)]; exact hb2, fun _ => ⟨by rw [upd_n (by omega)]; exact z1, fun i hi => bkE_c (z2 i hi) (fun w hw => upd_n (by omega)) (upd_n (by omega))⟩⟩
  · rw [upd_n (by omega), upd_n (by omega)]; exact h0
  · rw [upd_n (by omega), upd_n (by omega)]; exact h1
  · rw [upd_n (by omega), upd_n (by omega)]; exact h2
  · by_cases e : d = c
    · rw [e, upd_s, upd_s]
    · rw [upd_n (by omega), upd_n (by omega)]; exact h3 d hd
  · rw [upd_n (by omega), upd_n (by omega)]; exact h4 f hf
  · rw [upd_n (by omega), upd_n (by omega)]; exact h5 f hf
theorem rwR_u1 {R A : Nat → Int32} {v : Int32} (h : rwR true R A) : rwR true (upd R 1 v) (upd A 6 v) := by
  obtain ⟨⟨h0, h1, h2, h3, h4, h5⟩, nb, hb, hb2, hbk⟩ := h
  obtain ⟨z1, z2⟩ := hbk rfl
  refine ⟨⟨?_, ?_, ?_, fun d hd => ?_, fun f hf => ?_, fun f hf => ?_⟩, nb, hb, by rw [upd_n (by omega)]; exact hb2, fun _ => ⟨by rw [upd_n (by omega)]; exact z1, fun i hi => bkE_c (z2 i hi) (fun w hw => upd_n (by omega)) (upd_n (by omega))⟩⟩
  · rw [upd_n (by omega), upd_n (by omega)]; exact h0
  · rw [upd_s, upd_s]
  · rw [upd_n (by omega), upd_n (by omega)]; exact h2
  · rw [upd_n (by omega), upd_n (by omega)]; exact h3 d hd
  · rw [upd_n (by omega), upd_n (by omega)]; exact h4 f hf
  · rw [upd_n (by omega), upd_n (by omega)]; exact h5 f hf
/-- the row is written: the steps stay -/
theorem co_row {S : gk_S} {A A' R' : Nat → Int32} {ns : Nat} (h : CoK S A ns) (hr : rwR true R' A') (hA : rwM A') (hk : ∀ k, (k = 3 ∨ (86 ≤ k ∧ k < 1346)) → A' k = A k) : CoK (gk_si S 11 R') A' ns := by
  obtain ⟨h1, h2, h3, h4, h5, h6⟩ := h
  refine ⟨by rw [si_s]; exact hr, hA, h3, by rw [si_n (by decide)]; exact h4, by rw [hk 3 (by omega)]; exact h5, fun i hi => ?_⟩
  rw [si_n (show 40 + i ≠ 11 by omega)]
  exact StR_L (h6 i hi) (fun k hk2 => hk _ (by omega))
theorem co_u2 {S : gk_S} {A : Nat → Int32} {ns : Nat} {v : Int32} (h : CoK S A ns) : CoK (gk_si S 11 (upd (S.1 11) 2 v)) (upd A 7 v) ns := co_row h (rwR_u2 h.1) (h.2.1.up (by omega)) (fun k hk => upd_n (by omega))
theorem co_u3 {S : gk_S} {A : Nat → Int32} {ns c : Nat} {v : Int32} (hc : c < 8) (h : CoK S A ns) : CoK (gk_si S 11 (upd (S.1 11) (3 + c) v)) (upd A (9 + c) v) ns := co_row h (rwR_u3 hc h.1) (h.2.1.up (by omega)) (fun k hk => upd_n (by omega))
theorem co_u1 {S : gk_S} {A : Nat → Int32} {ns v : Nat} (hv : v < 30859) (h : CoK S A ns) : CoK (gk_si S 11 (upd (S.1 11) 1 (nI v))) (upd A 6 (nI v)) ns := co_row h (rwR_u1 h.1) (h.2.1.u6 hv) (fun k hk => upd_n (by omega))
theorem re_iff {R A : Nat → Int32} {n : Nat} {x : Int32} (h : coR R A) : ((0 ≤ x ∧ x ≤ nI n - 1) ∧ hs (R 2) x) ↔ reP n A x := by rw [h.2.2.1]
