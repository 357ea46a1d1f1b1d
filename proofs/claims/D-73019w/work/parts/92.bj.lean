/-- the model's other parts stay -/
def FrM (S S' : gk_S) : Prop := (∀ i, i ≠ 201 → i ≠ 400 → i ≠ 405 → i ≠ 407 → i ≠ 408 → i ≠ 409 → S'.1 i = S.1 i) ∧ (∀ j, j ≠ 26 → S'.1 201 j = S.1 201 j) ∧ offM (S'.1 405) (S.1 405) ∧ lwB (S'.2.1 0) ∧ (∀ i, i ≠ 0 → S'.2.1 i = S.2.1 i) ∧ S'.2.2 = S.2.2
theorem FrM.tr {S S1 S2 : gk_S} (h : FrM S S1) (k : FrM S1 S2) : FrM S S2 := ⟨fun i a b c d e f => (k.1 i a b c d e f).trans (h.1 i a b c d e f), fun j hj => (k.2.1 j hj).trans (h.2.1 j hj), fun i hi => (k.2.2.1 i hi).trans (h.2.2.1 i hi), k.2.2.2.1, fun i hi => (k.2.2.2.2.1 i hi).trans (h.2.2.2.2.1 i hi), k.2.2.2.2.2.trans h.2.2.2.2.2⟩
theorem FrM.rf {S : gk_S} (h : lwB (S.2.1 0)) : FrM S S := ⟨fun _ _ _ _ _ _ _ => rfl, fun _ _ => rfl, fun _ _ => rfl, h, fun _ _ => rfl, rfl⟩
theorem FrM.a {S : gk_S} {A : Nat → Int32} (h : lwB (S.2.1 0)) : FrM S (gk_si S 400 A) := ⟨fun i _ b _ _ _ _ => si_n b, fun _ _ => rfl, fun _ _ => rfl, h, fun _ _ => rfl, rfl⟩
theorem FrM.u {S : gk_S} {x : Int32} (h : lwB (S.2.1 0)) : FrM S (gk_si S 201 (upd (S.1 201) 26 x)) := ⟨fun i a _ _ _ _ _ => si_n a, fun j hj => by rw [si_s, upd_n hj], fun _ _ => rfl, h, fun _ _ => rfl, rfl⟩
theorem dt_i {S : gk_S} {F T : Nat → Int32} {L : Nat → Int64} {i : Nat} (h1 : i ≠ 405) (h2 : i ≠ 407) : (gk_dt S F L T).1 i = S.1 i := by
  unfold gk_dt
  rw [si_n h2]
  show (gk_si S 405 F).1 i = _
  rw [si_n h1]
theorem m4_201 {S : gk_S} {A cl u F T : Nat → Int32} {L : Nat → Int64} : (gk_m4 S A cl u F L T).1 201 = u := by
  unfold gk_m4
  rw [dt_i (by decide) (by decide), si_n (by decide), si_s]
theorem FrM.m4 {S : gk_S} {A cl F T : Nat → Int32} {x : Int32} {L : Nat → Int64} (h1 : offM F (S.1 405)) (h2 : lwB L) : FrM S (gk_m4 S A cl (upd (S.1 201) 26 x) F L T) := by
  refine ⟨fun i a b c d e f => ?_, fun j hj => ?_, h1, h2, fun i hi => ?_, rfl⟩
  · unfold gk_m4
    rw [dt_i c d, si_n b, si_n a, si_n e]
  · show upd (S.1 201) 26 x j = _
    rw [upd_n hj]
  · show va_up S.2.1 0 L i = _
    unfold va_up
    rw [if_neg hi]
theorem EnM.fr {S S' : gk_S} {n nf : Nat} {g : Nat → Int32} {W : Option mnB} (h : EnM S n nf g W) (hf : FrM S S') (h0 : S'.1 400 0 = S.1 400 0) (h2 : S'.1 400 2 = S.1 400 2) : EnM S' n nf g W := by
  have e402 : S'.1 402 = S.1 402 := hf.1 402 (by decide) (by decide) (by decide) (by decide) (by decide) (by decide)
  refine ⟨MU_a h.1 h2 e402, h0.trans h.2.1, h.2.2.1, ?_, (hf.2.1 24 (by decide)).trans h.2.2.2.2⟩
  rw [e402, h2]
  exact h.2.2.2.1
theorem vcA_off {F o A : Nat → Int32} {f k n : Nat} (h : offM F o) : vcA F A f k n = vcA o A f k n := by
  have e : nmA F A f k = nmA o A f k := nmd_c h
  funext i
  unfold vcA
  rw [e]
  by_cases h4 : i < 4
  · rw [if_pos h4, if_pos h4]
    exact h _ (by omega)
  · rw [if_neg h4, if_neg h4]
theorem pmA_off {wr : Bool} {F o A : Nat → Int32} {n nf : Nat} {g : Nat → Int32} {W : Option mnB} (h : offM F o) : pmA wr F n nf g W A = pmA wr o n nf g W A := by
  have e : ∀ A, vlA F n A W = vlA o n A W := fun A => funext fun f => funext fun k => congrArg (wvM W) (vcA_off h)
  unfold pmA pdA
  rw [e]
/-- a row of the model as springs want it -/
def rwM (A : Nat → Int32) : Prop := roM A ∧ ∃ sp, sp ≤ 9999 ∧ A 5 = nI sp
theorem pmA_ok {wr : Bool} {o A : Nat → Int32} {n nf : Nat} {g : Nat → Int32} {W : Option mnB} (hn : n ≤ 8) (hf : nf ≤ 5) (h : rwM A) : (∀ k, (k < 5 ∨ (27 ≤ k ∧ k < 1346)) → (pmA wr o n nf g W A).1 k = A k) ∧ (pmA wr o n nf g W A).1 5 = A 5 + 1 ∧ (∃ v, v < 30859 ∧ (pmA wr o n nf g W A).1 6 = nI v) ∧ ∃ nb, nb ≤ 20 ∧ (pmA wr o n nf g W A).1 8 = nI nb := by
  obtain ⟨⟨⟨v, hv2, hv⟩, ⟨nb, hb2, hb⟩, hsm⟩, -⟩ := h
  have hcA : ∀ k, (k < 6 ∨ k = 8 ∨ 27 ≤ k) → clA A 8 k = A k := fun k hk => (clA_n (by omega)).trans (upd_n (by omega))
  have e6 : ix (A 6) = v := by rw [hv, ix_n (by omega)]
  have e8 : ix (A 8) = nb := by rw [hb, ix_n (by omega)]
  obtain ⟨k1, k2, k3⟩ : bOM (clA A 8) (pbA n nf g A) := by
    unfold pbA
    rw [e6]
    exact bMs_ok hn ((clA_n (by omega)).trans ((upd_n (by decide)).trans hv)) hv2 hf
  have hc0 : cOM (pbA n nf g A).1 ((pbA n nf g A).1, 31, ix (A 8)) := ⟨by rw [e8]; exact (k3 8 (by omega)).trans ((hcA 8 (by omega)).trans hb), by rw [e8]; exact hb2, fun _ _ => rfl⟩
  obtain ⟨o1, o2, o3⟩ : cOM (pbA n nf g A).1 (pdA wr o n nf g W A) := by
    unfold pdA
    exact cM2_ok hf (cM1_ok hc0 hf) (Nat.le_refl _)
  refine ⟨fun k hk => ?_, ?_, ⟨_, k2, ?_⟩, ⟨_, o2, ?_⟩⟩
  · unfold pmA
    dsimp only
    rw [upd_n (by omega), o3 k (by omega), k3 k (by omega), hcA k (by omega)]
  · unfold pmA
    dsimp only
    rw [upd_s, o3 5 (by omega), k3 5 (by omega), hcA 5 (by omega)]
  · unfold pmA
    dsimp only
    rw [upd_n (by omega), o3 6 (by omega)]
    exact k1
  · unfold pmA
    dsimp only
    rw [upd_n (by omega)]
    exact o1
theorem pmA_rw {wr : Bool} {o A : Nat → Int32} {n nf : Nat} {g : Nat → Int32} {W : Option mnB} (hn : n ≤ 8) (hf : nf ≤ 5) (h : rwM A) (h5 : ¬ A 5 = 9999) : rwM (pmA wr o n nf g W A).1 := by
  obtain ⟨k1, k2, k3, k4⟩ := pmA_ok (wr := wr) (o := o) (g := g) (W := W) hn hf h
  obtain ⟨⟨-, -, hsm⟩, sp, hsp, e⟩ := h
  have hne : sp ≠ 9999 := fun z => h5 (by rw [e, z]; rfl)
  have e5 : (pmA wr o n nf g W A).1 5 = nI (sp + 1) := by rw [k2, e, nI_1]
  refine ⟨⟨k3, k4, fun i hi => ?_⟩, sp + 1, by omega, e5⟩
  by_cases h9 : i = 5
  · rw [h9, e5, nI_toInt (by omega)]
    omega
  · rw [k1 i (by omega)]
    exact hsm i hi
/-- the pass of the model -/
theorem k_X2_passF {l : Launch} {E : gk_E} (ho : E.2.2.2.2 = true) {S : gk_S} {n nf : Nat} {g o : Nat → Int32} {W : Option mnB} {wr : Bool} (he : EnM S n nf g W) (hro : rwM (S.1 400)) (hlw : lwB (S.2.1 0)) (hwr : wr = true ↔ ¬ S.1 201 25 = 0) (hoff : offM (S.1 405) o) : gk_T l E yX2_pass cX2_pass 4 none 5 122 0 0 [.ref (E.2.2.1 3)] S (fun r S' => r = none ∧ S'.1 400 = (pmA wr o n nf g W (S.1 400)).1 ∧ S'.1 201 26 = S.1 201 26 + bcI (pmA wr o n nf g W (S.1 400)).2 ∧ FrM S S' ∧ S'.1 409 = S.1 409) := by
  refine gk_T.imp (k_X2_passA ho he hro.1 hlw hwr) ?_
  rintro r S' ⟨cl, F, L1, T, h1, h2, h3, h4⟩
  rw [pmA_off hoff] at h2
  subst h2
  exact ⟨h1, rfl, by rw [m4_201, upd_s], FrM.m4 h3 h4, by unfold gk_m4; rw [dt_i (by decide) (by decide), si_n (by decide), si_n (by decide), si_n (by decide)]⟩
theorem kpM_n {A : Nat → Int32} {ns k : Nat} (hns : ns ≤ 30) (h : k < 3 ∨ (4 ≤ k ∧ k < 86) ∨ 1346 ≤ k) : kpM A ns k = A k := by
  by_cases e : ns = 30
  · subst e
    rw [kpM_30, upd_n (by omega), bcU_o (by omega), bcU_o (by omega), upd_n (by omega), bcU_o (by omega)]
  · rw [kpM_lt e, upd_n (by omega), bcU_o (by omega), bcU_o (by omega)]
def kpN (ns : Nat) : Nat := if ns = 30 then 30 else ns + 1
theorem kpN_le {ns : Nat} (h : ns ≤ 30) : kpN ns ≤ 30 := by unfold kpN; split <;> omega
theorem kpM_3 {A : Nat → Int32} {ns : Nat} : kpM A ns 3 = nI (kpN ns) := by
  unfold kpN
  by_cases e : ns = 30
  · subst e
    rw [kpM_30, upd_s, if_pos rfl]
  · rw [kpM_lt e, upd_s, if_neg e]
theorem kpM_rw {A : Nat → Int32} {ns : Nat} (hns : ns ≤ 30) (h : rwM A) : rwM (kpM A ns) := by
  obtain ⟨⟨⟨v, hv2, hv⟩, ⟨nb, hb2, hb⟩, hsm⟩, sp, hsp, e⟩ := h
  exact ⟨⟨⟨v, hv2, (kpM_n hns (by omega)).trans hv⟩, ⟨nb, hb2, (kpM_n hns (by omega)).trans hb⟩, fun i hi => by rw [kpM_n hns (by omega)]; exact hsm i hi⟩, sp, hsp, (kpM_n hns (by omega)).trans e⟩
/-- a step kept, a spring -/
def stA (o : Nat → Int32) (n nf : Nat) (g : Nat → Int32) (W : Option mnB) (q : (Nat → Int32) × Int32) : (Nat → Int32) × Int32 := ((pmA true o n nf g W (kpM q.1 (ix (q.1 3)))).1, q.2 + bcI (pmA true o n nf g W (kpM q.1 (ix (q.1 3)))).2)
def arA (o : Nat → Int32) (n nf : Nat) (g : Nat → Int32) (W : Option mnB) : Nat → (Nat → Int32) × Int32 → Bool × (Nat → Int32) × Int32
  | 0, q => (true, q)
  | m + 1, q => if q.1 5 = 9999 then (false, q) else arA o n nf g W m (stA o n nf g W q)
theorem arA_t {o : Nat → Int32} {n nf m : Nat} {g : Nat → Int32} {W : Option mnB} {q : (Nat → Int32) × Int32} (hm : 0 < m) (h : q.1 5 = 9999) : arA o n nf g W m q = (false, q) := by
  cases m with
  | zero => omega
  | succ m => exact if_pos h
theorem arA_f {o : Nat → Int32} {n nf m : Nat} {g : Nat → Int32} {W : Option mnB} {q : (Nat → Int32) × Int32} (hm : 0 < m) (h : ¬ q.1 5 = 9999) : arA o n nf g W m q = arA o n nf g W (m - 1) (stA o n nf g W q) := by
  cases m with
  | zero => omega
  | succ m => exact if_neg h
theorem arA_0 {o : Nat → Int32} {n nf : Nat} {g : Nat → Int32} {W : Option mnB} {q : (Nat → Int32) × Int32} : arA o n nf g W 0 q = (true, q) := rfl
/-- what the model's core is -/
def coM (S : gk_S) : Prop := rwM (S.1 400) ∧ (∃ ns, ns ≤ 30 ∧ S.1 400 3 = nI ns) ∧ lwB (S.2.1 0) ∧ S.1 201 25 = 1
set_option maxHeartbeats 1000000 in
theorem k_X2_arePassed {l : Launch} {E : gk_E} (ho : E.2.2.2.2 = true) {S : gk_S} {x : Int32} {n nf mm : Nat} {g o : Nat → Int32} {W : Option mnB} (hx : x = nI mm) (hm : mm ≤ 100) (he : EnM S n nf g W) (hco : coM S) (hoff : offM (S.1 405) o) : gk_T l E yX2_arePassed cX2_arePassed 3 ((some .boolean)) 6 145 0 0 [.ref (E.2.2.1 3), .int x] S (fun r S' => r = some (.int (bP ((arA o n nf g W mm (S.1 400, 0)).1 = true))) ∧ S'.1 400 = (arA o n nf g W mm (S.1 400, 0)).2.1 ∧ S'.1 201 26 = (arA o n nf g W mm (S.1 400, 0)).2.2 ∧ coM S' ∧ EnM S' n nf g W ∧ FrM S S' ∧ (S'.1 400 0 = S.1 400 0 ∧ S'.1 400 2 = S.1 400 2)) := by
  refine gk_T.of [some (.ref (E.2.2.1 3)), some (.int x), none] (by decide) (Nat.le_of_ble_eq_true rfl) (le_1 rfl (le_1 rfl (le_p le_n))) ?_
  intro p_ e_ R_ s_ m_ args_ below_ meth_ c_ hR X hr hin
  subst hR
  refine g_aload_n X dX2_arePassed_0 rfl ?_
  refine g_iconst (v := 0) X dX2_arePassed_1 rfl ?_
  refine g_put3 X ho 26 dX2_arePassed_2 q1431 rfl (Nat.le_of_ble_eq_true rfl) rfl rfl rfl rfl (Nat.le_of_ble_eq_true rfl) rfl ?_
  refine g_iconst (v := 0) X dX2_arePassed_5 rfl ?_
  refine g_istore_n X dX2_arePassed_6 (Nat.le_of_ble_eq_true rfl) ?_
  refine g_loop (σ := Nat × gk_S) (fun (q : Nat × gk_S) => match q with | (i, S1) => S1) (fun (q : Nat × gk_S) => match q with | (i, S1) => ([some (.ref (E.2.2.1 3)), some (.int x), some (.int (nI i))] : List (Option Value))) (fun (q : Nat × gk_S) => match q with | (i, S1) => i ≤ mm ∧ arA o n nf g W (mm - i) (S1.1 400, S1.1 201 26) = arA o n nf g W mm (S.1 400, 0) ∧ coM S1 ∧ EnM S1 n nf g W ∧ FrM S S1 ∧ (S1.1 400 0 = S.1 400 0 ∧ S1.1 400 2 = S.1 400 2)) (fun (q : Nat × gk_S) => match q with | (i, S1) => mm - i) ((0, gk_si S 201 (upd (S.1 201) 26 0))) ?_ (rfl) (le_1 rfl (le_1 rfl (le_1 rfl le_n))) ?_
  · exact ⟨Nat.zero_le _, (by show arA o n nf g W (mm - 0) (S.1 400, upd (S.1 201) 26 0 26) = _; rw [upd_s]; rfl), hco, he.fr (FrM.u hco.2.2.1) rfl rfl, FrM.u hco.2.2.1, rfl, rfl⟩
  rintro ⟨i, S1⟩ hI ih
  try dsimp only at hI ih ⊢
  obtain ⟨hI1, hI2, ⟨hI3, ⟨ns, hns, hns2⟩, hI4, hI5⟩, hI6, hI7, hI8, hI9⟩ := hI
  refine g_iload_n X dX2_arePassed_7 rfl ?_
  refine g_iload_n X dX2_arePassed_8 rfl ?_
  refine g_icmp_ge (tgt := 40) X dX2_arePassed_9 rfl (fun c9 => ?_) (fun c9 => ?_)
  · have him : mm = i := Nat.le_antisymm ((nI_leI (by omega) (by omega)).mp (by rw [← hx]; exact c9)) hI1
    subst him
    rw [Nat.sub_self, arA_0] at hI2
    refine g_iconst (v := 1) X dX2_arePassed_40 rfl ?_
    refine g_zret X hr dX2_arePassed_41 ?_ (Nat.le_of_ble_eq_true rfl) (Nat.le_of_ble_eq_true rfl) ?_
    · first | rfl | exact nb_bP
    · exact ⟨by rw [← hI2]; rfl, by rw [← hI2], by rw [← hI2], ⟨hI3, ⟨ns, hns, hns2⟩, hI4, hI5⟩, hI6, hI7, hI8, hI9⟩
  · have him : i < mm := (nI_ltI (by omega) (by omega)).mp (Int32.not_le.mp (by rw [← hx]; exact c9))
    refine g_aload_n X dX2_arePassed_12 rfl ?_
    refine g_get (C := RX2) (T := TX2) (N := 35) X 0 in_X2 dX2_arePassed_13 q1405 (rd3 ho) rfl (Nat.le_of_ble_eq_true rfl) (fun _ h9 => h9) rfl ?_
    refine g_iconst (v := 5) X dX2_arePassed_16 rfl ?_
    refine g_iald (j := 5) X dX2_arePassed_17 (rdi ho (400) (rfl)) rfl (by decide) (by decide) ?_
    refine g_sipush (v := 9999) X dX2_arePassed_18 rfl ?_
    refine g_icmp_ne (tgt := 26) X dX2_arePassed_21 rfl (fun c21 => ?_) (fun c21 => ?_)
    · refine g_aload_n X dX2_arePassed_26 rfl ?_
      refine g_callV (C := RX2) (T := TX2) (N := 35) X (k_X2_keep ho (S := S1) hns2 hns) (lw_V q1772 q1774 qs101 q139 q1775) hd_X2_keep dX2_arePassed_27 (rd3 ho) rfl rfl ⟨Nat.le_of_ble_eq_true rfl, Nat.le_of_ble_eq_true rfl⟩ ⟨Nat.le_of_ble_eq_true rfl, Nat.le_of_ble_eq_true rfl⟩ (Nat.le_of_ble_eq_true rfl) ?_
      rintro _ S1 ⟨rfl, hS1⟩
      obtain rfl := hS1.symm
      have hK0 : (kpM (S1.1 400) ns) 0 = S1.1 400 0 := kpM_n hns (by omega)
      have hK2 : (kpM (S1.1 400) ns) 2 = S1.1 400 2 := kpM_n hns (by omega)
      have hK5 : (kpM (S1.1 400) ns) 5 = S1.1 400 5 := kpM_n hns (by omega)
      have hKr : rwM (kpM (S1.1 400) ns) := kpM_rw hns hI3
      have hKE : EnM (gk_si S1 400 (kpM (S1.1 400) ns)) n nf g W := hI6.fr (FrM.a hI4) (by rw [si_s]; exact hK0) (by rw [si_s]; exact hK2)
      refine g_aload_n X dX2_arePassed_30 rfl ?_
      refine g_callV (C := RX2) (T := TX2) (N := 35) X (k_X2_passF ho (S := gk_si S1 400 (kpM (S1.1 400) ns)) (n := n) (nf := nf) (g := g) (W := W) (wr := true) (o := o) hKE (by rw [si_s]; exact hKr) hI4 ⟨fun _ => by rw [si_n (by decide), hI5]; decide, fun _ => rfl⟩ (fun z hz => (hI7.2.2.1 z hz).trans (hoff z hz))) (lw_V q1800 q1802 qs105 q139 q1803) hd_X2_pass dX2_arePassed_31 (rd3 ho) rfl rfl ⟨Nat.le_of_ble_eq_true rfl, Nat.le_of_ble_eq_true rfl⟩ ⟨Nat.le_of_ble_eq_true rfl, Nat.le_of_ble_eq_true rfl⟩ (Nat.le_of_ble_eq_true rfl) ?_
      rintro _ S2 ⟨rfl, hA2, hU2, hF2, _⟩
      rw [si_s] at hA2
      rw [si_s, si_n (by decide)] at hU2
      obtain ⟨q1, q2, q3, q4⟩ := pmA_ok (wr := true) (o := o) (g := g) (W := W) hI6.1.1 hI6.2.2.1 hKr
      have hR2 := pmA_rw (wr := true) (o := o) (g := g) (W := W) hI6.1.1 hI6.2.2.1 hKr (by rw [hK5]; exact c21)
      have hG0 : S2.1 400 0 = S1.1 400 0 := by rw [hA2, q1 0 (by omega), hK0]
      have hG2 : S2.1 400 2 = S1.1 400 2 := by rw [hA2, q1 2 (by omega), hK2]
      have hG3 : S2.1 400 3 = nI (kpN ns) := by rw [hA2, q1 3 (by omega)]; exact kpM_3
      have hE2 : EnM S2 n nf g W := hKE.fr hF2 (by rw [hG0, si_s, hK0]) (by rw [hG2, si_s, hK2])
      have hC2 : coM S2 := ⟨by rw [hA2]; exact hR2, ⟨kpN ns, kpN_le hns, hG3⟩, hF2.2.2.2.1, by rw [hF2.2.1 25 (by decide)]; exact hI5⟩
      have hT2 : arA o n nf g W (mm - (i + 1)) (S2.1 400, S2.1 201 26) = arA o n nf g W mm (S.1 400, 0) := by
        rw [← hI2, arA_f (m := mm - i) (q := (S1.1 400, S1.1 201 26)) (by omega) c21, show mm - i - 1 = mm - (i + 1) by omega, hA2, hU2]
        unfold stA
        dsimp only
        rw [hns2, ix_n (by omega)]
      refine g_iinc (v := 1) X dX2_arePassed_34 rfl rfl (Nat.le_of_ble_eq_true rfl) ?_
      refine g_goto (tgt := 7) X dX2_arePassed_37 rfl ?_
      refine g_sub (le_1 rfl (le_1 rfl (le_1 e_1 le_n))) (ih (i + 1, S2) ?_ ?_)
      · exact ⟨by omega, hT2, hC2, hE2, hI7.tr ((FrM.a hI4).tr hF2), hG0.trans hI8, hG2.trans hI9⟩
      · show mm - (i + 1) < mm - i; omega
    · refine g_iconst (v := 0) X dX2_arePassed_24 rfl ?_
      refine g_zret X hr dX2_arePassed_25 ?_ (Nat.le_of_ble_eq_true rfl) (Nat.le_of_ble_eq_true rfl) ?_
      · first | rfl | exact nb_bP
      · exact ⟨by rw [← hI2, arA_t (by omega) (by exact c21)]; rfl, by rw [← hI2, arA_t (by omega) (by exact c21)], by rw [← hI2, arA_t (by omega) (by exact c21)], ⟨hI3, ⟨ns, hns, hns2⟩, hI4, hI5⟩, hI6, hI7, hI8, hI9⟩
