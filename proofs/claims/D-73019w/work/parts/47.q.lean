/-- one farmer after another takes what he wants most: after i of the digits D (left, sum, who has what) -/
def chS (w : Nat → Nat → Int32) (nf : Nat) (D : Nat → Nat) (g : Nat → Int32) (i : Nat) : Int32 × Int32 × (Nat → Int32) :=
  itr (fun i q => if D i < nf then (q.1 &&& (one (waB (w (D i)) q.1 5) ^^^ -1), q.2.1 + w (D i) (ix (waB (w (D i)) q.1 5)), upd q.2.2 (D i) (waB (w (D i)) q.1 5)) else q) i (31, 0, g)
theorem chS_t {w : Nat → Nat → Int32} {nf i : Nat} {D : Nat → Nat} {g : Nat → Int32} (h : D i < nf) : chS w nf D g (i + 1) = ((chS w nf D g i).1 &&& (one (waB (w (D i)) (chS w nf D g i).1 5) ^^^ -1), (chS w nf D g i).2.1 + w (D i) (ix (waB (w (D i)) (chS w nf D g i).1 5)), upd (chS w nf D g i).2.2 (D i) (waB (w (D i)) (chS w nf D g i).1 5)) := if_pos h
theorem chS_f {w : Nat → Nat → Int32} {nf i : Nat} {D : Nat → Nat} {g : Nat → Int32} (h : ¬ D i < nf) : chS w nf D g (i + 1) = chS w nf D g i := if_neg h
theorem lf_step : ∀ m, m < 32 → ∀ v, v < 5 → (nI m &&& (one (nI v) ^^^ -1)) = nI (ix (nI m &&& (one (nI v) ^^^ -1))) ∧ ix (nI m &&& (one (nI v) ^^^ -1)) < 32 ∧ bcN m ≤ bcN (ix (nI m &&& (one (nI v) ^^^ -1))) + 1 := by decide +kernel
theorem lf_bit : ∀ m, m < 32 → 1 ≤ bcN m → ∃ v, v < 5 ∧ hs (nI m) (nI v) := by decide +kernel
theorem waB_5 {w : Nat → Int32} {m : Nat} (hm : m < 32) (h : 1 ≤ bcN m) : ∃ v, v < 5 ∧ waB w (nI m) 5 = nI v := by
  obtain ⟨v, h1, h2⟩ := lf_bit m hm h
  rcases waB_in (w := w) (left := nI m) 5 with z | ⟨v', z1, z2, -⟩
  · exact absurd z (waB_ne h2 5 (by decide) h1)
  · exact ⟨v', z1, z2⟩
theorem chS_left {w : Nat → Nat → Int32} {nf : Nat} {D : Nat → Nat} {g : Nat → Int32} : ∀ i, i ≤ 5 → ∃ m, m < 32 ∧ (chS w nf D g i).1 = nI m ∧ 5 ≤ bcN m + i
  | 0, _ => ⟨31, by decide, rfl, by decide⟩
  | i + 1, h => by
    obtain ⟨m, h1, h2, h3⟩ := chS_left (w := w) (nf := nf) (D := D) (g := g) i (by omega)
    by_cases hd : D i < nf
    · obtain ⟨v, hv, hv2⟩ := waB_5 (w := w (D i)) h1 (by omega)
      obtain ⟨q1, q2, q3⟩ := lf_step m h1 v hv
      refine ⟨_, q2, ?_, by omega⟩
      rw [chS_t hd]
      show (chS w nf D g i).1 &&& (one (waB (w (D i)) (chS w nf D g i).1 5) ^^^ -1) = _
      rw [h2, hv2]
      exact q1
    · rw [chS_f hd]
      exact ⟨m, h1, h2, by omega⟩
theorem chS_b {w : Nat → Nat → Int32} {nf i : Nat} {D : Nat → Nat} {g : Nat → Int32} (hi : i < 5) : ∃ v, v < 5 ∧ waB (w (D i)) (chS w nf D g i).1 5 = nI v := by
  obtain ⟨m, h1, h2, h3⟩ := chS_left (w := w) (nf := nf) (D := D) (g := g) i (by omega)
  rw [h2]
  exact waB_5 h1 (by omega)
/-- the left and the sum don't look at what was there -/
theorem chS_g {w : Nat → Nat → Int32} {nf : Nat} {D : Nat → Nat} {g g' : Nat → Int32} (i : Nat) : (chS w nf D g i).1 = (chS w nf D g' i).1 ∧ (chS w nf D g i).2.1 = (chS w nf D g' i).2.1 := by
  induction i with
  | zero => exact ⟨rfl, rfl⟩
  | succ i ih =>
    by_cases h : D i < nf
    · rw [chS_t h, chS_t h]
      dsimp only
      rw [ih.1, ih.2]
      exact ⟨rfl, rfl⟩
    · rw [chS_f h, chS_f h]
      exact ih
def dn5 (i : Nat) : Int32 := if i < 5 then nI (4 - i) else -1
theorem dn5_s : ∀ i, i < 5 → dn5 i + -1 = dn5 (i + 1) ∧ ¬ dn5 i < 0 ∧ dn5 i = nI (4 - i) := by decide
theorem dn5_in {i : Nat} (h : i ≤ 5) (c : ¬ dn5 i < 0) : i < 5 := by
  rcases Nat.lt_or_ge i 5 with q | q
  · exact q
  · exact absurd (by rw [show i = 5 by omega]; decide) c
theorem dn5_out {i : Nat} (h : i ≤ 5) (c : dn5 i < 0) : i = 5 := by
  rcases Nat.lt_or_ge i 5 with q | q
  · exact absurd c (dn5_s i q).2.1
  · omega
set_option maxHeartbeats 600000 in
theorem k_X0_choosesBy {l : Launch} {E : gk_E} (ho : E.2.2.2.2 = true) {S : gk_S} {o : Int32} {nf : Nat} {D : Nat → Nat} (h0 : S.1 10 0 = nI nf) (h1 : nf ≤ 5) (hD : ∀ i, i < 5 → D i < 5 ∧ dgC o (4 - i) = nI (D i)) : gk_T l E yX0_choosesBy cX0_choosesBy 6 ((some .int)) 6 120 0 0 [.ref (E.2.2.1 0), .int o] S (fun r S' => r = some (.int (chS (fun d => S.1 (20 + d)) nf D (S.1 306) 5).2.1) ∧ S' = gk_si S 306 (chS (fun d => S.1 (20 + d)) nf D (S.1 306) 5).2.2) := by
  refine gk_T.of [some (.ref (E.2.2.1 0)), some (.int o), none, none, none, none] (by decide) (Nat.le_of_ble_eq_true rfl) (le_1 rfl (le_1 rfl (le_p (le_p (le_p (le_p le_n)))))) ?_
  intro p_ e_ R_ s_ m_ args_ below_ meth_ c_ hR X hr hin
  subst hR
  refine g_bipush (v := 31) X dX0_choosesBy_0 rfl ?_
  refine g_istore_n X dX0_choosesBy_2 (Nat.le_of_ble_eq_true rfl) ?_
  refine g_iconst (v := 0) X dX0_choosesBy_3 rfl ?_
  refine g_istore_n X dX0_choosesBy_4 (Nat.le_of_ble_eq_true rfl) ?_
  refine g_iconst (v := 4) X dX0_choosesBy_5 rfl ?_
  refine g_istore X dX0_choosesBy_6 (Nat.le_of_ble_eq_true rfl) ?_
  refine g_loop (σ := Nat) (fun (i : Nat) => gk_si S 306 (chS (fun d => S.1 (20 + d)) nf D (S.1 306) i).2.2) (fun (i : Nat) => ([some (.ref (E.2.2.1 0)), some (.int o), some (.int (chS (fun d => S.1 (20 + d)) nf D (S.1 306) i).1), some (.int (chS (fun d => S.1 (20 + d)) nf D (S.1 306) i).2.1), some (.int (dn5 i)), none] : List (Option Value))) (fun (i : Nat) => i ≤ 5) (fun (i : Nat) => 5 - i) (0) ?_ (by exact si_id.symm) (le_1 rfl (le_1 rfl (le_1 rfl (le_1 rfl (le_1 rfl (le_0 le_n)))))) ?_
  · omega
  intro i hI ih
  try dsimp only at hI ih ⊢
  refine g_iload X dX0_choosesBy_8 rfl ?_
  refine g_if_lt (tgt := 92) X dX0_choosesBy_10 rfl (fun c10 => ?_) (fun c10 => ?_)
  · refine g_iload_n X dX0_choosesBy_92 rfl ?_
    exact g_iret X hr dX0_choosesBy_93 (Nat.le_of_ble_eq_true rfl) (Nat.le_of_ble_eq_true rfl) (⟨by rw [dn5_out hI c10], by rw [dn5_out hI c10]⟩)
  · have hi : i < 5 := dn5_in hI c10
    obtain ⟨hd5, hdg⟩ := hD i hi
    refine g_iload_n X dX0_choosesBy_13 rfl ?_
    refine g_iload X dX0_choosesBy_14 rfl ?_
    refine g_callS X (k_X0_power ho 5 (dn5_s i hi).2.2 ⟨by omega, by omega⟩) (lw_S q1281 q1282 q135 q1283) hd_X0_power dX0_choosesBy_16 rfl ⟨Nat.le_of_ble_eq_true rfl, Nat.le_of_ble_eq_true rfl⟩ ⟨Nat.le_of_ble_eq_true rfl, Nat.le_of_ble_eq_true rfl⟩ (Nat.le_of_ble_eq_true rfl) ?_
    rintro _ S1 ⟨rfl, hS1⟩
    obtain rfl := hS1.symm
    refine g_idiv X dX0_choosesBy_19 (p10 _ (by omega)) ?_
    refine g_bipush (v := 10) X dX0_choosesBy_20 rfl ?_
    refine g_irem X dX0_choosesBy_22 (by decide) ?_
    refine g_top (y := nI (D i)) hdg ?_
    refine g_istore X dX0_choosesBy_23 (Nat.le_of_ble_eq_true rfl) ?_
    refine g_iload X dX0_choosesBy_25 rfl ?_
    refine g_aload_n X dX0_choosesBy_27 rfl ?_
    refine g_callV (C := RX0) (T := TX0) (N := 13) X (k_X0_farmers ho) (lw_V q287 q289 qs0 q135 q290) hd_X0_farmers dX0_choosesBy_28 (rd0 ho) rfl rfl ⟨Nat.le_of_ble_eq_true rfl, Nat.le_of_ble_eq_true rfl⟩ ⟨Nat.le_of_ble_eq_true rfl, Nat.le_of_ble_eq_true rfl⟩ (Nat.le_of_ble_eq_true rfl) ?_
    rintro _ S1 ⟨rfl, hS1⟩
    obtain rfl := hS1.symm
    refine g_icmp_lt (tgt := 37) X dX0_choosesBy_31 rfl (fun c31 => ?_) (fun c31 => ?_)
    · have hlt : D i < nf := (nI_ltI (by omega) (by omega)).mp (by rw [← h0]; exact c31)
      obtain ⟨v, hv, hv2⟩ := chS_b (w := (fun d => S.1 (20 + d))) (nf := nf) (D := D) (g := S.1 306) hi
      have hv2 : waB (S.1 (20 + D i)) (chS (fun d => S.1 (20 + d)) nf D (S.1 306) i).1 5 = nI v := hv2
      refine g_aload_n X dX0_choosesBy_37 rfl ?_
      refine g_get (C := RX0) (T := TX0) (N := 13) X 11 in_X0 dX0_choosesBy_38 q252 (rd0 ho) rfl (Nat.le_of_ble_eq_true rfl) (fun _ h9 => h9) rfl ?_
      refine g_iload X dX0_choosesBy_41 rfl ?_
      refine g_aload_n X dX0_choosesBy_43 rfl ?_
      refine g_iload X dX0_choosesBy_44 rfl ?_
      refine g_iload_n X dX0_choosesBy_46 rfl ?_
      refine g_callV (C := RX0) (T := TX0) (N := 13) X (k_X0_wantedOf ho (i := D i) rfl hd5) (lw_V q1289 q1291 qs50 q135 q1292) hd_X0_wantedOf dX0_choosesBy_47 (rd0 ho) rfl rfl ⟨Nat.le_of_ble_eq_true rfl, Nat.le_of_ble_eq_true rfl⟩ ⟨Nat.le_of_ble_eq_true rfl, Nat.le_of_ble_eq_true rfl⟩ (Nat.le_of_ble_eq_true rfl) ?_
      rintro _ S1 ⟨rfl, hS1⟩
      obtain rfl := hS1.symm
      rw [si_n (show 20 + D i ≠ 306 by omega), hv2]
      refine g_iast X ho (306) (j := D i) dX0_choosesBy_50 rfl (rfl) rfl hd5 (by decide) ?_
      refine g_eq (S2 := gk_si S 306 (upd (chS (fun d => S.1 (20 + d)) nf D (S.1 306) i).2.2 (D i) (nI v))) (by rw [si_si, si_s]) ?_
      refine g_iload_n X dX0_choosesBy_51 rfl ?_
      refine g_iconst (v := 1) X dX0_choosesBy_52 rfl ?_
      refine g_aload_n X dX0_choosesBy_53 rfl ?_
      refine g_get (C := RX0) (T := TX0) (N := 13) X 11 in_X0 dX0_choosesBy_54 q252 (rd0 ho) rfl (Nat.le_of_ble_eq_true rfl) (fun _ h9 => h9) rfl ?_
      refine g_iload X dX0_choosesBy_57 rfl ?_
      refine g_iald (j := D i) X dX0_choosesBy_59 (rdi ho (306) (rfl)) rfl hd5 (by decide) ?_
      refine g_top (y := nI v) (by rw [si_s, upd_s]) ?_
      refine g_ishl X dX0_choosesBy_60 ?_
      refine g_iconst (v := (-1)) X dX0_choosesBy_61 rfl ?_
      refine g_ixor X dX0_choosesBy_62 ?_
      refine g_iand X dX0_choosesBy_63 ?_
      refine g_istore_n X dX0_choosesBy_64 (Nat.le_of_ble_eq_true rfl) ?_
      refine g_iload_n X dX0_choosesBy_65 rfl ?_
      refine g_aload_n X dX0_choosesBy_66 rfl ?_
      refine g_get (C := RX0) (T := TX0) (N := 13) X 0 in_X0 dX0_choosesBy_67 q241 (rd0 ho) rfl (Nat.le_of_ble_eq_true rfl) (fun _ h9 => h9) rfl ?_
      refine g_getN (C := RX1) (T := TX1) (N := 8) X 4 in_X1 dX0_choosesBy_70 q203 (rd1 ho) rfl (Nat.le_of_ble_eq_true rfl) (fun _ h9 => h9) rfl ?_
      refine g_iload X dX0_choosesBy_73 rfl ?_
      refine g_aald (t := 4) (j := D i) X dX0_choosesBy_75 (rd14 ho) rfl rfl rfl hd5 (by decide) rfl ?_
      refine g_aload_n X dX0_choosesBy_76 rfl ?_
      refine g_get (C := RX0) (T := TX0) (N := 13) X 11 in_X0 dX0_choosesBy_77 q252 (rd0 ho) rfl (Nat.le_of_ble_eq_true rfl) (fun _ h9 => h9) rfl ?_
      refine g_iload X dX0_choosesBy_80 rfl ?_
      refine g_iald (j := D i) X dX0_choosesBy_82 (rdi ho (306) (rfl)) rfl hd5 (by decide) ?_
      refine g_top (y := nI v) (by rw [si_s, upd_s]) ?_
      refine g_iald (j := v) X dX0_choosesBy_83 (rdi ho (20 + (D i)) (kd_want hd5)) rfl hv (by decide) ?_
      refine g_top (y := S.1 (20 + D i) v) (by rw [si_n (by omega)]) ?_
      refine g_iadd X dX0_choosesBy_84 ?_
      refine g_istore_n X dX0_choosesBy_85 (Nat.le_of_ble_eq_true rfl) ?_
      refine g_eq (S2 := gk_si S 306 (chS (fun d => S.1 (20 + d)) nf D (S.1 306) (i + 1)).2.2) (by rw [chS_t hlt]; show _ = gk_si S 306 (upd _ (D i) (waB (S.1 (20 + D i)) _ 5)); rw [hv2]) ?_
      refine g_iinc (v := (-1)) X dX0_choosesBy_86 rfl rfl (Nat.le_of_ble_eq_true rfl) ?_
      refine g_goto (tgt := 8) X dX0_choosesBy_89 rfl ?_
      refine g_sub (le_1 rfl (le_1 rfl (le_1 (ei (by rw [chS_t hlt]; show _ = _ &&& (one (waB (S.1 (20 + D i)) _ 5) ^^^ -1); rw [hv2])) (le_1 (ei (by rw [chS_t hlt]; show _ = _ + S.1 (20 + D i) (ix (waB (S.1 (20 + D i)) _ 5)); rw [hv2, ix_n (by omega)])) (le_1 (ei (dn5_s i hi).1) (le_0 le_n)))))) (ih (i + 1) ?_ ?_)
      · try dsimp only
        omega
      · try dsimp only
        omega
    · have hlt : ¬ D i < nf := fun z => c31 (by show nI (D i) < S.1 10 0; rw [h0]; exact nI_lt z (by omega))
      refine g_goto (tgt := 86) X dX0_choosesBy_34 rfl ?_
      refine g_eq (S2 := gk_si S 306 (chS (fun d => S.1 (20 + d)) nf D (S.1 306) (i + 1)).2.2) (by rw [chS_f hlt]) ?_
      refine g_iinc (v := (-1)) X dX0_choosesBy_86 rfl rfl (Nat.le_of_ble_eq_true rfl) ?_
      refine g_goto (tgt := 8) X dX0_choosesBy_89 rfl ?_
      refine g_sub (le_1 rfl (le_1 rfl (le_1 (ei (by rw [chS_f hlt])) (le_1 (ei (by rw [chS_f hlt])) (le_1 (ei (dn5_s i hi).1) (le_0 le_n)))))) (ih (i + 1) ?_ ?_)
      · try dsimp only
        omega
      · try dsimp only
        omega
/-- digits of an order -/
def dgN (N i : Nat) : Nat := N / 10 ^ (4 - i) % 10
theorem dgC_N {N k : Nat} (hN : N < 2 ^ 31) (hk : k < 5) : dgC (nI N) k = nI (N / 10 ^ k % 10) := by
  have h1 : 10 ^ k ≤ 10 ^ 4 := Nat.pow_le_pow_right (by decide) (by omega)
  have h2 : 0 < 10 ^ k := Nat.pow_pos (by decide)
  have h3 : N / 10 ^ k ≤ N := Nat.div_le_self _ _
  unfold dgC
  rw [pk_div hN h2 (by omega)]
  show nI (N / 10 ^ k) - nI (N / 10 ^ k) / nI 10 * nI 10 = _
  rw [pk_rem (by omega) (by decide) (by decide)]
def orB (d : Nat) : Nat := 2 ^ d
def orN (N : Nat) : Nat := ((((0 ||| orB (N % 10)) ||| orB (N / 10 % 10)) ||| orB (N / 100 % 10)) ||| orB (N / 1000 % 10)) ||| orB (N / 10000 % 10)
def orK (N : Nat) : Bool := !Nat.beq (orN N) 31 || (Nat.blt (N % 10) 5 && Nat.blt (N / 10 % 10) 5 && Nat.blt (N / 100 % 10) 5 && Nat.blt (N / 1000 % 10) 5 && Nat.blt (N / 10000 % 10) 5 && Nat.ble 1234 N)
theorem orK_all : (List.range 209).all (fun a => (List.range 209).all (fun b => orK (209 * a + b))) = true := by decide +kernel
theorem one_N : ∀ d, d < 10 → one (nI d) = nI (2 ^ d) := by decide
theorem nx_or (a b : Nat) : nI a ||| nI b = nI (a ||| b) := by
  apply Int32.toBitVec_inj.1
  show BitVec.ofNat 32 a ||| BitVec.ofNat 32 b = BitVec.ofNat 32 (a ||| b)
  apply BitVec.eq_of_getLsbD_eq
  intro i hi
  simp [hi]
theorem odC_N {N : Nat} (hN : N ≤ 43210) : odC (nI N) 5 = nI (orN N) := by
  show ((((0 ||| one (dgC (nI N) 0)) ||| one (dgC (nI N) 1)) ||| one (dgC (nI N) 2)) ||| one (dgC (nI N) 3)) ||| one (dgC (nI N) 4) = _
  have m : ∀ x : Nat, x % 10 < 10 := fun x => Nat.mod_lt x (by decide)
  rw [dgC_N (by omega) (by decide), dgC_N (by omega) (by decide), dgC_N (by omega) (by decide), dgC_N (by omega) (by decide), dgC_N (by omega) (by decide), one_N _ (m _), one_N _ (m _), one_N _ (m _), one_N _ (m _), one_N _ (m _)]
  show ((((nI 0 ||| _) ||| _) ||| _) ||| _) ||| _ = _
  rw [nx_or, nx_or, nx_or, nx_or, nx_or]
  unfold orN orB
  rw [show (10 : Nat) ^ 0 = 1 from rfl, Nat.div_one]
theorem orN_31 {N : Nat} (hN : N ≤ 43210) (h : orN N = 31) : (∀ i, i < 5 → dgN N i < 5) ∧ 1234 ≤ N := by
  have h1 := List.all_eq_true.mp orK_all (N / 209) (List.mem_range.mpr (by omega))
  have h2 := List.all_eq_true.mp h1 (N % 209) (List.mem_range.mpr (by omega))
  rw [show 209 * (N / 209) + N % 209 = N by omega] at h2
  unfold orK at h2
  rw [h] at h2
  simp only [Bool.or_eq_true, Bool.and_eq_true] at h2
  rcases h2 with z | ⟨⟨⟨⟨⟨z0, z1⟩, z2⟩, z3⟩, z4⟩, z5⟩
  · exact absurd z (by decide)
  · refine ⟨fun i hi => ?_, Nat.le_of_ble_eq_true z5⟩
    rcases (show i = 0 ∨ i = 1 ∨ i = 2 ∨ i = 3 ∨ i = 4 by omega) with rfl | rfl | rfl | rfl | rfl
    · exact Nat.le_of_ble_eq_true z4
    · exact Nat.le_of_ble_eq_true z3
    · exact Nat.le_of_ble_eq_true z2
    · exact Nat.le_of_ble_eq_true z1
    · exact by
        show N / 10 ^ (4 - 4) % 10 < 5
        rw [show (10 : Nat) ^ (4 - 4) = 1 from rfl, Nat.div_one]
        exact Nat.le_of_ble_eq_true z0
abbrev orP (o : Int32) : Prop := (0 ≤ o ∧ o ≤ 43210) ∧ odC o 5 = 31
theorem orP_D {o : Int32} (h : orP o) : (∀ i, i < 5 → dgN (ix o) i < 5 ∧ dgC o (4 - i) = nI (dgN (ix o) i)) ∧ 1234 ≤ ix o ∧ ix o ≤ 43210 := by
  have h1 := ix_i h.1.1
  have h2 := ix_le 43210 (by decide) h.1.1 h.1.2
  have h3 := h.2
  rw [h1, odC_N h2] at h3
  have h31 : orN (ix o) < 2 ^ 31 := by
    have m : ∀ x : Nat, x % 10 < 10 := fun x => Nat.mod_lt x (by decide)
    have p : ∀ x : Nat, orB (x % 10) < 2 ^ 10 := fun x => Nat.pow_lt_pow_right (by decide) (m x)
    unfold orN
    have := Nat.or_lt_two_pow (Nat.or_lt_two_pow (Nat.or_lt_two_pow (Nat.or_lt_two_pow (Nat.or_lt_two_pow (show 0 < 2 ^ 10 by decide) (p (ix o))) (p (ix o / 10))) (p (ix o / 100))) (p (ix o / 1000))) (p (ix o / 10000))
    omega
  obtain ⟨q1, q2⟩ := orN_31 h2 ((nI_eq (b := 31) h31 (by decide)).mp h3)
  refine ⟨fun i hi => ⟨q1 i hi, ?_⟩, q2, h2⟩
  conv => lhs; rw [h1]
  rw [dgC_N (by omega) (by omega)]
  rfl
set_option maxHeartbeats 600000 in
theorem k_X0_choose {l : Launch} {E : gk_E} (ho : E.2.2.2.2 = true) {S : gk_S} {o : Int32} {g : Int32} {nf : Nat} (h0 : S.1 10 0 = nI nf) (h1 : nf ≤ 5) : gk_T l E yX0_choose cX0_choose 4 ((some .int)) 7 145 0 0 [.ref (E.2.2.1 0), .int o, .int g] S (fun r S' => r = some (.int (if orP o ∧ 0 ≤ g ∧ g ≤ nI nf - 1 then (chS (fun d => S.1 (20 + d)) nf (dgN (ix o)) (S.1 306) 5).2.2 (ix g) else -1)) ∧ S' = if orP o ∧ 0 ≤ g ∧ g ≤ nI nf - 1 then gk_si S 306 (chS (fun d => S.1 (20 + d)) nf (dgN (ix o)) (S.1 306) 5).2.2 else S) := by
  refine gk_T.of [some (.ref (E.2.2.1 0)), some (.int o), some (.int g), none] (by decide) (Nat.le_of_ble_eq_true rfl) (le_1 rfl (le_1 rfl (le_1 rfl (le_p le_n)))) ?_
  intro p_ e_ R_ s_ m_ args_ below_ meth_ c_ hR X hr hin
  subst hR
  refine g_iload_n X dX0_choose_0 rfl ?_
  refine g_callS X (k_X0_isOrder ho) (lw_S q1278 q1279 q135 q1280) hd_X0_isOrder dX0_choose_1 rfl ⟨Nat.le_of_ble_eq_true rfl, Nat.le_of_ble_eq_true rfl⟩ ⟨Nat.le_of_ble_eq_true rfl, Nat.le_of_ble_eq_true rfl⟩ (Nat.le_of_ble_eq_true rfl) ?_
  rintro _ S1 ⟨rfl, hS1⟩
  obtain rfl := hS1.symm
  refine g_ifp_eq (tgt := 15) X dX0_choose_4 rfl (fun c4 => ?_) (fun c4 => ?_)
  · refine g_iconst (v := (-1)) X dX0_choose_15 rfl ?_
    exact g_iret X hr dX0_choose_16 (Nat.le_of_ble_eq_true rfl) (Nat.le_of_ble_eq_true rfl) (lf_f (fun z => c4 z.1) rfl rfl)
  · refine g_aload_n X dX0_choose_7 rfl ?_
    refine g_iload_n X dX0_choose_8 rfl ?_
    refine g_callV (C := RX0) (T := TX0) (N := 13) X (k_X0_isFarmer ho) (lw_V q1161 q1163 qs42 q135 q1164) hd_X0_isFarmer dX0_choose_9 (rd0 ho) rfl rfl ⟨Nat.le_of_ble_eq_true rfl, Nat.le_of_ble_eq_true rfl⟩ ⟨Nat.le_of_ble_eq_true rfl, Nat.le_of_ble_eq_true rfl⟩ (Nat.le_of_ble_eq_true rfl) ?_
    rintro _ S1 ⟨rfl, hS1⟩
    obtain rfl := hS1.symm
    refine g_ifp_ne (tgt := 17) X dX0_choose_12 rfl (fun c12 => ?_) (fun c12 => ?_)
    · have hg : ix g < 5 := Nat.lt_of_lt_of_le (cl_lt (by omega) (by rw [← h0]; exact c12)) h1
      refine g_aload_n X dX0_choose_17 rfl ?_
      refine g_iload_n X dX0_choose_18 rfl ?_
      refine g_callV (C := RX0) (T := TX0) (N := 13) X (k_X0_choosesBy ho h0 h1 (orP_D c4).1) (lw_V q1285 q1287 qs49 q135 q1288) hd_X0_choosesBy dX0_choose_19 (rd0 ho) rfl rfl ⟨Nat.le_of_ble_eq_true rfl, Nat.le_of_ble_eq_true rfl⟩ ⟨Nat.le_of_ble_eq_true rfl, Nat.le_of_ble_eq_true rfl⟩ (Nat.le_of_ble_eq_true rfl) ?_
      rintro _ S1 ⟨rfl, hS1⟩
      obtain rfl := hS1.symm
      refine g_istore_n X dX0_choose_22 (Nat.le_of_ble_eq_true rfl) ?_
      refine g_aload_n X dX0_choose_23 rfl ?_
      refine g_get (C := RX0) (T := TX0) (N := 13) X 11 in_X0 dX0_choose_24 q252 (rd0 ho) rfl (Nat.le_of_ble_eq_true rfl) (fun _ h9 => h9) rfl ?_
      refine g_iload_n X dX0_choose_27 rfl ?_
      refine g_iald (j := ix g) X dX0_choose_28 (rdi ho (306) (rfl)) (ix_i c12.1) hg (by decide) ?_
      exact g_iret X hr dX0_choose_29 (Nat.le_of_ble_eq_true rfl) (Nat.le_of_ble_eq_true rfl) (lf_t ⟨c4, by rw [← h0]; exact c12⟩ (by rw [si_s]) rfl)
    · refine g_iconst (v := (-1)) X dX0_choose_15 rfl ?_
      exact g_iret X hr dX0_choose_16 (Nat.le_of_ble_eq_true rfl) (Nat.le_of_ble_eq_true rfl) (lf_f (fun z => c12 (by rw [h0]; exact z.2)) rfl rfl)
