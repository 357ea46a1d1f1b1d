/-- the first choice of fields, farmer after farmer -/
def slO (m : Nat → Nat) : Nat → Nat → Nat → Option (Nat → Nat)
  | 0, _, _ => some (fun _ => 0)
  | d + 1, i, l => if m i = 0 then (slO m d (i + 1) l).map (fun c j => if j = i then 0 else c j) else itr (fun k r => if r.isSome = true then r else if (m i &&& l).testBit k = true then (slO m d (i + 1) (l &&& (31 ^^^ 2 ^ k))).map (fun c j => if j = i then k else c j) else none) 5 none
def slK (m : Nat → Nat) (d i l k : Nat) : Option (Nat → Nat) := itr (fun k r => if r.isSome = true then r else if (m i &&& l).testBit k = true then (slO m d (i + 1) (l &&& (31 ^^^ 2 ^ k))).map (fun c j => if j = i then k else c j) else none) k none
theorem slO_z {m : Nat → Nat} {d i l : Nat} (h : m i = 0) : slO m (d + 1) i l = (slO m d (i + 1) l).map (fun c j => if j = i then 0 else c j) := if_pos h
theorem slO_k {m : Nat → Nat} {d i l : Nat} (h : ¬ m i = 0) : slO m (d + 1) i l = slK m d i l 5 := if_neg h
theorem slK_n {m : Nat → Nat} {d i l k : Nat} (h : slK m d i l k = none) (h2 : ¬ (m i &&& l).testBit k = true) : slK m d i l (k + 1) = none := by
  show (if (slK m d i l k).isSome = true then _ else _) = _
  rw [h, if_neg (by decide), if_neg h2]
theorem slK_t {m : Nat → Nat} {d i l k : Nat} (h : slK m d i l k = none) (h2 : (m i &&& l).testBit k = true) : slK m d i l (k + 1) = (slO m d (i + 1) (l &&& (31 ^^^ 2 ^ k))).map (fun c j => if j = i then k else c j) := by
  show (if (slK m d i l k).isSome = true then _ else _) = _
  rw [h, if_neg (by decide), if_pos h2]
theorem slK_st {m : Nat → Nat} {d i l k : Nat} {c : Nat → Nat} (h : slK m d i l k = some c) : ∀ {k' : Nat}, k ≤ k' → slK m d i l k' = some c
  | 0, z => by rw [← h, show k = 0 by omega]
  | k' + 1, z => by
    by_cases q : k = k' + 1
    · rw [← h, q]
    · have e := slK_st h (k' := k') (by omega)
      show (if (slK m d i l k').isSome = true then slK m d i l k' else _) = _
      rw [e]
      rfl
theorem hs_tb : ∀ s, s < 32 → ∀ k, k < 5 → (hs (nI s) (nI k) ↔ s.testBit k = true) := by decide +kernel
theorem rm_b : ∀ s, s < 32 → ∀ k, k < 5 → nI s &&& (one (nI k) ^^^ -1) = nI (s &&& (31 ^^^ 2 ^ k)) := by decide +kernel
/-- the masks of what the farmers would have -/
def slM (S : gk_S) (m : Nat → Nat) (nf : Nat) : Prop := ∀ j, j < nf → m j < 32 ∧ whV (S.1 (20 + j)) (S.1 307) = nI (m j)
theorem slM_si {S : gk_S} {m : Nat → Nat} {nf : Nat} {g : Nat → Int32} (h5 : nf ≤ 5) (h : slM S m nf) : slM (gk_si S 306 g) m nf := fun j hj => ⟨(h j hj).1, by
  show whV ((gk_si S 306 g).1 (20 + j)) (S.1 307) = _
  rw [si_n (by omega)]
  exact (h j hj).2⟩
def slP (m : Nat → Nat) (nf d i lf : Nat) (S : gk_S) (r : Option Value) (S' : gk_S) : Prop := r = some (.int (bP ((slO m d i lf).isSome = true))) ∧ ∃ g, S' = gk_si S 306 g ∧ (∀ j, j < i → g j = S.1 306 j) ∧ ∀ c, slO m d i lf = some c → ∀ j, i ≤ j → j < nf → g j = if m j = 0 then -1 else nI (c j)
theorem slP_0 {m : Nat → Nat} {nf i lf : Nat} {S : gk_S} (h : nf ≤ i) : slP m nf 0 i lf S (some (.int 1)) S := ⟨rfl, S.1 306, si_id.symm, fun _ _ => rfl, fun _ _ j h1 h2 => by omega⟩
theorem slP_z {m : Nat → Nat} {nf d i lf : Nat} {S : gk_S} {g1 : Nat → Int32} (hmz : m i = 0) (ha : ∀ j, j < i + 1 → g1 j = upd (S.1 306) i (-1) j) (hb : ∀ c, slO m d (i + 1) lf = some c → ∀ j, i + 1 ≤ j → j < nf → g1 j = if m j = 0 then -1 else nI (c j)) : slP m nf (d + 1) i lf S (some (.int (bP ((slO m d (i + 1) lf).isSome = true)))) (gk_si S 306 g1) := by
  refine ⟨by rw [slO_z hmz, Option.isSome_map], g1, rfl, fun j hj => (ha j (by omega)).trans (upd_n (by omega)), fun c hc j hj hj2 => ?_⟩
  rw [slO_z hmz] at hc
  obtain ⟨c2, hc2, rfl⟩ := Option.map_eq_some_iff.mp hc
  by_cases hji : j = i
  · subst hji
    rw [if_pos hmz, ha j (by omega)]
    exact upd_s
  · rw [hb c2 hc2 j (by omega) hj2]
    show _ = if m j = 0 then -1 else nI (if j = i then 0 else c2 j)
    rw [if_neg hji]
theorem slP_n {m : Nat → Nat} {nf d i lf : Nat} {S : gk_S} {g : Nat → Int32} (hmz : ¬ m i = 0) (h : slK m d i lf 5 = none) (ha : ∀ j, j < i → g j = S.1 306 j) : slP m nf (d + 1) i lf S (some (.int 0)) (gk_si S 306 g) := by
  have e := (slO_k hmz).trans h
  refine ⟨by rw [e]; rfl, g, rfl, ha, fun c hc => ?_⟩
  rw [e] at hc
  cases hc
theorem slP_k {m : Nat → Nat} {nf d i lf k : Nat} {S : gk_S} {g1 : Nat → Int32} (hk : k < 5) (hmz : ¬ m i = 0) (hn : slK m d i lf k = none) (hbit : (m i &&& lf).testBit k = true) (hs : (slO m d (i + 1) (lf &&& (31 ^^^ 2 ^ k))).isSome = true) (ha : ∀ j, j < i → g1 j = S.1 306 j) (hb : ∀ c, slO m d (i + 1) (lf &&& (31 ^^^ 2 ^ k)) = some c → ∀ j, i + 1 ≤ j → j < nf → g1 j = if m j = 0 then -1 else nI (c j)) : slP m nf (d + 1) i lf S (some (.int 1)) (gk_si S 306 (upd g1 i (nI k))) := by
  obtain ⟨c2, hc2⟩ := Option.isSome_iff_exists.mp hs
  have e : slK m d i lf (k + 1) = some (fun j => if j = i then k else c2 j) := by rw [slK_t hn hbit, hc2]; rfl
  have e5 := (slO_k hmz).trans (slK_st e (k' := 5) (by omega))
  refine ⟨by rw [e5]; rfl, _, rfl, fun j hj => (upd_n (by omega)).trans (ha j hj), fun c hc j hj hj2 => ?_⟩
  rw [e5] at hc
  cases hc
  by_cases hji : j = i
  · subst hji
    rw [upd_s, if_neg hmz]
    show _ = nI (if j = j then k else c2 j)
    rw [if_pos rfl]
  · rw [upd_n hji, hb c2 hc2 j (by omega) hj2]
    show _ = if m j = 0 then -1 else nI (if j = i then k else c2 j)
    rw [if_neg hji]
set_option maxHeartbeats 600000 in
theorem k_X0_sells {l : Launch} {E : gk_E} (ho : E.2.2.2.2 = true) {m : Nat → Nat} {nf : Nat} (h1 : nf ≤ 5) : ∀ (d : Nat) {S : gk_S} {x y : Int32} {i lf : Nat} (_ : x = nI i) (_ : y = nI lf) (_ : i + d = nf ∧ lf < 32) (_ : S.1 10 0 = nI nf) (_ : slM S m nf), gk_T l E yX0_sells cX0_sells 5 (some .boolean) (d + 1) (25 * d + 25) 0 0 [.ref (E.2.2.1 0), .int x, .int y] S (slP m nf d i lf S) := by
  intro d
  induction d with
  | zero =>
    intro S x y i lf hx hy ⟨hd, hlf⟩ h0 hm
    subst hx hy
    refine gk_T.of [some (.ref (E.2.2.1 0)), some (.int (nI i)), some (.int (nI lf)), none, none] (by decide) (Nat.le_of_ble_eq_true rfl) (le_1 rfl (le_1 rfl (le_1 rfl (le_p (le_p le_n))))) ?_
    intro p_ e_ R_ s_ m_ args_ below_ meth_ c_ hR X hr hin
    subst hR
    refine g_iload_n X dX0_sells_0 rfl ?_
    refine g_aload_n X dX0_sells_1 rfl ?_
    refine g_callV (C := RX0) (T := TX0) (N := 13) X (k_X0_farmers ho) (lw_V q287 q289 qs0 q135 q290) hd_X0_farmers dX0_sells_2 (rd0 ho) rfl rfl ⟨by show 0 + 1 ≤ 0 + 1; omega, by show 8 + (1 + 11) + 0 ≤ 25 * 0 + 25; omega⟩ ⟨Nat.le_of_ble_eq_true rfl, Nat.le_of_ble_eq_true rfl⟩ (Nat.le_of_ble_eq_true rfl) ?_
    rintro _ S1 ⟨rfl, hS1⟩
    obtain rfl := hS1.symm
    refine g_icmp_ne (tgt := 10) X dX0_sells_5 rfl (fun c5 => ?_) (fun c5 => ?_)
    · exact absurd (show nI i = S.1 10 0 by rw [h0, show i = nf by omega]) c5
    · refine g_iconst (v := 1) X dX0_sells_8 rfl ?_
      refine g_zret X hr dX0_sells_9 ?_ (Nat.le_of_ble_eq_true rfl) (Nat.le_of_ble_eq_true rfl) ?_
      · first | rfl | exact nb_bP
      · exact slP_0 (by omega)
  | succ d IH =>
    intro S x y i lf hx hy ⟨hd, hlf⟩ h0 hm
    subst hx hy
    refine gk_T.of [some (.ref (E.2.2.1 0)), some (.int (nI i)), some (.int (nI lf)), none, none] (by decide) (Nat.le_of_ble_eq_true rfl) (le_1 rfl (le_1 rfl (le_1 rfl (le_p (le_p le_n))))) ?_
    intro p_ e_ R_ s_ m_ args_ below_ meth_ c_ hR X hr hin
    subst hR
    refine g_iload_n X dX0_sells_0 rfl ?_
    refine g_aload_n X dX0_sells_1 rfl ?_
    refine g_callV (C := RX0) (T := TX0) (N := 13) X (k_X0_farmers ho) (lw_V q287 q289 qs0 q135 q290) hd_X0_farmers dX0_sells_2 (rd0 ho) rfl rfl ⟨by show 0 + 1 ≤ d + 1 + 1; omega, by show 8 + (1 + 11) + 0 ≤ 25 * (d + 1) + 25; omega⟩ ⟨Nat.le_of_ble_eq_true rfl, Nat.le_of_ble_eq_true rfl⟩ (Nat.le_of_ble_eq_true rfl) ?_
    rintro _ S1 ⟨rfl, hS1⟩
    obtain rfl := hS1.symm
    refine g_icmp_ne (tgt := 10) X dX0_sells_5 rfl (fun c5 => ?_) (fun c5 => ?_)
    · have hi5 : i < 5 := by omega
      obtain ⟨hm1, hm2⟩ := hm i (by omega)
      refine g_aload_n X dX0_sells_10 rfl ?_
      refine g_get (C := RX0) (T := TX0) (N := 13) X 11 in_X0 dX0_sells_11 q252 (rd0 ho) rfl (Nat.le_of_ble_eq_true rfl) (fun _ h9 => h9) rfl ?_
      refine g_iload_n X dX0_sells_14 rfl ?_
      refine g_iconst (v := (-1)) X dX0_sells_15 rfl ?_
      refine g_iast X ho (306) (j := i) dX0_sells_16 rfl (rfl) rfl hi5 (by decide) ?_
      refine g_eq (S2 := gk_si S 306 (upd (S.1 306) i (-1))) rfl ?_
      refine g_aload_n X dX0_sells_17 rfl ?_
      refine g_iload_n X dX0_sells_18 rfl ?_
      refine g_callV (C := RX0) (T := TX0) (N := 13) X (k_X0_wouldHave ho (S := gk_si S 306 _) rfl hi5) (lw_V q1332 q1334 qs56 q135 q1335) hd_X0_wouldHave dX0_sells_19 (rd0 ho) rfl rfl ⟨by show 0 + 1 ≤ d + 1 + 1; omega, by show 8 + (6 + 11) + 0 ≤ 25 * (d + 1) + 25; omega⟩ ⟨Nat.le_of_ble_eq_true rfl, Nat.le_of_ble_eq_true rfl⟩ (Nat.le_of_ble_eq_true rfl) ?_
      rintro _ S1 ⟨rfl, hS1⟩
      obtain rfl := hS1.symm
      refine g_top (y := nI (m i)) ((slM_si (by omega) hm) i (by omega)).2 ?_
      refine g_istore_n X dX0_sells_22 (Nat.le_of_ble_eq_true rfl) ?_
      refine g_iload_n X dX0_sells_23 rfl ?_
      refine g_if_ne (tgt := 36) X dX0_sells_24 rfl (fun c24 => ?_) (fun c24 => ?_)
      · have hmz : ¬ m i = 0 := fun z => c24 (by rw [z]; rfl)
        refine g_iconst (v := 0) X dX0_sells_36 rfl ?_
        refine g_istore X dX0_sells_37 (Nat.le_of_ble_eq_true rfl) ?_
        refine g_loop (σ := Nat × (Nat → Int32)) (fun (q : Nat × (Nat → Int32)) => match q with | (k, g) => gk_si S 306 g) (fun (q : Nat × (Nat → Int32)) => match q with | (k, g) => ([some (.ref (E.2.2.1 0)), some (.int (nI i)), some (.int (nI lf)), some (.int (nI (m i))), some (.int (nI k))] : List (Option Value))) (fun (q : Nat × (Nat → Int32)) => match q with | (k, g) => k ≤ 5 ∧ slK m d i lf k = none ∧ ∀ j, j < i → g j = S.1 306 j) (fun (q : Nat × (Nat → Int32)) => match q with | (k, g) => 5 - k) ((0, _)) ?_ (rfl) (le_1 rfl (le_1 rfl (le_1 rfl (le_1 rfl (le_1 rfl le_n))))) ?_
        · exact ⟨by omega, rfl, fun j hj => upd_n (by omega)⟩
        rintro ⟨k, g⟩ hI ih
        try dsimp only at hI ih ⊢
        refine g_iload X dX0_sells_39 rfl ?_
        refine g_iconst (v := 5) X dX0_sells_41 rfl ?_
        refine g_icmp_ge (tgt := 93) X dX0_sells_42 rfl (fun c42 => ?_) (fun c42 => ?_)
        · have hk := out_of (by omega) hI.1 c42
          subst hk
          refine g_iconst (v := 0) X dX0_sells_93 rfl ?_
          refine g_zret X hr dX0_sells_94 ?_ (Nat.le_of_ble_eq_true rfl) (Nat.le_of_ble_eq_true rfl) ?_
          · first | rfl | exact nb_bP
          · exact slP_n hmz hI.2.1 hI.2.2
        · have hk : k < 5 := in_of (by omega) hI.1 c42
          have hand : m i &&& lf < 32 := Nat.lt_of_le_of_lt Nat.and_le_left hm1
          have hs5 := hs_tb (m i &&& lf) hand k hk
          refine g_iload_n X dX0_sells_45 rfl ?_
          refine g_iload_n X dX0_sells_46 rfl ?_
          refine g_iand X dX0_sells_47 ?_
          rw [nx_and]
          refine g_iload X dX0_sells_48 rfl ?_
          refine g_callS X (k_X0_has ho) (lw_S q1028 q1029 q135 q1030) hd_X0_has dX0_sells_50 rfl ⟨by show 0 + 1 ≤ d + 1 + 1; omega, by show 8 + (2 + 11) + 0 ≤ 25 * (d + 1) + 25; omega⟩ ⟨Nat.le_of_ble_eq_true rfl, Nat.le_of_ble_eq_true rfl⟩ (Nat.le_of_ble_eq_true rfl) ?_
          rintro _ S1 ⟨rfl, hS1⟩
          obtain rfl := hS1.symm
          refine g_ifp_eq (tgt := 87) X dX0_sells_53 rfl (fun c53 => ?_) (fun c53 => ?_)
          · refine g_iinc (v := 1) X dX0_sells_87 rfl rfl (Nat.le_of_ble_eq_true rfl) ?_
            refine g_goto (tgt := 39) X dX0_sells_90 rfl ?_
            refine g_sub (le_1 rfl (le_1 rfl (le_1 rfl (le_1 rfl (le_1 e_1 le_n))))) (ih ((k + 1, g)) ?_ ?_)
            · try dsimp only
              exact ⟨by omega, slK_n hI.2.1 (fun z => c53 (hs5.mpr z)), hI.2.2⟩
            · try dsimp only
              omega
          · have hbit := hs5.mp c53
            have hrm : lf &&& (31 ^^^ 2 ^ k) < 32 := Nat.lt_of_le_of_lt Nat.and_le_left hlf
            refine g_aload_n X dX0_sells_56 rfl ?_
            refine g_iload_n X dX0_sells_57 rfl ?_
            refine g_iconst (v := 1) X dX0_sells_58 rfl ?_
            refine g_iadd X dX0_sells_59 ?_
            refine g_iload_n X dX0_sells_60 rfl ?_
            refine g_iconst (v := 1) X dX0_sells_61 rfl ?_
            refine g_iload X dX0_sells_62 rfl ?_
            refine g_ishl X dX0_sells_64 ?_
            refine g_iconst (v := (-1)) X dX0_sells_65 rfl ?_
            refine g_ixor X dX0_sells_66 ?_
            refine g_iand X dX0_sells_67 ?_
            rw [rm_b lf hlf k hk]
            refine g_callV (C := RX0) (T := TX0) (N := 13) X (IH (S := gk_si S 306 _) (i := i + 1) (lf := lf &&& (31 ^^^ 2 ^ k)) (nI_1 i) rfl ⟨by omega, hrm⟩ h0 (slM_si h1 hm)) (lw_V q1340 q1342 qs57 q135 q1343) hd_X0_sells dX0_sells_68 (rd0 ho) rfl rfl ⟨Nat.le_refl _, by show 8 + (5 + 11) + (25 * d + 25) ≤ 25 * (d + 1) + 25; omega⟩ ⟨Nat.le_of_ble_eq_true rfl, Nat.le_of_ble_eq_true rfl⟩ (Nat.le_of_ble_eq_true rfl) ?_
            rintro _ S1 ⟨rfl, g1, hS1, ha1, hb1⟩
            obtain rfl := hS1.symm
            rw [si_si]
            refine g_ifp_ne (tgt := 77) X dX0_sells_71 rfl (fun c71 => ?_) (fun c71 => ?_)
            · refine g_aload_n X dX0_sells_77 rfl ?_
              refine g_get (C := RX0) (T := TX0) (N := 13) X 11 in_X0 dX0_sells_78 q252 (rd0 ho) rfl (Nat.le_of_ble_eq_true rfl) (fun _ h9 => h9) rfl ?_
              refine g_iload_n X dX0_sells_81 rfl ?_
              refine g_iload X dX0_sells_82 rfl ?_
              refine g_iast X ho (306) (j := i) dX0_sells_84 rfl (rfl) rfl hi5 (by decide) ?_
              rw [si_s, si_si]
              refine g_iconst (v := 1) X dX0_sells_85 rfl ?_
              refine g_zret X hr dX0_sells_86 ?_ (Nat.le_of_ble_eq_true rfl) (Nat.le_of_ble_eq_true rfl) ?_
              · first | rfl | exact nb_bP
              · exact slP_k hk hmz hI.2.1 hbit c71 (fun j hj => (ha1 j (by omega)).trans (hI.2.2 j hj)) hb1
            · refine g_goto (tgt := 87) X dX0_sells_74 rfl ?_
              refine g_iinc (v := 1) X dX0_sells_87 rfl rfl (Nat.le_of_ble_eq_true rfl) ?_
              refine g_goto (tgt := 39) X dX0_sells_90 rfl ?_
              refine g_sub (le_1 rfl (le_1 rfl (le_1 rfl (le_1 rfl (le_1 e_1 le_n))))) (ih ((k + 1, g1)) ?_ ?_)
              · try dsimp only
                exact ⟨by omega, by rw [slK_t hI.2.1 hbit, Option.not_isSome_iff_eq_none.mp c71]; rfl, fun j hj => (ha1 j (by omega)).trans (hI.2.2 j hj)⟩
              · try dsimp only
                omega
      · have hmz : m i = 0 := (nI_eq (by omega) (by decide)).mp c24
        refine g_aload_n X dX0_sells_27 rfl ?_
        refine g_iload_n X dX0_sells_28 rfl ?_
        refine g_iconst (v := 1) X dX0_sells_29 rfl ?_
        refine g_iadd X dX0_sells_30 ?_
        refine g_iload_n X dX0_sells_31 rfl ?_
        refine g_callV (C := RX0) (T := TX0) (N := 13) X (IH (S := gk_si S 306 _) (i := i + 1) (lf := lf) (nI_1 i) rfl ⟨by omega, hlf⟩ h0 (slM_si h1 hm)) (lw_V q1340 q1342 qs57 q135 q1343) hd_X0_sells dX0_sells_32 (rd0 ho) rfl rfl ⟨Nat.le_refl _, by show 8 + (5 + 11) + (25 * d + 25) ≤ 25 * (d + 1) + 25; omega⟩ ⟨Nat.le_of_ble_eq_true rfl, Nat.le_of_ble_eq_true rfl⟩ (Nat.le_of_ble_eq_true rfl) ?_
        rintro _ S1 ⟨rfl, g1, hS1, ha1, hb1⟩
        obtain rfl := hS1.symm
        refine g_zret X hr dX0_sells_35 ?_ (Nat.le_of_ble_eq_true rfl) (Nat.le_of_ble_eq_true rfl) ?_
        · exact nb_bP
        · rw [si_si]; exact slP_z hmz ha1 hb1
    · refine g_iconst (v := 1) X dX0_sells_8 rfl ?_
      refine g_zret X hr dX0_sells_9 ?_ (Nat.le_of_ble_eq_true rfl) (Nat.le_of_ble_eq_true rfl) ?_
      · first | rfl | exact nb_bP
      · exact absurd ((nI_eq (by omega) (by omega)).mp (c5.trans h0)) (by omega)
