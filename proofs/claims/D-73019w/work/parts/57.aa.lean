/-- the masks of the farmers there are -/
def mF (w : Nat → Nat → Int32) (p : Nat → Int32) (nf j : Nat) : Nat := if j < nf then mW w p j else 0
theorem mF_lt {w : Nat → Nat → Int32} {p : Nat → Int32} {nf j : Nat} : mF w p nf j < 32 := by
  unfold mF
  split
  · exact mW_e.1
  · decide
theorem tq_all : (List.range 32).all (fun m => (List.range 32).all (fun t => decide (nI m = 0) || (decide (nI m &&& (nI t ^^^ -1) = 0) == decide (m &&& t = m)))) = true := by decide +kernel
theorem tq_i {m t : Nat} (hm : m < 32) (ht : t < 32) (h1 : nI m ≠ 0) : nI m &&& (nI t ^^^ -1) = 0 ↔ m &&& t = m := by
  have h := List.all_eq_true.mp (List.all_eq_true.mp tq_all m (List.mem_range.mpr hm)) t (List.mem_range.mpr ht)
  rw [decide_eq_false h1, Bool.false_or, beq_iff_eq] at h
  exact decide_eq_decide.mp h
theorem tmA_sm {wd : Nat → Int32} {m : Nat → Nat} {t : Nat} (ht : t < 32) : ∀ {n : Nat}, (∀ j, j < n → m j < 32 ∧ wd j = nI (m j)) → tmA wd (nI t) n = nI (sm (fun j => if m j ≠ 0 ∧ sb (m j) t then 1 else 0) n)
  | 0, _ => rfl
  | n + 1, h => by
    obtain ⟨h2, h3⟩ := h n (by omega)
    have ih := tmA_sm ht (n := n) (fun j hj => h j (by omega))
    rw [sm_s]
    by_cases c : m n ≠ 0 ∧ sb (m n) t
    · have c1 : nI (m n) ≠ 0 := fun z => c.1 ((nI_eq (b := 0) (by omega) (by decide)).mp z)
      rw [← tmA_t (show tmQ wd (nI t) n by unfold tmQ; rw [h3]; exact ⟨c1, (tq_i h2 ht c1).mpr c.2⟩), ih, nI_1]
      show _ = nI (_ + if m n ≠ 0 ∧ sb (m n) t then 1 else 0)
      rw [if_pos c]
    · rw [← tmA_f (show ¬ tmQ wd (nI t) n by
        unfold tmQ
        rw [h3]
        exact fun z => c ⟨fun y => z.1 (by rw [y]; rfl), (tq_i h2 ht z.1).mp z.2⟩), ih]
      show nI _ + 0 = nI (_ + if m n ≠ 0 ∧ sb (m n) t then 1 else 0)
      rw [if_neg c, Int32.add_zero]
      rfl
theorem cnt_sm {m : Nat → Nat} {l t : Nat} : cnt m l t 5 0 = sm (fun j => if m j ≠ 0 ∧ sb (m j &&& l) t then 1 else 0) 5 := by
  have z : ∀ a b c d e : Nat, a + (b + (c + (d + (e + 0)))) = ((((0 + a) + b) + c) + d) + e := fun a b c d e => by omega
  exact z _ _ _ _ _
theorem sm_0 {f : Nat → Nat} {n : Nat} (h : ∀ j, n ≤ j → f j = 0) : ∀ e, sm f (n + e) = sm f n
  | 0 => rfl
  | e + 1 => by
    show sm f (n + e) + f (n + e) = _
    rw [sm_0 h e, h _ (by omega)]
    rfl
/-- at the last prices nobody is left out -/
theorem hallW {w : Nat → Nat → Int32} {p : Nat → Int32} {nf : Nat} (h5 : nf ≤ 5) (h : tA w nf p = -1) : ∃ N, N < 3125 ∧ vd (mF w p nf) (d5 N) 5 0 31 := by
  have key : ∀ t, t < 32 → cnt (mF w p nf) 31 t 5 0 ≤ bcN t := by
    intro t ht
    rw [cnt_sm]
    have e31 : ∀ j, mF w p nf j &&& 31 = mF w p nf j := fun j => by
      have := mF_lt (w := w) (p := p) (nf := nf) (j := j)
      rw [show (31 : Nat) = 2 ^ 5 - 1 from rfl, Nat.and_two_pow_sub_one_eq_mod, Nat.mod_eq_of_lt this]
    simp only [e31]
    by_cases t0 : t = 0
    · subst t0
      refine Nat.le_trans (sm_b (B := 0) (fun i _ => ?_)) (by decide)
      show (if mF w p nf i ≠ 0 ∧ sb (mF w p nf i) 0 then 1 else 0) ≤ 0
      rw [if_neg (fun z => z.1 (by have := z.2; unfold sb at this; rw [Nat.and_zero] at this; exact this.symm))]
      exact Nat.le_refl 0
    · have hn : ¬ tmP (fun i => whV (w i) p) nf (nI t) := by
        rcases lsC_in (P := fun s => tmP (fun i => whV (w i) p) nf s) 31 (by omega) with ⟨_, z⟩ | ⟨v, _, _, e, _⟩
        · exact z t (by omega) (by omega)
        · exfalso
          have e2 : tA w nf p = nI v := e
          rw [h] at e2
          exact nI_ne_m1 (by omega) e2.symm
      have e5 : sm (fun j => if mF w p nf j ≠ 0 ∧ sb (mF w p nf j) t then 1 else 0) 5 = sm (fun j => if mF w p nf j ≠ 0 ∧ sb (mF w p nf j) t then 1 else 0) nf := by
        have := sm_0 (f := fun j => if mF w p nf j ≠ 0 ∧ sb (mF w p nf j) t then 1 else 0) (n := nf) (fun j hj => by
          show (if mF w p nf j ≠ 0 ∧ sb (mF w p nf j) t then 1 else 0) = 0
          rw [if_neg (fun z => z.1 (by unfold mF; rw [if_neg (by omega)]))]) (5 - nf)
        rw [show nf + (5 - nf) = 5 by omega] at this
        exact this
      rw [e5]
      unfold tmP at hn
      rw [tmA_sm (m := mF w p nf) ht (fun j hj => ⟨mF_lt, by unfold mF; rw [if_pos hj]; exact mW_e.2⟩), bcI_N (by omega)] at hn
      have b1 : sm (fun j => if mF w p nf j ≠ 0 ∧ sb (mF w p nf j) t then 1 else 0) nf ≤ nf * 1 := sm_b (fun i _ => by
        show (if mF w p nf i ≠ 0 ∧ sb (mF w p nf i) t then 1 else 0) ≤ 1
        split <;> omega)
      have b2 := bcN_le (w := t)
      have hn2 := Int32.not_lt.mp hn
      exact (nI_leI (by omega) (by omega)).mp hn2
  obtain ⟨c, c1, c2⟩ := hall (by decide) key
  have lt := cdN_lt c1 (d := 5) (i := 0)
  exact ⟨cdN c 5 0, lt, (vd_c (fun j _ hj => d5_c c1 j (by omega))).mpr c2⟩
/-- the least number that is good -/
def lsN (m : Nat → Nat) (N : Nat) : Prop := N < 3125 ∧ vd m (d5 N) 5 0 31 ∧ ∀ n, n < N → ¬ vd m (d5 n) 5 0 31
theorem tk_b : ∀ l, l < 32 → ∀ k, k < 5 → (hs (nI (31 ^^^ l)) (nI k) ↔ l.testBit k = false) := by decide +kernel
theorem tk_o : ∀ l, l < 32 → ∀ k, k < 5 → nI (31 ^^^ l) ||| one (nI k) = nI (31 ^^^ (l &&& (31 ^^^ 2 ^ k))) := by decide +kernel
theorem vd_0 {m c : Nat → Nat} {i l : Nat} : vd m c 0 i l := rfl
set_option maxHeartbeats 600000 in
theorem k_X2_areSold {l : Launch} {E : gk_E} (ho : E.2.2.2.2 = true) {S : gk_S} {x : Int32} {nf N : Nat} {m : Nat → Nat} (h0 : S.1 400 0 = nI nf) (h1 : nf ≤ 5) (hx : x = nI N) (hN : N < 100000) (hm : ∀ j, j < nf → m j < 32 ∧ S.1 415 j = nI (m j)) (hm0 : ∀ j, nf ≤ j → m j = 0) : gk_T l E yX2_areSold cX2_areSold 5 ((some .boolean)) 2 44 0 0 [.ref (E.2.2.1 3), .int x] S (fun r S' => r = some (.int (bP (vd m (d5 N) 5 0 31))) ∧ S' = S) := by
  refine gk_T.of [some (.ref (E.2.2.1 3)), some (.int x), none, none, none] (by decide) (Nat.le_of_ble_eq_true rfl) (le_1 rfl (le_1 rfl (le_p (le_p (le_p le_n))))) ?_
  intro p_ e_ R_ s_ m_ args_ below_ meth_ c_ hR X hr hin
  subst hR
  refine g_iconst (v := 0) X dX2_areSold_0 rfl ?_
  refine g_istore_n X dX2_areSold_1 (Nat.le_of_ble_eq_true rfl) ?_
  refine g_iconst (v := 0) X dX2_areSold_2 rfl ?_
  refine g_istore_n X dX2_areSold_3 (Nat.le_of_ble_eq_true rfl) ?_
  refine g_loop (σ := Nat × Nat) (fun (q : Nat × Nat) => match q with | (i, l) => S) (fun (q : Nat × Nat) => match q with | (i, l) => ([some (.ref (E.2.2.1 3)), some (.int x), some (.int (nI (31 ^^^ l))), some (.int (nI i)), none] : List (Option Value))) (fun (q : Nat × Nat) => match q with | (i, l) => i ≤ 5 ∧ l < 32 ∧ (vd m (d5 N) 5 0 31 ↔ vd m (d5 N) (5 - i) i l)) (fun (q : Nat × Nat) => match q with | (i, l) => 5 - i) ((0, 31)) ?_ (rfl) (le_1 rfl (le_1 rfl (le_1 rfl (le_1 rfl (le_0 le_n))))) ?_
  · exact ⟨by omega, by decide, Iff.rfl⟩
  rintro ⟨i, l⟩ hI ih
  try dsimp only at hI ih ⊢
  refine g_iload_n X dX2_areSold_4 rfl ?_
  refine g_iconst (v := 5) X dX2_areSold_5 rfl ?_
  refine g_icmp_ge (tgt := 78) X dX2_areSold_6 rfl (fun c6 => ?_) (fun c6 => ?_)
  · refine g_iconst (v := 1) X dX2_areSold_78 rfl ?_
    refine g_zret X hr dX2_areSold_79 ?_ (Nat.le_of_ble_eq_true rfl) (Nat.le_of_ble_eq_true rfl) ?_
    · first | rfl | exact nb_bP
    · exact ⟨lb_1 (by rw [hI.2.2, out_of (by omega) hI.1 c6]; exact vd_0), rfl⟩
  · have hi : i < 5 := in_of (by omega) hI.1 c6
    refine g_iload_n X dX2_areSold_9 rfl ?_
    refine g_iload_n X dX2_areSold_10 rfl ?_
    refine g_callS X (k_X2_fieldBy ho hx hN rfl hi) (lw_S q2070 q2071 q139 q2072) hd_X2_fieldBy dX2_areSold_11 rfl ⟨Nat.le_of_ble_eq_true rfl, Nat.le_of_ble_eq_true rfl⟩ ⟨Nat.le_of_ble_eq_true rfl, Nat.le_of_ble_eq_true rfl⟩ (Nat.le_of_ble_eq_true rfl) ?_
    rintro _ S1 ⟨rfl, hS1⟩
    obtain rfl := hS1.symm
    refine g_istore X dX2_areSold_14 (Nat.le_of_ble_eq_true rfl) ?_
    refine g_aload_n X dX2_areSold_16 rfl ?_
    refine g_iload_n X dX2_areSold_17 rfl ?_
    refine g_callV (C := RX2) (T := TX2) (N := 35) X (k_X2_isFarmer ho) (lw_V q1871 q1873 qs116 q139 q1874) hd_X2_isFarmer dX2_areSold_18 (rd3 ho) rfl rfl ⟨Nat.le_of_ble_eq_true rfl, Nat.le_of_ble_eq_true rfl⟩ ⟨Nat.le_of_ble_eq_true rfl, Nat.le_of_ble_eq_true rfl⟩ (Nat.le_of_ble_eq_true rfl) ?_
    rintro _ S1 ⟨rfl, hS1⟩
    obtain rfl := hS1.symm
    refine g_ifp_eq (tgt := 33) X dX2_areSold_21 rfl (fun c21 => ?_) (fun c21 => ?_)
    · have hmo : ¬ (0 ≤ nI i ∧ nI i ≤ S.1 400 0 - 1) → m i = 0 := fun z => hm0 i (by
        rcases Nat.lt_or_ge i nf with q | q
        · exfalso
          apply z
          rw [h0]
          obtain ⟨y, rfl⟩ : ∃ y, nf = y + 1 := ⟨nf - 1, by omega⟩
          rw [nI_pred]
          exact ⟨nI_le (a := 0) (by omega) (by omega), nI_le (by omega) (by omega)⟩
        · exact q)
      refine g_iload X dX2_areSold_33 rfl ?_
      refine g_if_eq (tgt := 72) X dX2_areSold_35 rfl (fun c35 => ?_) (fun c35 => ?_)
      · refine g_iinc (v := 1) X dX2_areSold_72 rfl rfl (Nat.le_of_ble_eq_true rfl) ?_
        refine g_goto (tgt := 4) X dX2_areSold_75 rfl ?_
        refine g_sub (le_1 rfl (le_1 rfl (le_1 rfl (le_1 e_1 (le_0 le_n))))) (ih ((i + 1, l)) ?_ ?_)
        · try dsimp only
          exact ⟨by omega, hI.2.1, by rw [hI.2.2, show 5 - i = (5 - (i + 1)) + 1 by omega, vd_z (hmo c21)]; exact ⟨fun z => z.2, fun z => ⟨(nI_eq (b := 0) (Nat.lt_trans d5_lt (by decide)) (by decide)).mp c35, z⟩⟩⟩
        · try dsimp only
          omega
      · refine g_iconst (v := 0) X dX2_areSold_38 rfl ?_
        refine g_zret X hr dX2_areSold_39 ?_ (Nat.le_of_ble_eq_true rfl) (Nat.le_of_ble_eq_true rfl) ?_
        · first | rfl | exact nb_bP
        · exact ⟨lb_0 (fun z => c35 (by rw [hI.2.2, show 5 - i = (5 - (i + 1)) + 1 by omega, vd_z (hmo c21)] at z; rw [z.1]; rfl)), rfl⟩
    · have hif : i < nf := by
        rw [h0] at c21
        have := cl_lt (by omega) c21
        rwa [ix_n (by omega)] at this
      obtain ⟨hm1, hm2⟩ := hm i hif
      refine g_aload_n X dX2_areSold_24 rfl ?_
      refine g_get (C := RX2) (T := TX2) (N := 35) X 34 in_X2 dX2_areSold_25 q1439 (rd3 ho) rfl (Nat.le_of_ble_eq_true rfl) (fun _ h9 => h9) rfl ?_
      refine g_iload_n X dX2_areSold_28 rfl ?_
      refine g_iald (j := i) X dX2_areSold_29 (rdi ho (415) (rfl)) rfl hi (by decide) ?_
      refine g_if_ne (tgt := 40) X dX2_areSold_30 rfl (fun c30 => ?_) (fun c30 => ?_)
      · have hmn : ¬ m i = 0 := fun z => c30 (by rw [hm2, z]; rfl)
        have hb1 := hs_tb (m i) hm1 (d5 N i) d5_lt
        have hb2 : ¬ hs (nI (31 ^^^ l)) (nI (d5 N i)) → l.testBit (d5 N i) = true := fun z => by
          rw [tk_b l hI.2.1 _ d5_lt] at z
          exact Bool.not_eq_false _ ▸ z
        refine g_aload_n X dX2_areSold_40 rfl ?_
        refine g_get (C := RX2) (T := TX2) (N := 35) X 34 in_X2 dX2_areSold_41 q1439 (rd3 ho) rfl (Nat.le_of_ble_eq_true rfl) (fun _ h9 => h9) rfl ?_
        refine g_iload_n X dX2_areSold_44 rfl ?_
        refine g_iald (j := i) X dX2_areSold_45 (rdi ho (415) (rfl)) rfl hi (by decide) ?_
        rw [hm2]
        refine g_iload X dX2_areSold_46 rfl ?_
        refine g_callS X (k_X2_has ho) (lw_S q1711 q1712 q139 q1713) hd_X2_has dX2_areSold_48 rfl ⟨Nat.le_of_ble_eq_true rfl, Nat.le_of_ble_eq_true rfl⟩ ⟨Nat.le_of_ble_eq_true rfl, Nat.le_of_ble_eq_true rfl⟩ (Nat.le_of_ble_eq_true rfl) ?_
        rintro _ S1 ⟨rfl, hS1⟩
        obtain rfl := hS1.symm
        refine g_ifp_eq (tgt := 63) X dX2_areSold_51 rfl (fun c51 => ?_) (fun c51 => ?_)
        · refine g_iconst (v := 0) X dX2_areSold_63 rfl ?_
          refine g_zret X hr dX2_areSold_64 ?_ (Nat.le_of_ble_eq_true rfl) (Nat.le_of_ble_eq_true rfl) ?_
          · first | rfl | exact nb_bP
          · exact ⟨lb_0 (fun z => by rw [hI.2.2, show 5 - i = (5 - (i + 1)) + 1 by omega, vd_k hmn, Nat.testBit_and, Bool.and_eq_true] at z; exact c51 (hb1.mpr z.1.1)), rfl⟩
        · refine g_iload_n X dX2_areSold_54 rfl ?_
          refine g_iload X dX2_areSold_55 rfl ?_
          refine g_callS X (k_X2_has ho) (lw_S q1711 q1712 q139 q1713) hd_X2_has dX2_areSold_57 rfl ⟨Nat.le_of_ble_eq_true rfl, Nat.le_of_ble_eq_true rfl⟩ ⟨Nat.le_of_ble_eq_true rfl, Nat.le_of_ble_eq_true rfl⟩ (Nat.le_of_ble_eq_true rfl) ?_
          rintro _ S1 ⟨rfl, hS1⟩
          obtain rfl := hS1.symm
          refine g_ifp_eq (tgt := 65) X dX2_areSold_60 rfl (fun c60 => ?_) (fun c60 => ?_)
          · refine g_iload_n X dX2_areSold_65 rfl ?_
            refine g_iconst (v := 1) X dX2_areSold_66 rfl ?_
            refine g_iload X dX2_areSold_67 rfl ?_
            refine g_ishl X dX2_areSold_69 ?_
            refine g_ior X dX2_areSold_70 ?_
            refine g_istore_n X dX2_areSold_71 (Nat.le_of_ble_eq_true rfl) ?_
            refine g_iinc (v := 1) X dX2_areSold_72 rfl rfl (Nat.le_of_ble_eq_true rfl) ?_
            refine g_goto (tgt := 4) X dX2_areSold_75 rfl ?_
            refine g_sub (le_1 rfl (le_1 rfl (le_1 (ei (tk_o l hI.2.1 _ d5_lt)) (le_1 e_1 (le_0 le_n))))) (ih ((i + 1, l &&& (31 ^^^ 2 ^ d5 N i))) ?_ ?_)
            · try dsimp only
              exact ⟨by omega, Nat.lt_of_le_of_lt Nat.and_le_left hI.2.1, by rw [hI.2.2, show 5 - i = (5 - (i + 1)) + 1 by omega, vd_k hmn]; exact ⟨fun z => z.2, fun z => ⟨by rw [Nat.testBit_and, hb1.mp c51, hb2 c60]; rfl, z⟩⟩⟩
            · try dsimp only
              omega
          · refine g_iconst (v := 0) X dX2_areSold_63 rfl ?_
            refine g_zret X hr dX2_areSold_64 ?_ (Nat.le_of_ble_eq_true rfl) (Nat.le_of_ble_eq_true rfl) ?_
            · first | rfl | exact nb_bP
            · exact ⟨lb_0 (fun z => by rw [hI.2.2, show 5 - i = (5 - (i + 1)) + 1 by omega, vd_k hmn, Nat.testBit_and, Bool.and_eq_true] at z; exact absurd z.1.2 (by rw [(tk_b l hI.2.1 _ d5_lt).mp c60]; decide)), rfl⟩
      · have hmz : m i = 0 := (nI_eq (b := 0) (by omega) (by decide)).mp (by rw [← hm2]; exact c30)
        refine g_iload X dX2_areSold_33 rfl ?_
        refine g_if_eq (tgt := 72) X dX2_areSold_35 rfl (fun c35 => ?_) (fun c35 => ?_)
        · refine g_iinc (v := 1) X dX2_areSold_72 rfl rfl (Nat.le_of_ble_eq_true rfl) ?_
          refine g_goto (tgt := 4) X dX2_areSold_75 rfl ?_
          refine g_sub (le_1 rfl (le_1 rfl (le_1 rfl (le_1 e_1 (le_0 le_n))))) (ih ((i + 1, l)) ?_ ?_)
          · try dsimp only
            exact ⟨by omega, hI.2.1, by rw [hI.2.2, show 5 - i = (5 - (i + 1)) + 1 by omega, vd_z hmz]; exact ⟨fun z => z.2, fun z => ⟨(nI_eq (b := 0) (Nat.lt_trans d5_lt (by decide)) (by decide)).mp c35, z⟩⟩⟩
          · try dsimp only
            omega
        · refine g_iconst (v := 0) X dX2_areSold_38 rfl ?_
          refine g_zret X hr dX2_areSold_39 ?_ (Nat.le_of_ble_eq_true rfl) (Nat.le_of_ble_eq_true rfl) ?_
          · first | rfl | exact nb_bP
          · exact ⟨lb_0 (fun z => c35 (by rw [hI.2.2, show 5 - i = (5 - (i + 1)) + 1 by omega, vd_z hmz] at z; rw [z.1]; rfl)), rfl⟩
theorem mF_in {w : Nat → Nat → Int32} {p : Nat → Int32} {nf j : Nat} (h : j < nf) : mF w p nf j = mW w p j := if_pos h
theorem mF_out {w : Nat → Nat → Int32} {p : Nat → Int32} {nf j : Nat} (h : nf ≤ j) : mF w p nf j = 0 := if_neg (by omega)
theorem wd_m {S : gk_S} {nf : Nat} {p W : Nat → Int32} (h : wdOk S nf p W) : ∀ j, j < nf → mF (wM S) p nf j < 32 ∧ W j = nI (mF (wM S) p nf j) := fun j hj => ⟨mF_lt, by rw [h j hj, mF_in hj]; exact mW_e.2⟩
set_option maxHeartbeats 600000 in
theorem k_X2_sold {l : Launch} {E : gk_E} (ho : E.2.2.2.2 = true) {S : gk_S} {x : Int32} {nf : Nat} (h0 : S.1 400 0 = nI nf) (h1 : nf ≤ 5) (hw : wOk (wM S) nf) : gk_T l E yX2_sold cX2_sold 3 ((some .int)) 4 89 0 0 [.ref (E.2.2.1 3), .int x] S (fun r S' => if 0 ≤ x ∧ x ≤ nI nf - 1 then ∃ j W N, prQ (wM S) nf (p00 (S.1 414)) j ∧ lsN (mF (wM S) (pr (wM S) nf (p00 (S.1 414)) j) nf) N ∧ r = some (.int (if (mF (wM S) (pr (wM S) nf (p00 (S.1 414)) j) nf) (ix x) = 0 then -1 else nI (d5 N (ix x)))) ∧ S' = gk_si (gk_si S 414 (pr (wM S) nf (p00 (S.1 414)) j)) 415 W else r = some (.int (-1)) ∧ S' = S) := by
  refine gk_T.of [some (.ref (E.2.2.1 3)), some (.int x), none] (by decide) (Nat.le_of_ble_eq_true rfl) (le_1 rfl (le_1 rfl (le_p le_n))) ?_
  intro p_ e_ R_ s_ m_ args_ below_ meth_ c_ hR X hr hin
  subst hR
  refine g_aload_n X dX2_sold_0 rfl ?_
  refine g_iload_n X dX2_sold_1 rfl ?_
  refine g_callV (C := RX2) (T := TX2) (N := 35) X (k_X2_isFarmer ho) (lw_V q1871 q1873 qs116 q139 q1874) hd_X2_isFarmer dX2_sold_2 (rd3 ho) rfl rfl ⟨Nat.le_of_ble_eq_true rfl, Nat.le_of_ble_eq_true rfl⟩ ⟨Nat.le_of_ble_eq_true rfl, Nat.le_of_ble_eq_true rfl⟩ (Nat.le_of_ble_eq_true rfl) ?_
  rintro _ S1 ⟨rfl, hS1⟩
  obtain rfl := hS1.symm
  refine g_ifp_ne (tgt := 10) X dX2_sold_5 rfl (fun c5 => ?_) (fun c5 => ?_)
  · rw [h0] at c5
    have hx : ix x < nf := cl_lt (by omega) c5
    refine g_aload_n X dX2_sold_10 rfl ?_
    refine g_callV (C := RX2) (T := TX2) (N := 35) X (k_X2_layPrices ho h0 h1 hw) (lw_V q2046 q2048 qs128 q139 q2049) hd_X2_layPrices dX2_sold_11 (rd3 ho) rfl rfl ⟨Nat.le_of_ble_eq_true rfl, Nat.le_of_ble_eq_true rfl⟩ ⟨Nat.le_of_ble_eq_true rfl, Nat.le_of_ble_eq_true rfl⟩ (Nat.le_of_ble_eq_true rfl) ?_
    rintro _ S1 ⟨rfl, j, W, hj1, hW1, hS1⟩
    obtain rfl := hS1.symm
    obtain ⟨N0, hN0, hN1⟩ := hallW h1 hj1.1
    refine g_iconst (v := 0) X dX2_sold_14 rfl ?_
    refine g_istore_n X dX2_sold_15 (Nat.le_of_ble_eq_true rfl) ?_
    refine g_loop (σ := Nat) (fun (n : Nat) => gk_si (gk_si S 414 (pr (wM S) nf (p00 (S.1 414)) j)) 415 W) (fun (n : Nat) => ([some (.ref (E.2.2.1 3)), some (.int x), some (.int (nI n))] : List (Option Value))) (fun (n : Nat) => n ≤ N0 ∧ ∀ i, i < n → ¬ vd (mF (wM S) (pr (wM S) nf (p00 (S.1 414)) j) nf) (d5 i) 5 0 31) (fun (n : Nat) => N0 - n) (0) ?_ (rfl) (le_1 rfl (le_1 rfl (le_1 rfl le_n))) ?_
    · exact ⟨Nat.zero_le _, fun i hi => by omega⟩
    intro n hI ih
    try dsimp only at hI ih ⊢
    refine g_aload_n X dX2_sold_16 rfl ?_
    refine g_iload_n X dX2_sold_17 rfl ?_
    refine g_callV (C := RX2) (T := TX2) (N := 35) X (k_X2_areSold ho (S := gk_si (gk_si S 414 _) 415 _) h0 h1 rfl (by omega : n < 100000) (wd_m hW1) (fun _ h => mF_out h)) (lw_V q2066 q2068 qs132 q139 q2069) hd_X2_areSold dX2_sold_18 (rd3 ho) rfl rfl ⟨Nat.le_of_ble_eq_true rfl, Nat.le_of_ble_eq_true rfl⟩ ⟨Nat.le_of_ble_eq_true rfl, Nat.le_of_ble_eq_true rfl⟩ (Nat.le_of_ble_eq_true rfl) ?_
    rintro _ S1 ⟨rfl, hS1⟩
    obtain rfl := hS1.symm
    refine g_ifp_ne (tgt := 30) X dX2_sold_21 rfl (fun c21 => ?_) (fun c21 => ?_)
    · have hl : lsN (mF (wM S) (pr (wM S) nf (p00 (S.1 414)) j) nf) n := ⟨by omega, c21, hI.2⟩
      refine g_aload_n X dX2_sold_30 rfl ?_
      refine g_get (C := RX2) (T := TX2) (N := 35) X 34 in_X2 dX2_sold_31 q1439 (rd3 ho) rfl (Nat.le_of_ble_eq_true rfl) (fun _ h9 => h9) rfl ?_
      refine g_iload_n X dX2_sold_34 rfl ?_
      refine g_iald (j := ix x) X dX2_sold_35 (rdi ho (415) (rfl)) (ix_i c5.1) (by omega) (by decide) ?_
      
      refine g_if_ne (tgt := 43) X dX2_sold_36 rfl (fun c36 => ?_) (fun c36 => ?_)
      · refine g_iload_n X dX2_sold_43 rfl ?_
        refine g_iload_n X dX2_sold_44 rfl ?_
        refine g_callS X (k_X2_fieldBy ho rfl (by omega) (ix_i c5.1) (by omega)) (lw_S q2070 q2071 q139 q2072) hd_X2_fieldBy dX2_sold_45 rfl ⟨Nat.le_of_ble_eq_true rfl, Nat.le_of_ble_eq_true rfl⟩ ⟨Nat.le_of_ble_eq_true rfl, Nat.le_of_ble_eq_true rfl⟩ (Nat.le_of_ble_eq_true rfl) ?_
        rintro _ S1 ⟨rfl, hS1⟩
        obtain rfl := hS1.symm
        exact g_iret X hr dX2_sold_48 (Nat.le_of_ble_eq_true rfl) (Nat.le_of_ble_eq_true rfl) ((by rw [if_pos c5]; exact ⟨j, W, n, hj1, hl, by rw [if_neg (fun z => c36 ((wd_m hW1 _ hx).2.trans (by rw [z]; rfl)))], rfl⟩))
      · refine g_iconst (v := (-1)) X dX2_sold_39 rfl ?_
        refine g_goto (tgt := 48) X dX2_sold_40 rfl ?_
        exact g_iret X hr dX2_sold_48 (Nat.le_of_ble_eq_true rfl) (Nat.le_of_ble_eq_true rfl) ((by rw [if_pos c5]; exact ⟨j, W, n, hj1, hl, by rw [if_pos ((nI_eq (b := 0) (Nat.lt_trans mF_lt (by decide)) (by decide)).mp ((wd_m hW1 _ hx).2.symm.trans c36))], rfl⟩))
    · have hlt : n + 1 ≤ N0 := by
        rcases Nat.lt_or_ge n N0 with q | q
        · exact q
        · exact absurd (by rw [show n = N0 by omega]; exact hN1) c21
      refine g_iinc (v := 1) X dX2_sold_24 rfl rfl (Nat.le_of_ble_eq_true rfl) ?_
      refine g_goto (tgt := 16) X dX2_sold_27 rfl ?_
      refine g_sub (le_1 rfl (le_1 rfl (le_1 e_1 le_n))) (ih (n + 1) ?_ ?_)
      · try dsimp only
        exact ⟨hlt, ne_s hI.2 c21⟩
      · try dsimp only
        omega
  · refine g_iconst (v := (-1)) X dX2_sold_8 rfl ?_
    exact g_iret X hr dX2_sold_9 (Nat.le_of_ble_eq_true rfl) (Nat.le_of_ble_eq_true rfl) ((by rw [h0] at c5; rw [if_neg c5]; exact ⟨rfl, rfl⟩))
theorem prQ_c {w w' : Nat → Nat → Int32} {nf : Nat} (h : ∀ i, i < nf → ∀ p, whV (w i) p = whV (w' i) p) {p : Nat → Int32} : tA w nf p = tA w' nf p := tm_c (fun i hi => h i hi p)
theorem pr_0 {w : Nat → Nat → Int32} {nf : Nat} {p : Nat → Int32} : pr w nf p 0 = p := rfl
theorem pr_c {w w' : Nat → Nat → Int32} {nf : Nat} (h : ∀ i, i < nf → ∀ p, whV (w i) p = whV (w' i) p) {p : Nat → Int32} (j : Nat) : pr w nf p j = pr w' nf p j := by
  induction j with
  | zero => exact pr_0.trans pr_0.symm
  | succ j ih =>
    refine pr_s.trans (Eq.trans ?_ pr_s.symm)
    rw [ih, prQ_c h]
theorem whS_0 {w p : Nat → Int32} : whS w p 0 = (1, 0) := rfl
theorem whS_c {w w' p : Nat → Int32} {i : Nat} (h : ∀ k, k < i → w k = w' k) : whS w p i = whS w' p i := by
  induction i with
  | zero => exact whS_0.trans whS_0.symm
  | succ i ih =>
    have e := ih (fun k hk => h k (by omega))
    have hi := h i (by omega)
    by_cases c : w i - p i < (whS w p i).1
    · exact (whS_n c).trans (e.trans (whS_n (w := w') (by rw [← hi, ← e]; exact c)).symm)
    · by_cases c2 : (whS w p i).1 < w i - p i
      · refine (whS_t c c2).trans (Eq.trans ?_ (whS_t (w := w') (by rw [← hi, ← e]; exact c) (by rw [← hi, ← e]; exact c2)).symm)
        rw [hi]
      · refine (whS_e c c2).trans (Eq.trans ?_ (whS_e (w := w') (by rw [← hi, ← e]; exact c) (by rw [← hi, ← e]; exact c2)).symm)
        rw [hi, e]
/-- what is sold is the same -/
theorem sold_eq {w w' : Nat → Nat → Int32} {nf i j N f : Nat} {p0 : Nat → Int32} (h5 : nf ≤ 5) (hw : ∀ i, i < nf → ∀ k, k < 5 → w i k = w' i k) (hi : prQ w nf p0 i) (hj : prQ w' nf p0 j) (hN : lsN (mF w' (pr w' nf p0 j) nf) N) (hf : f < nf) : soV (mW w (pr w nf p0 i)) (slO (mW w (pr w nf p0 i)) nf 0 31) f = if mF w' (pr w' nf p0 j) nf f = 0 then -1 else nI (d5 N f) := by
  have hV : ∀ i, i < nf → ∀ p, whV (w i) p = whV (w' i) p := fun i hi p => by unfold whV; rw [whS_c (hw i hi)]
  have hj2 : prQ w nf p0 j := ⟨by rw [pr_c hV, prQ_c hV]; exact hj.1, fun i hi => by rw [pr_c hV, prQ_c hV]; exact hj.2 i hi⟩
  have e := prQ_u hi hj2
  subst e
  have em : ∀ k, 0 ≤ k → k < 0 + nf → mW w (pr w nf p0 i) k = mF w' (pr w' nf p0 i) nf k := fun k _ hk => by
    rw [mF_in (by omega)]
    unfold mW
    rw [hV k (by omega), pr_c hV]
  have es := slO_ext (m := mW w (pr w nf p0 i)) (m' := mF w' (pr w' nf p0 i) nf) (e := 5 - nf) (d := nf) (i := 0) (l := 31) em (fun k hk => mF_out (by omega))
  rw [show nf + (5 - nf) = 5 by omega] at es
  rw [← es]
  have hg := slO_g (m := mF w' (pr w' nf p0 i) nf) 5 0 31
  obtain ⟨n1, n2, n3⟩ := hN
  cases ho : slO (mF w' (pr w' nf p0 i) nf) 5 0 31 with
  | none =>
    rw [ho] at hg
    exact absurd n2 (hg _ (fun _ => d5_lt))
  | some c =>
    show (if mW w (pr w nf p0 i) f = 0 then -1 else nI (c f)) = _
    rw [em f (by omega) (by omega), so_eq ho n2 n1 n3 f (by omega)]
