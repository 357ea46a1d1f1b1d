def sm (f : Nat → Nat) (n : Nat) : Nat := itr (fun i a => a + f i) n 0
theorem sm_s {f : Nat → Nat} {n : Nat} : sm f (n + 1) = sm f n + f n := rfl
theorem sm_le {f g : Nat → Nat} : ∀ {n : Nat}, (∀ i, i < n → f i ≤ g i) → sm f n ≤ sm g n
  | 0, _ => Nat.le_refl _
  | n + 1, h => Nat.add_le_add (sm_le (n := n) (fun i hi => h i (by omega))) (h n (by omega))
theorem sm_lt {f g : Nat → Nat} {k : Nat} (hk : f k < g k) : ∀ {n : Nat}, k < n → (∀ i, i < n → f i ≤ g i) → sm f n < sm g n
  | 0, h, _ => by omega
  | n + 1, h, h2 => by
    rw [sm_s, sm_s]
    rcases Nat.lt_or_ge k n with q | q
    · have := sm_lt hk q (fun i hi => h2 i (by omega))
      have := h2 n (by omega)
      omega
    · have e : k = n := by omega
      subst e
      have := sm_le (n := k) (fun i hi => h2 i (show i < k + 1 by omega))
      omega
theorem sm_b {f : Nat → Nat} {B : Nat} : ∀ {n : Nat}, (∀ i, i < n → f i ≤ B) → sm f n ≤ n * B
  | 0, _ => Nat.zero_le _
  | n + 1, h => by
    have := sm_b (n := n) (fun i hi => h i (by omega))
    have := h n (by omega)
    rw [sm_s, Nat.succ_mul]
    omega
theorem lsC_c {P P' : Int32 → Prop} [∀ s, Decidable (P s)] [∀ s, Decidable (P' s)] (h : ∀ s, P s ↔ P' s) : ∀ i, lsC P i = lsC P' i
  | 0 => rfl
  | i + 1 => by
    by_cases c : P (nI (1 + i)) ∧ (lsC P i = -1 ∨ bcI (nI (1 + i)) < bcI (lsC P i))
    · rw [← lsC_t c, ← lsC_t (P := P') ⟨(h _).mp c.1, by rw [← lsC_c h i]; exact c.2⟩]
    · rw [← lsC_f c, ← lsC_f (P := P') (fun z => c ⟨(h _).mpr z.1, by rw [lsC_c h i]; exact z.2⟩)]
      exact lsC_c h i
theorem tm_c {wd wd' : Nat → Int32} {nf : Nat} (h : ∀ i, i < nf → wd i = wd' i) : lsC (fun s => tmP wd nf s) 31 = lsC (fun s => tmP wd' nf s) 31 := lsC_c (fun s => by unfold tmP; rw [tmA_c h]) 31
/-- the set whose prices rise next, or -1 -/
def tA (w : Nat → Nat → Int32) (nf : Nat) (p : Nat → Int32) : Int32 := lsC (fun s => tmP (fun i => whV (w i) p) nf s) 31
def stP (t : Int32) (p : Nat → Int32) (i : Nat) : Nat → Int32 := itr (fun k p => upd p k (p k + bP (hs t (nI k)))) i p
theorem stP_s {t : Int32} {p : Nat → Int32} {i : Nat} : stP t p (i + 1) = upd (stP t p i) i (stP t p i i + bP (hs t (nI i))) := rfl
theorem stP_ge {t : Int32} {p : Nat → Int32} {k : Nat} : ∀ {i : Nat}, i ≤ k → stP t p i k = p k
  | 0, _ => rfl
  | i + 1, h => by rw [stP_s, upd_n (by omega)]; exact stP_ge (by omega)
theorem stP_at {t : Int32} {p : Nat → Int32} {k : Nat} : ∀ {i : Nat}, k < i → stP t p i k = p k + bP (hs t (nI k))
  | 0, h => by omega
  | i + 1, h => by
    rw [stP_s]
    by_cases hk : k = i
    · rw [hk, upd_s, stP_ge (Nat.le_refl _)]
    · rw [upd_n hk]
      exact stP_at (by omega)
/-- the prices after j turns -/
def pr (w : Nat → Nat → Int32) (nf : Nat) (p : Nat → Int32) (j : Nat) : Nat → Int32 := itr (fun _ p => stP (tA w nf p) p 5) j p
theorem pr_s {w : Nat → Nat → Int32} {nf : Nat} {p : Nat → Int32} {j : Nat} : pr w nf p (j + 1) = stP (tA w nf (pr w nf p j)) (pr w nf p j) 5 := rfl
/-- j is the turn at which they stand -/
def prQ (w : Nat → Nat → Int32) (nf : Nat) (p : Nat → Int32) (j : Nat) : Prop := tA w nf (pr w nf p j) = -1 ∧ ∀ i, i < j → tA w nf (pr w nf p i) ≠ -1
theorem prQ_u {w : Nat → Nat → Int32} {nf : Nat} {p : Nat → Int32} {i j : Nat} (hi : prQ w nf p i) (hj : prQ w nf p j) : i = j := by
  rcases Nat.lt_trichotomy i j with z | z | z
  · exact absurd hi.1 (hj.2 i z)
  · exact z
  · exact absurd hj.1 (hi.2 j z)
theorem wh_or : ∀ m, m < 32 → ∀ k, k < 5 → nI m ||| one (nI k) = nI (m ||| 2 ^ k) := by decide +kernel
theorem whS_in {w p : Nat → Int32} : ∀ i, i ≤ 5 → ¬ (whS w p i).1 ≤ 0 ∧ ∃ m, m < 2 ^ i ∧ (whS w p i).2 = nI m ∧ ∀ k, k < i → m.testBit k = true → w k - p k = (whS w p i).1
  | 0, _ => ⟨by show ¬ (1 : Int32) ≤ 0; decide, 0, by decide, rfl, fun k h => by omega⟩
  | i + 1, hi => by
    obtain ⟨h1, m, h2, h3, h4⟩ := whS_in (w := w) (p := p) i (by omega)
    have h5 : 2 ^ i < 2 ^ (i + 1) := Nat.pow_lt_pow_right (by decide) (by omega)
    have h6 : 2 ^ i ≤ 2 ^ 5 := Nat.pow_le_pow_right (by decide) (by omega)
    by_cases c : w i - p i < (whS w p i).1
    · rw [whS_n c]
      refine ⟨h1, m, by omega, h3, fun k hk hb => ?_⟩
      by_cases hki : k = i
      · rw [hki, Nat.testBit_lt_two_pow h2] at hb
        cases hb
      · exact h4 k (by omega) hb
    · by_cases c2 : (whS w p i).1 < w i - p i
      · rw [whS_t c c2]
        refine ⟨fun z => h1 (Int32.le_trans (Int32.le_of_lt c2) z), 2 ^ i, h5, one_N i (by omega), fun k hk hb => ?_⟩
        rw [Nat.testBit_two_pow] at hb
        rw [of_decide_eq_true hb]
      · have e : w i - p i = (whS w p i).1 := Int32.le_antisymm (Int32.not_lt.mp c2) (Int32.not_lt.mp c)
        rw [whS_e c c2]
        refine ⟨fun z => h1 (by rw [← e]; exact z), m ||| 2 ^ i, Nat.or_lt_two_pow (by omega) h5, ?_, fun k hk hb => ?_⟩
        · show (whS w p i).2 ||| one (nI i) = _
          rw [h3, wh_or m (by omega) i (by omega)]
        · show _ = w i - p i
          rw [Nat.testBit_or, Nat.testBit_two_pow] at hb
          rcases Bool.or_eq_true_iff.mp hb with z | z
          · by_cases hki : k = i
            · rw [hki]
            · rw [h4 k (by omega) z, e]
          · rw [of_decide_eq_true z]
theorem tm_all : (List.range 32).all (fun m => (List.range 32).all (fun t => decide (nI m = 0) || !decide (nI m &&& (nI t ^^^ -1) = 0) || (List.range 5).any (fun k => m.testBit k && decide (hs (nI t) (nI k))))) = true := by decide +kernel
theorem tm_bit (m : Nat) (hm : m < 32) (t : Nat) (ht : t < 32) (h1 : nI m ≠ 0) (h2 : nI m &&& (nI t ^^^ -1) = 0) : ∃ k, k < 5 ∧ m.testBit k = true ∧ hs (nI t) (nI k) := by
  have h := List.all_eq_true.mp (List.all_eq_true.mp tm_all m (List.mem_range.mpr hm)) t (List.mem_range.mpr ht)
  rw [decide_eq_false h1, decide_eq_true h2, Bool.not_true, Bool.or_false, Bool.false_or] at h
  obtain ⟨k, hk, h3⟩ := List.any_eq_true.mp h
  rw [Bool.and_eq_true] at h3
  exact ⟨k, List.mem_range.mp hk, h3.1, of_decide_eq_true h3.2⟩
theorem sub_le0 {u v : Nat} (h : v ≤ u) (hu : u < 2 ^ 30) : nI v - nI u ≤ 0 := by
  rw [Int32.le_iff_toInt_le, Int32.toInt_sub]
  have e1 : (nI v).toInt = v := nI_toInt (by omega)
  have e2 : (nI u).toInt = u := nI_toInt (by omega)
  rw [e1, e2, Int.bmod_eq_of_le (by omega) (by omega)]
  show (v : Int) - u ≤ 0
  omega
theorem tmA_no {wd : Nat → Int32} {s : Int32} : ∀ {n : Nat}, (∀ i, i < n → ¬ tmQ wd s i) → tmA wd s n = 0
  | 0, _ => rfl
  | n + 1, h => by
    rw [← tmA_f (h n (by omega)), tmA_no (fun i hi => h i (by omega))]
    rfl
theorem tmP_ex {wd : Nat → Int32} {nf t : Nat} (ht : t < 32) (h : tmP wd nf (nI t)) : ∃ i, i < nf ∧ tmQ wd (nI t) i := by
  refine Decidable.byContradiction fun c => ?_
  have h2 : tmA wd (nI t) nf = 0 := tmA_no (fun i hi z => c ⟨i, hi, z⟩)
  have h3 := h
  unfold tmP at h3
  rw [h2, bcI_N (by omega)] at h3
  have := bcN_le (w := t)
  exact nI_pos (by omega) h3
theorem bP_N {P : Prop} [Decidable P] : bP P = nI (if P then 1 else 0) := by unfold bP; split <;> rfl
/-- what is left to pay for -/
def phi (w : Nat → Nat → Int32) (nf : Nat) (p : Nat → Int32) : Nat := sm (fun i => sm (fun k => ix (w i k) - ix (p k)) 5) nf
def wOk (w : Nat → Nat → Int32) (nf : Nat) : Prop := ∀ i, i < nf → ∀ k, k < 5 → ∃ v, v ≤ 99 ∧ w i k = nI v
theorem phi_b {w : Nat → Nat → Int32} {nf : Nat} {p : Nat → Int32} (hw : wOk w nf) (h1 : nf ≤ 5) : phi w nf p ≤ 2475 := by
  have := sm_b (n := nf) (B := 495) (f := fun i => sm (fun k => ix (w i k) - ix (p k)) 5) (fun i hi => sm_b (n := 5) (B := 99) (fun k hk => by
    obtain ⟨v, h1, h2⟩ := hw i hi k hk
    show ix (w i k) - ix (p k) ≤ 99
    rw [h2, ix_n (by omega)]
    omega))
  have h3 : nf * 495 ≤ 5 * 495 := Nat.mul_le_mul_right _ h1
  exact Nat.le_trans this h3
/-- prices that are small numbers -/
def pOk (p : Nat → Int32) (j : Nat) : Prop := ∀ k, k < 5 → ∃ v, v ≤ j ∧ p k = nI v
theorem stP_ok {t : Int32} {p : Nat → Int32} {j : Nat} (h : pOk p j) : pOk (stP t p 5) (j + 1) := fun k hk => by
  obtain ⟨v, h1, h2⟩ := h k hk
  refine ⟨v + if hs t (nI k) then 1 else 0, by split <;> omega, ?_⟩
  rw [stP_at hk, h2, bP_N, nI_add]
/-- a turn pays -/
theorem phi_lt {w : Nat → Nat → Int32} {nf j : Nat} {p : Nat → Int32} (hw : wOk w nf) (hp : pOk p j) (hj : j ≤ 3000) (h : tA w nf p ≠ -1) : phi w nf (stP (tA w nf p) p 5) < phi w nf p := by
  rcases lsC_in (P := fun s => tmP (fun i => whV (w i) p) nf s) 31 (by omega) with ⟨e, _⟩ | ⟨t, t1, t2, e, t3, _⟩
  · exact absurd e h
  have e2 : tA w nf p = nI t := e
  rw [e2]
  obtain ⟨i, hi, q1, q2⟩ := tmP_ex (by omega) t3
  obtain ⟨b1, m, b2, b3, b4⟩ := whS_in (w := w i) (p := p) 5 (by omega)
  have q1' : nI m ≠ 0 := by rw [← b3]; exact q1
  have q2' : nI m &&& (nI t ^^^ -1) = 0 := by rw [← b3]; exact q2
  obtain ⟨k, hk, k1, k2⟩ := tm_bit m b2 t (by omega) q1' q2'
  have k3 := b4 k hk k1
  obtain ⟨v, v1, v2⟩ := hw i hi k hk
  obtain ⟨u, u1, u2⟩ := hp k hk
  have lt : u < v := by
    rcases Nat.lt_or_ge u v with z | z
    · exact z
    · exfalso
      apply b1
      rw [← k3, v2, u2]
      exact sub_le0 z (by omega)
  have le : ∀ k, k < 5 → ix (p k) ≤ ix (stP (nI t) p 5 k) := fun k hk => by
    obtain ⟨u, u1, u2⟩ := hp k hk
    rw [stP_at hk, u2, bP_N, nI_add, ix_n (by omega), ix_n (by split <;> omega)]
    omega
  refine sm_lt (k := i) (sm_lt (k := k) (n := 5) ?_ hk (fun k hk => ?_)) hi (fun i _ => sm_le (fun k hk => ?_))
  · rw [stP_at hk, bP_t k2, u2, v2, ix_n (by omega), ix_n (by omega), show nI u + 1 = nI (u + 1) from nI_1 _, ix_n (by omega)]
    omega
  · exact Nat.sub_le_sub_left (le k hk) _
  · exact Nat.sub_le_sub_left (le k hk) _
theorem and_1 (x : Int32) : x &&& 1 = 0 ∨ x &&& 1 = 1 := by
  have h : x.toBitVec &&& 1#32 = 0#32 ∨ x.toBitVec &&& 1#32 = 1#32 := by
    rw [BitVec.and_one_eq_setWidth_ofBool_getLsbD]
    cases x.toBitVec.getLsbD 0
    · exact Or.inl rfl
    · exact Or.inr rfl
  rcases h with h | h
  · exact Or.inl (Int32.toBitVec_inj.1 h)
  · exact Or.inr (Int32.toBitVec_inj.1 h)
theorem hs_bP (t k : Int32) : (t >>> (k &&& 31)) &&& 1 = bP (hs t k) := by
  rcases and_1 (t >>> (k &&& 31)) with h | h
  · rw [bP_f (fun z => absurd (h.symm.trans z) (by decide))]
    exact h
  · rw [bP_t (show hs t k from h)]
    exact h
/-- a turn keeps what is known -/
theorem pr_I {w : Nat → Nat → Int32} {nf : Nat} {p0 : Nat → Int32} (hw : wOk w nf) (h0 : pOk p0 0) {F : Nat} (hF : F ≤ 2475) : ∀ {j : Nat}, (pOk (pr w nf p0 j) j ∧ j + phi w nf (pr w nf p0 j) ≤ F) → tA w nf (pr w nf p0 j) ≠ -1 → (pOk (pr w nf p0 (j + 1)) (j + 1) ∧ j + 1 + phi w nf (pr w nf p0 (j + 1)) ≤ F) ∧ phi w nf (pr w nf p0 (j + 1)) < phi w nf (pr w nf p0 j) := fun {j} ⟨h1, h2⟩ h3 => by
  have h4 := phi_lt hw h1 (by omega) h3
  rw [pr_s]
  exact ⟨⟨stP_ok h1, by omega⟩, h4⟩
abbrev p00 (g : Nat → Int32) : Nat → Int32 := fillF g 0 5
theorem p00_ok {g : Nat → Int32} : pOk (p00 g) 0 := fun k hk => ⟨0, Nat.le_refl _, fillF_at hk⟩
abbrev prI (w : Nat → Nat → Int32) (nf : Nat) (g : Nat → Int32) (j : Nat) : Prop := (pOk (pr w nf (p00 g) j) j ∧ j + phi w nf (pr w nf (p00 g) j) ≤ phi w nf (p00 g)) ∧ ∀ i, i < j → tA w nf (pr w nf (p00 g) i) ≠ -1
theorem prI_0 {w : Nat → Nat → Int32} {nf : Nat} {g : Nat → Int32} : prI w nf g 0 := ⟨⟨p00_ok, by show 0 + phi w nf (p00 g) ≤ _; omega⟩, fun i h => by omega⟩
theorem prI_s {w : Nat → Nat → Int32} {nf : Nat} {g : Nat → Int32} (hw : wOk w nf) (h5 : nf ≤ 5) {j : Nat} (h : prI w nf g j) (h3 : ¬ tA w nf (pr w nf (p00 g) j) = -1) : prI w nf g (j + 1) ∧ phi w nf (pr w nf (p00 g) (j + 1)) < phi w nf (pr w nf (p00 g) j) := by
  have := pr_I hw p00_ok (phi_b (p := p00 g) hw h5) h.1 h3
  exact ⟨⟨this.1, ne_s h.2 h3⟩, this.2⟩
theorem tA_b {w : Nat → Nat → Int32} {nf : Nat} {p : Nat → Int32} (h : ¬ tA w nf p = -1) : ∃ t, 1 ≤ t ∧ t < 32 ∧ tA w nf p = nI t := by
  rcases lsC_in (P := fun s => tmP (fun i => whV (w i) p) nf s) 31 (by omega) with ⟨e, _⟩ | ⟨t, t1, t2, e, t3, _⟩
  · exact absurd e h
  · exact ⟨t, t1, t2, e⟩
theorem tA_si {S : gk_S} {p : Nat → Int32} {nf : Nat} (h : nf ≤ 5) : lsC (fun s => tmP (fun i => whV ((gk_si S 307 p).1 (20 + i)) ((gk_si S 307 p).1 307)) nf s) 31 = tA (fun d => S.1 (20 + d)) nf p := tm_c (fun i hi => by
  show whV ((gk_si S 307 p).1 (20 + i)) p = whV (S.1 (20 + i)) p
  rw [si_n (by omega)])
set_option maxHeartbeats 600000 in
theorem k_X0_laysPrices {l : Launch} {E : gk_E} (ho : E.2.2.2.2 = true) {S : gk_S}  {nf : Nat} (h0 : S.1 10 0 = nI nf) (h1 : nf ≤ 5) (hw : wOk (fun d => S.1 (20 + d)) nf) : gk_T l E yX0_laysPrices cX0_laysPrices 3 (none) 3 70 0 0 [.ref (E.2.2.1 0)] S (fun r S' => r = none ∧ ∃ j, prQ (fun d => S.1 (20 + d)) nf (p00 (S.1 307)) j ∧ S' = gk_si S 307 (pr (fun d => S.1 (20 + d)) nf (p00 (S.1 307)) j)) := by
  refine gk_T.of [some (.ref (E.2.2.1 0)), none, none] (by decide) (Nat.le_of_ble_eq_true rfl) (le_1 rfl (le_p (le_p le_n))) ?_
  intro p_ e_ R_ s_ m_ args_ below_ meth_ c_ hR X hr hin
  subst hR
  refine g_aload_n X dX0_laysPrices_0 rfl ?_
  refine g_get (C := RX0) (T := TX0) (N := 13) X 12 in_X0 dX0_laysPrices_1 q253 (rd0 ho) rfl (Nat.le_of_ble_eq_true rfl) (fun _ h9 => h9) rfl ?_
  refine g_iconst (v := 0) X dX0_laysPrices_4 rfl ?_
  refine g_callS X (k_J0_fill_2 ho (c := 307) (N := 5) rfl (by omega)) (lw_S q1321 q1322 q137 q1323) hd_J0_fill_2 dX0_laysPrices_5 rfl ⟨Nat.le_of_ble_eq_true rfl, Nat.le_of_ble_eq_true rfl⟩ ⟨Nat.le_of_ble_eq_true rfl, Nat.le_of_ble_eq_true rfl⟩ (Nat.le_of_ble_eq_true rfl) ?_
  rintro _ S1 ⟨rfl, hS1⟩
  obtain rfl := hS1.symm
  refine g_aload_n X dX0_laysPrices_8 rfl ?_
  refine g_callV (C := RX0) (T := TX0) (N := 13) X (k_X0_wantedSet ho (S := gk_si S 307 _) h0 h1) (lw_V q1324 q1326 qs54 q135 q1327) hd_X0_wantedSet dX0_laysPrices_9 (rd0 ho) rfl rfl ⟨Nat.le_of_ble_eq_true rfl, Nat.le_of_ble_eq_true rfl⟩ ⟨Nat.le_of_ble_eq_true rfl, Nat.le_of_ble_eq_true rfl⟩ (Nat.le_of_ble_eq_true rfl) ?_
  rintro _ S1 ⟨rfl, hS1⟩
  obtain rfl := hS1.symm
  refine g_top (tA_si h1) ?_
  refine g_istore_n X dX0_laysPrices_12 (Nat.le_of_ble_eq_true rfl) ?_
  refine g_loop (σ := Nat) (fun (j : Nat) => gk_si S 307 (pr (fun d => S.1 (20 + d)) nf (p00 (S.1 307)) j)) (fun (j : Nat) => ([some (.ref (E.2.2.1 0)), some (.int (tA (fun d => S.1 (20 + d)) nf (pr (fun d => S.1 (20 + d)) nf (p00 (S.1 307)) j))), none] : List (Option Value))) (fun (j : Nat) => prI (fun d => S.1 (20 + d)) nf (S.1 307) j) (fun (j : Nat) => phi (fun d => S.1 (20 + d)) nf (pr (fun d => S.1 (20 + d)) nf (p00 (S.1 307)) j)) (0) ?_ (rfl) (le_1 rfl (le_1 rfl (le_0 le_n))) ?_
  · exact prI_0
  intro j hI ih
  try dsimp only at hI ih ⊢
  refine g_iload_n X dX0_laysPrices_13 rfl ?_
  refine g_iconst (v := (-1)) X dX0_laysPrices_14 rfl ?_
  refine g_icmp_eq (tgt := 53) X dX0_laysPrices_15 rfl (fun c15 => ?_) (fun c15 => ?_)
  · exact g_vret X hr dX0_laysPrices_53 (Nat.le_of_ble_eq_true rfl) (Nat.le_of_ble_eq_true rfl) (⟨rfl, j, ⟨c15, hI.2⟩, rfl⟩)
  · refine g_iconst (v := 0) X dX0_laysPrices_18 rfl ?_
    refine g_istore_n X dX0_laysPrices_19 (Nat.le_of_ble_eq_true rfl) ?_
    refine g_loop (σ := Nat) (fun (k : Nat) => gk_si S 307 (stP (tA (fun d => S.1 (20 + d)) nf (pr (fun d => S.1 (20 + d)) nf (p00 (S.1 307)) j)) (pr (fun d => S.1 (20 + d)) nf (p00 (S.1 307)) j) k)) (fun (k : Nat) => ([some (.ref (E.2.2.1 0)), some (.int (tA (fun d => S.1 (20 + d)) nf (pr (fun d => S.1 (20 + d)) nf (p00 (S.1 307)) j))), some (.int (nI k))] : List (Option Value))) (fun (k : Nat) => k ≤ 5) (fun (k : Nat) => 5 - k) (0) ?_ (rfl) (le_1 rfl (le_1 rfl (le_1 rfl le_n))) ?_
    · omega
    intro k hI2 ih2
    try dsimp only at hI2 ih2 ⊢
    refine g_iload_n X dX0_laysPrices_20 rfl ?_
    refine g_iconst (v := 5) X dX0_laysPrices_21 rfl ?_
    refine g_icmp_ge (tgt := 45) X dX0_laysPrices_22 rfl (fun c22 => ?_) (fun c22 => ?_)
    · have hk := out_of (by omega) hI2 c22
      subst hk
      refine g_eq (S2 := gk_si S 307 (pr (fun d => S.1 (20 + d)) nf (p00 (S.1 307)) (j + 1))) (by rw [pr_s]) ?_
      refine g_aload_n X dX0_laysPrices_45 rfl ?_
      refine g_callV (C := RX0) (T := TX0) (N := 13) X (k_X0_wantedSet ho (S := gk_si S 307 _) h0 h1) (lw_V q1324 q1326 qs54 q135 q1327) hd_X0_wantedSet dX0_laysPrices_46 (rd0 ho) rfl rfl ⟨Nat.le_of_ble_eq_true rfl, Nat.le_of_ble_eq_true rfl⟩ ⟨Nat.le_of_ble_eq_true rfl, Nat.le_of_ble_eq_true rfl⟩ (Nat.le_of_ble_eq_true rfl) ?_
      rintro _ S1 ⟨rfl, hS1⟩
      obtain rfl := hS1.symm
      refine g_top (tA_si h1) ?_
      refine g_istore_n X dX0_laysPrices_49 (Nat.le_of_ble_eq_true rfl) ?_
      refine g_goto (tgt := 13) X dX0_laysPrices_50 rfl ?_
      refine g_sub (le_1 rfl (le_1 rfl (le_0 le_n))) (ih (j + 1) ?_ ?_)
      · try dsimp only
        exact (prI_s hw h1 hI c15).1
      · try dsimp only
        exact (prI_s hw h1 hI c15).2
    · have hk : k < 5 := in_of (by omega) hI2 c22
      refine g_aload_n X dX0_laysPrices_25 rfl ?_
      refine g_get (C := RX0) (T := TX0) (N := 13) X 12 in_X0 dX0_laysPrices_26 q253 (rd0 ho) rfl (Nat.le_of_ble_eq_true rfl) (fun _ h9 => h9) rfl ?_
      refine g_iload_n X dX0_laysPrices_29 rfl ?_
      refine g_dup2_11 X dX0_laysPrices_30 rfl rfl ?_
      refine g_iald (j := k) X dX0_laysPrices_31 (rdi ho (307) (rfl)) rfl hk (by decide) ?_
      refine g_iload_n X dX0_laysPrices_32 rfl ?_
      refine g_iload_n X dX0_laysPrices_33 rfl ?_
      refine g_ishr X dX0_laysPrices_34 ?_
      refine g_iconst (v := 1) X dX0_laysPrices_35 rfl ?_
      refine g_iand X dX0_laysPrices_36 ?_
      refine g_iadd X dX0_laysPrices_37 ?_
      refine g_iast X ho (307) (j := k) dX0_laysPrices_38 rfl (rfl) rfl hk (by decide) ?_
      rw [hs_bP]
      refine g_eq (S2 := gk_si S 307 (stP (tA (fun d => S.1 (20 + d)) nf (pr (fun d => S.1 (20 + d)) nf (p00 (S.1 307)) j)) (pr (fun d => S.1 (20 + d)) nf (p00 (S.1 307)) j) (k + 1))) (by rw [si_si, stP_s, si_s]) ?_
      refine g_iinc (v := 1) X dX0_laysPrices_39 rfl rfl (Nat.le_of_ble_eq_true rfl) ?_
      refine g_goto (tgt := 20) X dX0_laysPrices_42 rfl ?_
      refine g_sub (le_1 rfl (le_1 rfl (le_1 e_1 le_n))) (ih2 (k + 1) ?_ ?_)
      · try dsimp only
        omega
      · try dsimp only
        omega
set_option maxHeartbeats 600000 in
theorem k_X0_price {l : Launch} {E : gk_E} (ho : E.2.2.2.2 = true) {S : gk_S} {x : Int32} {nf : Nat} (h0 : S.1 10 0 = nI nf) (h1 : nf ≤ 5) (hw : wOk (fun d => S.1 (20 + d)) nf) : gk_T l E yX0_price cX0_price 2 ((some .int)) 4 92 0 0 [.ref (E.2.2.1 0), .int x] S (fun r S' => if 0 ≤ x ∧ x ≤ 4 then ∃ j, prQ (fun d => S.1 (20 + d)) nf (p00 (S.1 307)) j ∧ r = some (.int ((pr (fun d => S.1 (20 + d)) nf (p00 (S.1 307)) j) (ix x))) ∧ S' = gk_si S 307 (pr (fun d => S.1 (20 + d)) nf (p00 (S.1 307)) j) else r = some (.int (-1)) ∧ S' = S) := by
  refine gk_T.of [some (.ref (E.2.2.1 0)), some (.int x)] (by decide) (Nat.le_of_ble_eq_true rfl) (fun _ _ h => h) ?_
  intro p_ e_ R_ s_ m_ args_ below_ meth_ c_ hR X hr hin
  subst hR
  refine g_iload_n X dX0_price_0 rfl ?_
  refine g_callS X (k_X0_isField ho) (lw_S q298 q299 q135 q300) hd_X0_isField dX0_price_1 rfl ⟨Nat.le_of_ble_eq_true rfl, Nat.le_of_ble_eq_true rfl⟩ ⟨Nat.le_of_ble_eq_true rfl, Nat.le_of_ble_eq_true rfl⟩ (Nat.le_of_ble_eq_true rfl) ?_
  rintro _ S1 ⟨rfl, hS1⟩
  obtain rfl := hS1.symm
  refine g_ifp_ne (tgt := 9) X dX0_price_4 rfl (fun c4 => ?_) (fun c4 => ?_)
  · have hx : ix x < 5 := Nat.lt_succ_of_le (ix_le 4 (by decide) c4.1 c4.2)
    refine g_aload_n X dX0_price_9 rfl ?_
    refine g_callV (C := RX0) (T := TX0) (N := 13) X (k_X0_laysPrices ho h0 h1 hw) (lw_V q1317 q1319 qs53 q135 q1320) hd_X0_laysPrices dX0_price_10 (rd0 ho) rfl rfl ⟨Nat.le_of_ble_eq_true rfl, Nat.le_of_ble_eq_true rfl⟩ ⟨Nat.le_of_ble_eq_true rfl, Nat.le_of_ble_eq_true rfl⟩ (Nat.le_of_ble_eq_true rfl) ?_
    rintro _ S1 ⟨rfl, j1, hj1, hS1⟩
    obtain rfl := hS1.symm
    refine g_aload_n X dX0_price_13 rfl ?_
    refine g_get (C := RX0) (T := TX0) (N := 13) X 12 in_X0 dX0_price_14 q253 (rd0 ho) rfl (Nat.le_of_ble_eq_true rfl) (fun _ h9 => h9) rfl ?_
    refine g_iload_n X dX0_price_17 rfl ?_
    refine g_iald (j := ix x) X dX0_price_18 (rdi ho (307) (rfl)) (ix_i c4.1) hx (by decide) ?_
    exact g_iret X hr dX0_price_19 (Nat.le_of_ble_eq_true rfl) (Nat.le_of_ble_eq_true rfl) ((by rw [if_pos c4]; exact ⟨j1, hj1, rfl, rfl⟩))
  · refine g_iconst (v := (-1)) X dX0_price_7 rfl ?_
    exact g_iret X hr dX0_price_8 (Nat.le_of_ble_eq_true rfl) (Nat.le_of_ble_eq_true rfl) ((by rw [if_neg c4]; exact ⟨rfl, rfl⟩))
