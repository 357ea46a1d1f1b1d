/-! THE BOOK OF THE TWO -/
def bkE (r : Nat → Int32) (v : Int32) : Prop := ∃ a b c d e : Nat, a ≤ 9999 ∧ b < 5 ∧ c ≤ 8 ∧ d < 5 ∧ e < 2 ∧ r 0 = nI a ∧ r 1 = nI b ∧ r 2 = nI c - 1 ∧ r 3 = nI d ∧ r 4 = nI e ∧ v = nI ((((a * 5 + b) * 9 + c) * 5 + d) * 2 + e)
theorem bkE_c {r r' : Nat → Int32} {v v' : Int32} (h : bkE r v) (hr : ∀ w, w < 5 → r' w = r w) (hv : v' = v) : bkE r' v' := by
  obtain ⟨a, b, c, d, e, h1, h2, h3, h4, h5, r0, r1, r2, r3, r4, z⟩ := h
  exact ⟨a, b, c, d, e, h1, h2, h3, h4, h5, (hr 0 (by decide)).trans r0, (hr 1 (by decide)).trans r1, (hr 2 (by decide)).trans r2, (hr 3 (by decide)).trans r3, (hr 4 (by decide)).trans r4, hv.trans z⟩
def bkA (R A : Nat → Int32) (nb : Nat) : Prop := ∀ i, i < nb → bkE (fun w => R (22 + 5 * i + w)) (A (1346 + i))
theorem shM_0 {A : Nat → Int32} : shM A 0 = A := itr_0
theorem shM_hi {A : Nat → Int32} : ∀ {i k : Nat}, i ≤ k → shM A i (1346 + k) = A (1346 + k)
  | 0, _, _ => by rw [shM_0]
  | i + 1, k, h => by
    rw [shM_s, upd_n (by omega)]
    exact shM_hi (by omega)
theorem shM_g {A : Nat → Int32} : ∀ {i k : Nat}, k < i → shM A i (1346 + k) = A (1346 + k + 1)
  | i + 1, k, h => by
    rw [shM_s]
    by_cases e : k = i
    · subst e
      rw [upd_s, show 1346 + k + 1 = 1346 + (k + 1) by omega]
      exact shM_hi (by omega)
    · rw [upd_n (by omega)]
      exact shM_g (by omega)
theorem wr1_g {R : Nat → Int32} {i w : Nat} (h : 22 ≤ i) (h2 : i < 117) : wr1 R 20 i = R (i + 5) := by
  rw [wr1_t rfl, upd_n (by omega)]
  unfold va_cpy
  rw [if_pos (by omega)]
  congr 1
  omega
theorem wrC_lo {R : Nat → Int32} {nb k : Nat} {x y z v : Int32} (h : k < 22 + 5 * wrK nb) (h2 : k ≠ 21) : wrC R nb x y z v k = wr1 R nb k := by
  unfold wrC
  rw [upd_n h2, upd_n (by omega), upd_n (by omega), upd_n (by omega), upd_n (by omega), upd_n (by omega)]
theorem wrC_w {R : Nat → Int32} {nb : Nat} {x y z v : Int32} : wrC R nb x y z v (22 + 5 * wrK nb + 0) = wr1 R nb 0 ∧ wrC R nb x y z v (22 + 5 * wrK nb + 1) = x ∧ wrC R nb x y z v (22 + 5 * wrK nb + 2) = y ∧ wrC R nb x y z v (22 + 5 * wrK nb + 3) = v ∧ wrC R nb x y z v (22 + 5 * wrK nb + 4) = if z = 0 then 0 else 1 := by
  unfold wrC
  refine ⟨?_, ?_, ?_, ?_, ?_⟩
  · rw [upd_n (by omega), upd_n (by omega), upd_n (by omega), upd_n (by omega), upd_n (by omega), Nat.add_zero, upd_s]
  · rw [upd_n (by omega), upd_n (by omega), upd_n (by omega), upd_n (by omega), upd_s]
  · rw [upd_n (by omega), upd_n (by omega), upd_n (by omega), upd_s]
  · rw [upd_n (by omega), upd_n (by omega), upd_s]
  · rw [upd_n (by omega), upd_s]
theorem pk_line {sp f c d e : Nat} {y : Int32} (hy : y = nI c - 1) : (((nI sp * 5 + nI f) * 9 + y + 1) * 5 + nI d) * 2 + nI e = nI ((((sp * 5 + f) * 9 + c) * 5 + d) * 2 + e) := by
  have e1 : (nI sp * 5 + nI f) * 9 + y + 1 = nI ((sp * 5 + f) * 9 + c) := by
    rw [hy, show (nI sp * 5 + nI f) * 9 = nI ((sp * 5 + f) * 9) from by
      show (nI sp * nI 5 + nI f) * nI 9 = _
      rw [pk_mul, nI_add, pk_mul], Int32.add_assoc, Int32.sub_add_cancel, nI_add]
  rw [e1]
  show (nI _ * nI 5 + nI d) * nI 2 + nI e = _
  rw [pk_mul, nI_add, pk_mul, nI_add]
theorem bk_step {R A : Nat → Int32} {nb sp f c d e : Nat} {y z z' : Int32} (h : bkA R A nb) (hb : nb ≤ 20) (h0 : R 0 = nI sp) (h5 : A 5 = nI sp) (hsp : sp ≤ 9999) (hf : f < 5) (hc : c ≤ 8) (hy : y = nI c - 1) (hd : d < 5) (hR : R (11 + f) = nI d) (hA : A (17 + 2 * f) = nI d) (he : e < 2) (hz : (if z = 0 then (0 : Int32) else 1) = nI e) (hz' : (if z' = 0 then (0 : Int32) else 1) = nI e) : bkA (wrC R nb (nI f) y z (wr1 R nb (11 + f))) (wmC A nb f (nI f) y z') (wrK nb + 1) := by
  intro i hi
  by_cases e1 : i = wrK nb
  · subst e1
    obtain ⟨w0, w1, w2, w3, w4⟩ := wrC_w (R := R) (nb := nb) (x := nI f) (y := y) (z := z) (v := wr1 R nb (11 + f))
    refine ⟨sp, f, c, d, e, hsp, hf, hc, hd, he, ?_, w1, w2.trans hy, ?_, w4.trans hz, ?_⟩
    · exact w0.trans ((wr1_n (by omega)).trans h0)
    · exact w3.trans ((wr1_n (by omega)).trans hR)
    · unfold wmC
      rw [upd_n (by omega), upd_s, wm1_n (by omega) (by omega), wm1_n (by omega) (by omega), h5, hA, hz']
      exact pk_line hy
  · have hlt : i < wrK nb := by omega
    by_cases e20 : nb = 20
    · subst e20
      have hk : wrK 20 = 19 := rfl
      rw [hk] at hlt
      refine bkE_c (h (i + 1) (by omega)) (fun w hw => ?_) ?_
      · rw [wrC_lo (by rw [hk]; omega) (by omega), wr1_g (w := w) (by omega) (by omega)]
        congr 1
        omega
      · unfold wmC
        rw [upd_n (by omega), hk, upd_n (by omega)]
        unfold wm1
        rw [if_pos rfl, upd_n (by omega), shM_g hlt]
        congr 1
    · have hk : wrK nb = nb := if_neg e20
      rw [hk] at hlt
      refine bkE_c (h i hlt) (fun w hw => ?_) ?_
      · rw [wrC_lo (by rw [hk]; omega) (by omega), wr1_f e20]
      · unfold wmC
        rw [upd_n (by omega), hk, upd_n (by omega)]
        unfold wm1
        rw [if_neg e20]
/-! what is left -/
def pc5 (w : Nat) : Nat := w % 2 + w / 2 % 2 + w / 4 % 2 + w / 8 % 2 + w / 16 % 2
theorem lf_dec : ∀ w, w < 32 → ∀ d, d < 5 → bt (nI w) d = true → nI w &&& (one (nI d) ^^^ -1) = nI (w - 2 ^ d) ∧ w - 2 ^ d < 32 ∧ pc5 (w - 2 ^ d) + 1 = pc5 w := by decide +kernel
theorem lf_ex : ∀ w, w < 32 → 0 < pc5 w → ∃ d, d < 5 ∧ bt (nI w) d = true := by decide +kernel
theorem bo_none {V : Nat → Int32} {y : Int32} : ∀ {i : Nat}, i < 2 ^ 31 → boF V y i = -1 → ∀ j, j < i → ¬ hs y (nI j)
  | 0, _, _, j, hj => absurd hj (by omega)
  | i + 1, hb, h, j, hj => by
    by_cases c : hs y (nI i) ∧ (boF V y i = -1 ∨ V (ix (boF V y i)) < V i)
    · rw [← bo_t c.1 c.2] at h
      exact absurd h (nI_ne_m1 (by omega))
    · rw [← bo_f c] at h
      by_cases e : j = i
      · rw [e]
        exact fun z => c ⟨z, Or.inl h⟩
      · exact bo_none (by omega) h j (by omega)
theorem bo_some {V : Nat → Int32} {w : Nat} (hw : w < 32) (hp : 0 < pc5 w) : ∃ d, d < 5 ∧ boF V (nI w) 5 = nI d ∧ bt (nI w) d = true := by
  obtain ⟨d, hd, hb⟩ := lf_ex w hw hp
  rcases bo_in (V := V) (y := nI w) (i := 5) with z | ⟨j, hj, z, z2⟩
  · exact absurd ((hs_bt (by omega)).mpr hb) (bo_none (by decide) z d hd)
  · exact ⟨j, hj, z, (hs_bt (by omega)).mp z2⟩
/-! one who chooses -/
def pcR (wr : Bool) (sp m : Nat) (q q' : pC) : Prop := coR q.1 q'.1 ∧ q.2.1 = q'.2.1 ∧ (∃ w, w < 32 ∧ q.2.1 = nI w ∧ m ≤ pc5 w) ∧ q.2.2 ≤ 20 ∧ (wr = true → q.2.2 = q'.2.2 ∧ bkA q.1 q'.1 q.2.2) ∧ q.1 0 = nI sp
theorem pc_step {wr : Bool} {sp m f c e : Nat} {q q' : pC} {V V' : Nat → Nat → Int32} {sy cl : Nat → Int32} {lost z : Int32} (h : pcR wr sp (m + 1) q q') (hsp : sp ≤ 9999) (hf : f < 5) (hV : ∀ k, k < 5 → V f k = V' f k) (hsc : sy f = cl f) (hc : c ≤ 8) (hsy : sy f = nI c - 1) (he : e < 2) (hz : (if bP (hs lost (nI f)) = 0 then (0 : Int32) else 1) = nI e) (hz' : (if z = 0 then (0 : Int32) else 1) = nI e) : pcR wr sp m (cC V sy lost f q) (cM wr V' cl z f q') := by
  obtain ⟨⟨h0, h1, h2, h3, h4, h5⟩, hl, ⟨w, hw, hlw, hm⟩, hb, hbk, hs0⟩ := h
  obtain ⟨d, hd, hbo, hbit⟩ := bo_some (V := V f) hw (by omega)
  have hcb : cB V f q.2.1 = nI d := by
    unfold cB
    rw [hlw]
    exact hbo
  have hcb' : cB V' f q'.2.1 = nI d := by
    rw [← hcb, ← hl]
    unfold cB
    exact (bo_c (by decide) hV).symm
  obtain ⟨l1, l2, l3⟩ := lf_dec w hw d hd hbit
  have hrow : ∀ k, k < 21 → (cC V sy lost f q).1 k = upd q.1 (11 + f) (nI d) k := fun k hk => by
    unfold cC
    dsimp only
    rw [wrC_n hk, hcb]
  have hrow' : ∀ k, k < 1346 → k ≠ 8 → (cM wr V' cl z f q').1 k = upd q'.1 (17 + 2 * f) (nI d) k := fun k hk h8 => by
    unfold cM
    dsimp only
    rw [hcb']
    split
    · rw [wmC_n hk h8]
    · rfl
  refine ⟨⟨?_, ?_, ?_, fun c hc => ?_, fun g hg => ?_, fun g hg => ?_⟩, ?_, ⟨w - 2 ^ d, l2, ?_, by omega⟩, by have := wrK_lt hb; show wrK q.2.2 + 1 ≤ 20; omega, fun hwr => ?_, ?_⟩
  · rw [hrow 0 (by omega), hrow' 5 (by omega) (by omega), upd_n (by omega), upd_n (by omega), h0]
  · rw [hrow 1 (by omega), hrow' 6 (by omega) (by omega), upd_n (by omega), upd_n (by omega), h1]
  · rw [hrow 2 (by omega), hrow' 7 (by omega) (by omega), upd_n (by omega), upd_n (by omega), h2]
  · rw [hrow _ (by omega), hrow' _ (by omega) (by omega), upd_n (by omega), upd_n (by omega), h3 c hc]
  · rw [hrow _ (by omega), hrow' _ (by omega) (by omega)]
    by_cases e1 : g = f
    · rw [e1, upd_s, upd_s]
    · rw [upd_n (by omega), upd_n (by omega), h4 g hg]
  · rw [hrow _ (by omega), hrow' _ (by omega) (by omega), upd_n (by omega), upd_n (by omega)]
    exact h5 g hg
  · unfold cC cM
    dsimp only
    rw [hcb, hcb', hl]
  · unfold cC
    dsimp only
    rw [hcb, hlw, l1]
  · obtain ⟨b1, b2⟩ := hbk hwr
    have e1 : (cM wr V' cl z f q').2.2 = wrK q'.2.2 + 1 := by unfold cM; dsimp only; rw [if_pos hwr]
    have e2 : (cM wr V' cl z f q').1 = wmC (upd q'.1 (17 + 2 * f) (nI d)) q'.2.2 f (nI f) (cl f) z := by unfold cM; dsimp only; rw [if_pos hwr, hcb']
    have e3 : (cC V sy lost f q).1 = wrC (upd q.1 (11 + f) (nI d)) q.2.2 (nI f) (sy f) (bP (hs lost (nI f))) (wr1 (upd q.1 (11 + f) (nI d)) q.2.2 (11 + f)) := by unfold cC; dsimp only; rw [hcb]
    rw [e1, e2, e3, ← b1, ← hsc]
    refine ⟨rfl, ?_⟩
    show bkA _ _ (wrK q.2.2 + 1)
    refine bk_step (sp := sp) (c := c) (d := d) (e := e) ?_ hb (by rw [upd_n (by omega)]; exact hs0) (by rw [upd_n (by omega), ← h0]; exact hs0) hsp hf hc hsy hd upd_s upd_s he hz hz'
    intro i hi
    refine bkE_c (b2 i hi) (fun w hw => ?_) ?_
    · rw [upd_n (by omega)]
    · rw [upd_n (by omega)]
  · rw [hrow 0 (by omega), upd_n (by omega)]
    exact hs0
