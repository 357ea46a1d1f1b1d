/-- the digits c give each who would have something, from i on, one of what is left -/
def vdb (m c : Nat → Nat) : Nat → Nat → Nat → Bool
  | 0, _, _ => true
  | d + 1, i, l => if m i = 0 then decide (c i = 0) && vdb m c d (i + 1) l else (m i &&& l).testBit (c i) && vdb m c d (i + 1) (l &&& (31 ^^^ 2 ^ c i))
abbrev vd (m c : Nat → Nat) (d i l : Nat) : Prop := vdb m c d i l = true
theorem vd_z {m c : Nat → Nat} {d i l : Nat} (h : m i = 0) : vd m c (d + 1) i l ↔ c i = 0 ∧ vd m c d (i + 1) l := by
  show (if m i = 0 then _ else _) = true ↔ _
  rw [if_pos h, Bool.and_eq_true, decide_eq_true_eq]
theorem vd_k {m c : Nat → Nat} {d i l : Nat} (h : ¬ m i = 0) : vd m c (d + 1) i l ↔ (m i &&& l).testBit (c i) = true ∧ vd m c d (i + 1) (l &&& (31 ^^^ 2 ^ c i)) := by
  show (if m i = 0 then _ else _) = true ↔ _
  rw [if_neg h, Bool.and_eq_true]
theorem vd_c {m c c' : Nat → Nat} : ∀ {d i l : Nat}, (∀ j, i ≤ j → j < i + d → c j = c' j) → (vd m c d i l ↔ vd m c' d i l)
  | 0, _, _, _ => Iff.rfl
  | d + 1, i, l, h => by
    have e := h i (Nat.le_refl _) (by omega)
    by_cases z : m i = 0
    · rw [vd_z z, vd_z z, e, vd_c (fun j h1 h2 => h j (by omega) (by omega))]
    · rw [vd_k z, vd_k z, e, vd_c (fun j h1 h2 => h j (by omega) (by omega))]
/-- the digits as a number -/
def cdN (c : Nat → Nat) : Nat → Nat → Nat
  | 0, _ => 0
  | d + 1, i => c i * 5 ^ d + cdN c d (i + 1)
theorem cdN_s {c : Nat → Nat} {d i : Nat} : cdN c (d + 1) i = c i * 5 ^ d + cdN c d (i + 1) := rfl
theorem cdN_c {c c' : Nat → Nat} : ∀ {d i : Nat}, (∀ j, i ≤ j → j < i + d → c j = c' j) → cdN c d i = cdN c' d i
  | 0, _, _ => rfl
  | d + 1, i, h => by rw [cdN_s, cdN_s, h i (Nat.le_refl _) (by omega), cdN_c (fun j h1 h2 => h j (by omega) (by omega))]
theorem cdN_lt {c : Nat → Nat} (h : ∀ j, c j < 5) : ∀ {d i : Nat}, cdN c d i < 5 ^ d
  | 0, _ => Nat.lt_succ_self 0
  | d + 1, i => by
    have h1 := cdN_lt h (d := d) (i := i + 1)
    have h2 : c i * 5 ^ d ≤ 4 * 5 ^ d := Nat.mul_le_mul_right _ (by have := h i; omega)
    rw [cdN_s, Nat.pow_succ]
    omega
/-- the first choice is good, and the least that is -/
def slG (m : Nat → Nat) (d i l : Nat) (o : Option (Nat → Nat)) : Prop := match o with
  | none => ∀ c, (∀ j, c j < 5) → ¬ vd m c d i l
  | some c => (∀ j, c j < 5) ∧ vd m c d i l ∧ ∀ c', (∀ j, c' j < 5) → vd m c' d i l → cdN c d i ≤ cdN c' d i
theorem slK_g {m : Nat → Nat} {d i l : Nat} (hm : ¬ m i = 0) (IH : ∀ i l, slG m d i l (slO m d i l)) : ∀ k, k ≤ 5 → (slK m d i l k = none ∧ ∀ c, (∀ j, c j < 5) → c i < k → ¬ vd m c (d + 1) i l) ∨ (∃ c, slK m d i l k = some c ∧ slG m (d + 1) i l (some c))
  | 0, _ => Or.inl ⟨rfl, fun c _ h => by omega⟩
  | k + 1, hk => by
    rcases slK_g hm IH k (by omega) with ⟨h1, h2⟩ | ⟨c, h1, h2⟩
    · by_cases hb : (m i &&& l).testBit k = true
      · have hi := IH (i + 1) (l &&& (31 ^^^ 2 ^ k))
        cases ho : slO m d (i + 1) (l &&& (31 ^^^ 2 ^ k)) with
        | none =>
          rw [ho] at hi
          left
          refine ⟨by rw [slK_t h1 hb, ho]; rfl, fun c hc hci hv => ?_⟩
          rcases Nat.lt_or_ge (c i) k with q | q
          · exact h2 c hc q hv
          · have e : c i = k := by omega
            have hv2 := ((vd_k hm).mp hv).2
            rw [e] at hv2
            exact hi c hc hv2
        | some c2 =>
          rw [ho] at hi
          obtain ⟨i1, i2, i3⟩ := hi
          right
          refine ⟨fun j => if j = i then k else c2 j, by rw [slK_t h1 hb, ho]; rfl, fun j => ?_, ?_, fun c' hc' hv => ?_⟩
          · show (if j = i then k else c2 j) < 5
            split
            · omega
            · exact i1 j
          · refine (vd_k hm).mpr ?_
            show (m i &&& l).testBit (if i = i then k else c2 i) = true ∧ vd m _ d (i + 1) (l &&& (31 ^^^ 2 ^ (if i = i then k else c2 i)))
            rw [if_pos rfl]
            exact ⟨hb, (vd_c (fun j h1 h2 => by show (if j = i then k else c2 j) = c2 j; rw [if_neg (by omega)])).mpr i2⟩
          · rw [cdN_s, cdN_s]
            show (if i = i then k else c2 i) * 5 ^ d + _ ≤ _
            rw [if_pos rfl, cdN_c (c' := c2) (fun j h1 h2 => by show (if j = i then k else c2 j) = c2 j; rw [if_neg (by omega)])]
            rcases Nat.lt_trichotomy (c' i) k with q | q | q
            · exact absurd hv (h2 c' hc' q)
            · have hv2 := ((vd_k hm).mp hv).2
              rw [q] at hv2 ⊢
              have := i3 c' hc' hv2
              omega
            · have z1 := cdN_lt i1 (d := d) (i := i + 1)
              have z2 : (k + 1) * 5 ^ d ≤ c' i * 5 ^ d := Nat.mul_le_mul_right _ q
              rw [Nat.succ_mul] at z2
              omega
      · left
        refine ⟨slK_n h1 hb, fun c hc hci hv => ?_⟩
        rcases Nat.lt_or_ge (c i) k with q | q
        · exact h2 c hc q hv
        · have e : c i = k := by omega
          have hv2 := ((vd_k hm).mp hv).1
          rw [e] at hv2
          exact hb hv2
    · exact Or.inr ⟨c, slK_st h1 (by omega), h2⟩
theorem slO_g {m : Nat → Nat} : ∀ d i l, slG m d i l (slO m d i l)
  | 0, _, _ => ⟨fun _ => Nat.zero_lt_succ 4, rfl, fun _ _ _ => Nat.le_refl _⟩
  | d + 1, i, l => by
    by_cases hm : m i = 0
    · rw [slO_z hm]
      have hi := slO_g (m := m) d (i + 1) l
      cases ho : slO m d (i + 1) l with
      | none =>
        rw [ho] at hi
        exact fun c hc hv => hi c hc ((vd_z hm).mp hv).2
      | some c2 =>
        rw [ho] at hi
        obtain ⟨i1, i2, i3⟩ := hi
        refine ⟨fun j => ?_, (vd_z hm).mpr ⟨if_pos rfl, (vd_c (fun j h1 h2 => by show (if j = i then 0 else c2 j) = c2 j; rw [if_neg (by omega)])).mpr i2⟩, fun c' hc' hv => ?_⟩
        · show (if j = i then 0 else c2 j) < 5
          split
          · omega
          · exact i1 j
        · rw [cdN_s, cdN_s]
          show (if i = i then 0 else c2 i) * 5 ^ d + _ ≤ _
          rw [if_pos rfl, cdN_c (c' := c2) (fun j h1 h2 => by show (if j = i then 0 else c2 j) = c2 j; rw [if_neg (by omega)])]
          have := i3 c' hc' ((vd_z hm).mp hv).2
          omega
    · rw [slO_k hm]
      rcases slK_g hm (slO_g (m := m) d) 5 (by omega) with ⟨h1, h2⟩ | ⟨c, h1, h2⟩
      · rw [h1]
        exact fun c hc => h2 c hc (hc i)
      · rw [h1]
        exact h2
theorem slO_all0 {m : Nat → Nat} : ∀ {d i l : Nat}, (∀ j, i ≤ j → m j = 0) → slO m d i l = some (fun _ => 0)
  | 0, _, _, _ => rfl
  | d + 1, i, l, h => by
    rw [slO_z (h i (Nat.le_refl _)), slO_all0 (fun j hj => h j (by omega))]
    show some _ = _
    congr 1
    funext j
    show (if j = i then 0 else 0) = 0
    split <;> rfl
theorem slO_ext {m m' : Nat → Nat} {e : Nat} : ∀ {d i l : Nat}, (∀ j, i ≤ j → j < i + d → m j = m' j) → (∀ j, i + d ≤ j → m' j = 0) → slO m' (d + e) i l = slO m d i l
  | 0, i, l, _, h2 => by
    rw [Nat.zero_add, slO_all0 (fun j hj => h2 j (by omega))]
    rfl
  | d + 1, i, l, h1, h2 => by
    have ei := h1 i (Nat.le_refl _) (by omega)
    have IH : ∀ l, slO m' (d + e) (i + 1) l = slO m d (i + 1) l := fun l => slO_ext (fun j h3 h4 => h1 j (by omega) (by omega)) (fun j h3 => h2 j (by omega))
    rw [show d + 1 + e = (d + e) + 1 by omega]
    by_cases hm : m i = 0
    · rw [slO_z hm, slO_z (by rw [← ei]; exact hm), IH]
    · rw [slO_k hm, slO_k (by rw [← ei]; exact hm)]
      unfold slK
      rw [ei]
      simp only [IH]
theorem d5_N {N : Nat} (h : N < 3125) : cdN (d5 N) 5 0 = N := by
  show N / 625 % 5 * 625 + (N / 125 % 5 * 125 + (N / 25 % 5 * 25 + (N / 5 % 5 * 5 + (N / 1 % 5 * 1 + 0)))) = N
  omega
theorem d5_c {c : Nat → Nat} (h : ∀ j, c j < 5) : ∀ j, j < 5 → d5 (cdN c 5 0) j = c j := by
  intro j hj
  have e : cdN c 5 0 = c 0 * 625 + (c 1 * 125 + (c 2 * 25 + (c 3 * 5 + (c 4 * 1 + 0)))) := rfl
  have h0 := h 0
  have h1 := h 1
  have h2 := h 2
  have h3 := h 3
  have h4 := h 4
  unfold d5
  rcases (show j = 0 ∨ j = 1 ∨ j = 2 ∨ j = 3 ∨ j = 4 by omega) with rfl | rfl | rfl | rfl | rfl
  · show cdN c 5 0 / 625 % 5 = _
    omega
  · show cdN c 5 0 / 125 % 5 = _
    omega
  · show cdN c 5 0 / 25 % 5 = _
    omega
  · show cdN c 5 0 / 5 % 5 = _
    omega
  · show cdN c 5 0 / 1 % 5 = _
    omega
/-- the least number is the first choice -/
theorem so_eq {m c : Nat → Nat} {N : Nat} (ho : slO m 5 0 31 = some c) (hN : vd m (d5 N) 5 0 31) (hN3 : N < 3125) (hl : ∀ n, n < N → ¬ vd m (d5 n) 5 0 31) : ∀ j, j < 5 → d5 N j = c j := by
  have g := slO_g (m := m) 5 0 31
  rw [ho] at g
  obtain ⟨g1, g2, g3⟩ := g
  have e1 := g3 _ (fun j => d5_lt) hN
  rw [d5_N hN3] at e1
  have e2 : ¬ cdN c 5 0 < N := fun z => hl _ z ((vd_c (fun j _ hj => d5_c g1 j (by omega))).mpr g2)
  have e3 : N = cdN c 5 0 := by omega
  rw [e3]
  exact d5_c g1
/-- those who'd have nothing outside t, of what is left -/
abbrev sb (a t : Nat) : Prop := a &&& t = a
theorem sb_i {a t : Nat} : sb a t ↔ ∀ b, a.testBit b = true → t.testBit b = true := by
  constructor
  · intro h b hb
    rw [← h, Nat.testBit_and] at hb
    exact (Bool.and_eq_true_iff.mp hb).2
  · intro h
    apply Nat.eq_of_testBit_eq
    intro b
    rw [Nat.testBit_and]
    cases hb : a.testBit b
    · rfl
    · rw [h b hb]
      rfl
def cnt (m : Nat → Nat) (l t : Nat) : Nat → Nat → Nat
  | 0, _ => 0
  | d + 1, i => (if m i ≠ 0 ∧ sb (m i &&& l) t then 1 else 0) + cnt m l t d (i + 1)
theorem cnt_s {m : Nat → Nat} {l t d i : Nat} : cnt m l t (d + 1) i = (if m i ≠ 0 ∧ sb (m i &&& l) t then 1 else 0) + cnt m l t d (i + 1) := rfl
theorem cnt_mono {m : Nat → Nat} {l l' t t' : Nat} (h : ∀ x, sb (x &&& l) t → sb (x &&& l') t') : ∀ {d i : Nat}, cnt m l t d i ≤ cnt m l' t' d i
  | 0, _ => Nat.le_refl _
  | d + 1, i => by
    rw [cnt_s, cnt_s]
    have := cnt_mono h (m := m) (d := d) (i := i + 1)
    by_cases c : m i ≠ 0 ∧ sb (m i &&& l) t
    · rw [if_pos c, if_pos ⟨c.1, h _ c.2⟩]
      omega
    · rw [if_neg c]
      omega
theorem cnt_or {m : Nat → Nat} {l a b : Nat} : ∀ {d i : Nat}, cnt m l a d i + cnt m l b d i ≤ cnt m l (a ||| b) d i + cnt m l (a &&& b) d i
  | 0, _ => Nat.le_refl _
  | d + 1, i => by
    rw [cnt_s, cnt_s, cnt_s, cnt_s]
    have := cnt_or (m := m) (l := l) (a := a) (b := b) (d := d) (i := i + 1)
    have o1 : sb (m i &&& l) a → sb (m i &&& l) (a ||| b) := fun z => sb_i.mpr (fun k hk => by rw [Nat.testBit_or, sb_i.mp z k hk]; rfl)
    have o2 : sb (m i &&& l) b → sb (m i &&& l) (a ||| b) := fun z => sb_i.mpr (fun k hk => by rw [Nat.testBit_or, sb_i.mp z k hk, Bool.or_true])
    have o3 : sb (m i &&& l) a → sb (m i &&& l) b → sb (m i &&& l) (a &&& b) := fun y z => sb_i.mpr (fun k hk => by rw [Nat.testBit_and, sb_i.mp y k hk, sb_i.mp z k hk]; rfl)
    by_cases c0 : m i ≠ 0
    · by_cases ca : sb (m i &&& l) a
      · by_cases cb : sb (m i &&& l) b
        · rw [if_pos ⟨c0, ca⟩, if_pos ⟨c0, cb⟩, if_pos ⟨c0, o1 ca⟩, if_pos ⟨c0, o3 ca cb⟩]
          omega
        · rw [if_pos ⟨c0, ca⟩, if_neg (fun z => cb z.2), if_pos ⟨c0, o1 ca⟩]
          omega
      · by_cases cb : sb (m i &&& l) b
        · rw [if_neg (fun z => ca z.2), if_pos ⟨c0, cb⟩, if_pos ⟨c0, o2 cb⟩]
          omega
        · rw [if_neg (fun z => ca z.2), if_neg (fun z => cb z.2)]
          omega
    · rw [if_neg (fun z => c0 z.1), if_neg (fun z => c0 z.1), if_neg (fun z => c0 z.1), if_neg (fun z => c0 z.1)]
      omega
theorem bc_or : ∀ a, a < 32 → ∀ b, b < 32 → bcN (a ||| b) + bcN (a &&& b) = bcN a + bcN b := by decide +kernel
theorem bc_1 : ∀ a, a < 32 → ∀ v, v < 5 → bcN (a ||| 2 ^ v) ≤ bcN a + 1 := by decide +kernel
theorem n_31 : ∀ v, v < 5 → ∀ k, k < 5 → (31 ^^^ 2 ^ v).testBit k = !decide (k = v) := by decide
theorem tb_5 {a k : Nat} (ha : a < 32) (h : a.testBit k = true) : k < 5 := by
  rcases Nat.lt_or_ge k 5 with q | q
  · exact q
  · rw [Nat.testBit_lt_two_pow (Nat.lt_of_lt_of_le ha (show 32 ≤ 2 ^ k from Nat.pow_le_pow_right (n := 2) (by decide) q))] at h
    cases h
theorem hall {m : Nat → Nat} : ∀ {d i l : Nat}, l < 32 → (∀ t, t < 32 → cnt m l t d i ≤ bcN t) → ∃ c, (∀ j, c j < 5) ∧ vd m c d i l
  | 0, _, _, _, _ => ⟨fun _ => 0, fun _ => Nat.zero_lt_succ 4, rfl⟩
  | d + 1, i, l, hl, H => by
    by_cases hm : m i = 0
    · obtain ⟨c, h1, h2⟩ := hall (d := d) (i := i + 1) hl (fun t ht => by
        have := H t ht
        rw [cnt_s] at this
        exact Nat.le_trans (Nat.le_add_left _ _) this)
      refine ⟨fun j => if j = i then 0 else c j, fun j => ?_, (vd_z hm).mpr ⟨if_pos rfl, (vd_c (fun j h1 h2 => by show (if j = i then 0 else c j) = c j; rw [if_neg (by omega)])).mpr h2⟩⟩
      show (if j = i then 0 else c j) < 5
      split
      · omega
      · exact h1 j
    · have H1 : ∀ t, t < 32 → cnt m l t d (i + 1) ≤ bcN t := fun t ht => by
        have := H t ht
        rw [cnt_s] at this
        omega
      by_cases hx : ∃ v, v < 5 ∧ (m i &&& l).testBit v = true ∧ ∀ t, t < 32 → cnt m (l &&& (31 ^^^ 2 ^ v)) t d (i + 1) ≤ bcN t
      · obtain ⟨v, v1, v2, v3⟩ := hx
        obtain ⟨c, h1, h2⟩ := hall (d := d) (i := i + 1) (Nat.lt_of_le_of_lt Nat.and_le_left hl) v3
        refine ⟨fun j => if j = i then v else c j, fun j => ?_, (vd_k hm).mpr ?_⟩
        · show (if j = i then v else c j) < 5
          split
          · omega
          · exact h1 j
        · show (m i &&& l).testBit (if i = i then v else c i) = true ∧ vd m _ d (i + 1) (l &&& (31 ^^^ 2 ^ (if i = i then v else c i)))
          rw [if_pos rfl]
          exact ⟨v2, (vd_c (fun j h1 h2 => by show (if j = i then v else c j) = c j; rw [if_neg (by omega)])).mpr h2⟩
      · exfalso
        have tight : ∀ k, k ≤ 5 → ∃ T, T < 32 ∧ bcN T ≤ cnt m l T d (i + 1) ∧ ∀ v, v < k → (m i &&& l).testBit v = true → T.testBit v = true := by
          intro k
          induction k with
          | zero => exact fun _ => ⟨0, by decide, Nat.zero_le _, fun v hv => by omega⟩
          | succ k ih =>
            intro hk
            obtain ⟨T, t1, t2, t3⟩ := ih (by omega)
            by_cases hb : (m i &&& l).testBit k = true
            · have hn : ¬ ∀ t, t < 32 → cnt m (l &&& (31 ^^^ 2 ^ k)) t d (i + 1) ≤ bcN t := fun z => hx ⟨k, by omega, hb, z⟩
              have hn2 : ∃ t, t < 32 ∧ bcN t < cnt m (l &&& (31 ^^^ 2 ^ k)) t d (i + 1) := Decidable.byContradiction (fun z => hn (fun t ht => by
                rcases Nat.lt_or_ge (bcN t) (cnt m (l &&& (31 ^^^ 2 ^ k)) t d (i + 1)) with q | q
                · exact absurd ⟨t, ht, q⟩ z
                · exact q))
              obtain ⟨t, u1, u2⟩ := hn2
              have p5 : 2 ^ k < 32 := Nat.pow_lt_pow_right (m := k) (n := 5) (by decide) (by omega)
              have w1 : t ||| 2 ^ k < 32 := Nat.or_lt_two_pow (n := 5) u1 p5
              have w2 : cnt m (l &&& (31 ^^^ 2 ^ k)) t d (i + 1) ≤ cnt m l (t ||| 2 ^ k) d (i + 1) := cnt_mono (fun x hs => sb_i.mpr (fun b hb => by
                rw [Nat.testBit_and] at hb
                obtain ⟨b1, b2⟩ := Bool.and_eq_true_iff.mp hb
                rw [Nat.testBit_or, Nat.testBit_two_pow]
                by_cases hkb : k = b
                · rw [decide_eq_true hkb, Bool.or_true]
                · have b5 : b < 5 := tb_5 hl b2
                  rw [sb_i.mp hs b (by rw [Nat.testBit_and, Nat.testBit_and, b1, b2, n_31 k (by omega) b b5, decide_eq_false (fun z => hkb z.symm)]; rfl)]
                  rfl))
              have w3 := bc_1 t u1 k (by omega)
              have w4 := bc_or T t1 (t ||| 2 ^ k) w1
              have w5 := cnt_or (m := m) (l := l) (a := T) (b := t ||| 2 ^ k) (d := d) (i := i + 1)
              have w6 := H1 (T &&& (t ||| 2 ^ k)) (Nat.lt_of_le_of_lt Nat.and_le_left t1)
              refine ⟨T ||| (t ||| 2 ^ k), Nat.or_lt_two_pow (n := 5) t1 w1, by omega, fun v hv hb2 => ?_⟩
              rw [Nat.testBit_or]
              by_cases hvk : v = k
              · rw [hvk, Nat.testBit_or, Nat.testBit_two_pow, decide_eq_true rfl, Bool.or_true, Bool.or_true]
              · rw [t3 v (by omega) hb2]
                rfl
            · refine ⟨T, t1, t2, fun v hv hb2 => ?_⟩
              by_cases hvk : v = k
              · rw [hvk] at hb2
                exact absurd hb2 hb
              · exact t3 v (by omega) hb2
        obtain ⟨T, t1, t2, t3⟩ := tight 5 (by omega)
        have hs : sb (m i &&& l) T := sb_i.mpr (fun b hb => t3 b (tb_5 (Nat.lt_of_le_of_lt Nat.and_le_right hl) hb) hb)
        have := H T t1
        rw [cnt_s, if_pos ⟨hm, hs⟩] at this
        omega
