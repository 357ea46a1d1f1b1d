/-- how many of the sets below i are greatest -/
def gcN (n : Nat) (f : Nat → Int32) (i : Nat) : Nat := itr (fun k z => if isG n f (nI k) then z + 1 else z) i 0
theorem gcN_t {n i : Nat} {f : Nat → Int32} (h : isG n f (nI i)) : gcN n f i + 1 = gcN n f (i + 1) := (if_pos h).symm
theorem gcN_f {n i : Nat} {f : Nat → Int32} (h : ¬ isG n f (nI i)) : gcN n f i = gcN n f (i + 1) := (if_neg h).symm
theorem gcN_le {n : Nat} {f : Nat → Int32} (i : Nat) : gcN n f i ≤ i := by
  induction i with
  | zero => exact Nat.le_refl _
  | succ i ih =>
    by_cases h : isG n f (nI i)
    · rw [← gcN_t h]; omega
    · rw [← gcN_f h]; omega
theorem gcN_mono {n : Nat} {f : Nat → Int32} {i j : Nat} (h : i ≤ j) : gcN n f i ≤ gcN n f j := by
  induction j with
  | zero => rw [show i = 0 by omega]; exact Nat.le_refl _
  | succ j ih =>
    rcases Nat.lt_or_ge i (j + 1) with q | q
    · have h1 := ih (by omega)
      by_cases h2 : isG n f (nI j)
      · rw [← gcN_t h2]; omega
      · rw [← gcN_f h2]; exact h1
    · rw [show i = j + 1 by omega]; exact Nat.le_refl _
/-- the greatest set of number x among those below i; none: -2 -/
def gfd (n : Nat) (f : Nat → Int32) (x : Int32) (i : Nat) : Int32 := itr (fun k z => if isG n f (nI k) ∧ nI (gcN n f k) = x then nI k else z) i (-2)
theorem gfd_t {n i : Nat} {f : Nat → Int32} {x : Int32} (h : isG n f (nI i) ∧ nI (gcN n f i) = x) : nI i = gfd n f x (i + 1) := (if_pos h).symm
theorem gfd_f {n i : Nat} {f : Nat → Int32} {x : Int32} (h : ¬ (isG n f (nI i) ∧ nI (gcN n f i) = x)) : gfd n f x i = gfd n f x (i + 1) := (if_neg h).symm
theorem gfd_stay {n i : Nat} {f : Nat → Int32} {x : Int32} (h : isG n f (nI i) ∧ nI (gcN n f i) = x) : ∀ j, i < j → j ≤ 256 → gfd n f x j = nI i := by
  intro j
  induction j with
  | zero => intro q; omega
  | succ j ih =>
    intro h1 h2
    rcases Nat.lt_or_ge i j with q | q
    · rw [← gfd_f, ih q (by omega)]
      intro z
      have e1 := gcN_t h.1
      have e2 := gcN_mono (n := n) (f := f) (show i + 1 ≤ j by omega)
      have e3 := gcN_le (n := n) (f := f) j
      have e4 := gcN_le (n := n) (f := f) i
      have e5 := (nI_eq (a := gcN n f j) (b := gcN n f i) (by omega) (by omega)).mp (z.2.trans h.2.symm)
      omega
    · have : i = j := by omega
      subst this
      exact (gfd_t h).symm
theorem gfd_m1 {n : Nat} {f : Nat → Int32} (i : Nat) (hi : i ≤ 256) : gfd n f (-1) i = -2 := by
  induction i with
  | zero => rfl
  | succ i ih =>
    rw [← gfd_f, ih (by omega)]
    intro z
    have := gcN_le (n := n) (f := f) i
    exact nI_ne_m1 (by omega) z.2
theorem out_gt0 {i N : Nat} (hi : i ≤ N + 1) (hN : N ≤ 255) (c : nI N < nI i) : i = N + 1 := by
  have := (nI_ltI (by omega) (by omega)).mp c
  omega
theorem in_gt0 {i N : Nat} (hi : i ≤ N + 1) (hN : N ≤ 255) (c : ¬ nI N < nI i) : i ≤ N := by
  rcases Nat.lt_or_ge N i with q | q
  · exact absurd (nI_lt q (by omega)) c
  · exact q
set_option maxHeartbeats 600000 in
theorem k_X0_greatest {l : Launch} {E : gk_E} (ho : E.2.2.2.2 = true) {S : gk_S} {x : Int32} {a n : Nat} {f : Nat → Int32} (hu : RU E S a n f) : gk_T l E yX0_greatest cX0_greatest 4 ((some .int)) 5 106 0 0 [.ref (E.2.2.1 0), .int x] S (fun r S' => r = some (.int (if x = -1 then nI (gcN n f (2 ^ n - 1 + 1)) else gfd n f x (2 ^ n - 1 + 1))) ∧ S' = S) := by
  refine gk_T.of [some (.ref (E.2.2.1 0)), some (.int x), none, none] (by decide) (Nat.le_of_ble_eq_true rfl) (le_1 rfl (le_1 rfl (le_p (le_p le_n)))) ?_
  intro p_ e_ R_ s_ m_ args_ below_ meth_ c_ hR X hr hin
  subst hR
  have hn8 : n ≤ 8 := hu.1
  obtain ⟨hN, hN2⟩ := alC_n hn8
  refine g_iconst (v := 0) X dX0_greatest_0 rfl ?_
  refine g_istore_n X dX0_greatest_1 (Nat.le_of_ble_eq_true rfl) ?_
  refine g_iconst (v := 0) X dX0_greatest_2 rfl ?_
  refine g_istore_n X dX0_greatest_3 (Nat.le_of_ble_eq_true rfl) ?_
  refine g_loop (σ := Nat) (fun (i : Nat) => S) (fun (i : Nat) => ([some (.ref (E.2.2.1 0)), some (.int x), some (.int (nI (gcN n f i))), some (.int (nI i))] : List (Option Value))) (fun (i : Nat) => i ≤ 2 ^ n - 1 + 1 ∧ gfd n f x i = -2) (fun (i : Nat) => 2 ^ n - 1 + 1 - i) (0) ?_ (rfl) (le_1 rfl (le_1 rfl (le_1 rfl (le_1 rfl le_n)))) ?_
  · exact ⟨Nat.zero_le _, rfl⟩
  intro i hI ih
  try dsimp only at hI ih ⊢
  refine g_iload_n X dX0_greatest_4 rfl ?_
  refine g_aload_n X dX0_greatest_5 rfl ?_
  refine g_callV (C := RX0) (T := TX0) (N := 13) X (k_X0_allClaims ho hu) (lw_V q1039 q1041 qs31 q135 q1042) hd_X0_allClaims dX0_greatest_6 (rd0 ho) rfl rfl ⟨Nat.le_of_ble_eq_true rfl, Nat.le_of_ble_eq_true rfl⟩ ⟨Nat.le_of_ble_eq_true rfl, Nat.le_of_ble_eq_true rfl⟩ (Nat.le_of_ble_eq_true rfl) ?_
  rintro _ S1 ⟨rfl, hS1⟩
  obtain rfl := hS1.symm
  refine g_icmp_gt (tgt := 39) X dX0_greatest_9 rfl (fun c9 => ?_) (fun c9 => ?_)
  · have hi : i = 2 ^ n - 1 + 1 := out_gt0 hI.1 hN2 (by rw [← hN]; exact c9)
    subst hi
    refine g_iload_n X dX0_greatest_39 rfl ?_
    refine g_iconst (v := (-1)) X dX0_greatest_40 rfl ?_
    refine g_icmp_ne (tgt := 48) X dX0_greatest_41 rfl (fun c41 => ?_) (fun c41 => ?_)
    · refine g_bipush (v := (-2)) X dX0_greatest_48 rfl ?_
      exact g_iret X hr dX0_greatest_50 (Nat.le_of_ble_eq_true rfl) (Nat.le_of_ble_eq_true rfl) (⟨by rw [if_neg c41, hI.2], rfl⟩)
    · refine g_iload_n X dX0_greatest_44 rfl ?_
      refine g_goto (tgt := 50) X dX0_greatest_45 rfl ?_
      exact g_iret X hr dX0_greatest_50 (Nat.le_of_ble_eq_true rfl) (Nat.le_of_ble_eq_true rfl) (⟨by rw [if_pos c41], rfl⟩)
  · have hi : i ≤ 2 ^ n - 1 := in_gt0 hI.1 hN2 (by rw [← hN]; exact c9)
    refine g_aload_n X dX0_greatest_12 rfl ?_
    refine g_iload_n X dX0_greatest_13 rfl ?_
    refine g_callV (C := RX0) (T := TX0) (N := 13) X (k_X0_isGreatest ho hu) (lw_V q1229 q1231 qs47 q135 q1232) hd_X0_isGreatest dX0_greatest_14 (rd0 ho) rfl rfl ⟨Nat.le_of_ble_eq_true rfl, Nat.le_of_ble_eq_true rfl⟩ ⟨Nat.le_of_ble_eq_true rfl, Nat.le_of_ble_eq_true rfl⟩ (Nat.le_of_ble_eq_true rfl) ?_
    rintro _ S1 ⟨rfl, hS1⟩
    obtain rfl := hS1.symm
    refine g_ifp_ne (tgt := 23) X dX0_greatest_17 rfl (fun c17 => ?_) (fun c17 => ?_)
    · refine g_iload_n X dX0_greatest_23 rfl ?_
      refine g_iload_n X dX0_greatest_24 rfl ?_
      refine g_icmp_ne (tgt := 30) X dX0_greatest_25 rfl (fun c25 => ?_) (fun c25 => ?_)
      · refine g_iinc (v := 1) X dX0_greatest_30 rfl rfl (Nat.le_of_ble_eq_true rfl) ?_
        refine g_iinc (v := 1) X dX0_greatest_33 rfl rfl (Nat.le_of_ble_eq_true rfl) ?_
        refine g_goto (tgt := 4) X dX0_greatest_36 rfl ?_
        refine g_sub (le_1 rfl (le_1 rfl (le_1 (ei (by rw [nI_1, gcN_t c17])) (le_1 e_1 le_n)))) (ih (i + 1) ?_ ?_)
        · try dsimp only
          exact ⟨by omega, by rw [← gfd_f (fun z => c25 z.2)]; exact hI.2⟩
        · try dsimp only
          omega
      · refine g_iload_n X dX0_greatest_28 rfl ?_
        exact g_iret X hr dX0_greatest_29 (Nat.le_of_ble_eq_true rfl) (Nat.le_of_ble_eq_true rfl) (⟨by rw [gfd_stay ⟨c17, c25⟩ (2 ^ n - 1 + 1) (by omega) (by omega), if_neg (fun z => nI_ne_m1 (by have := gcN_le (n := n) (f := f) i; omega) (c25.trans z))], rfl⟩)
    · refine g_goto (tgt := 33) X dX0_greatest_20 rfl ?_
      refine g_iinc (v := 1) X dX0_greatest_33 rfl rfl (Nat.le_of_ble_eq_true rfl) ?_
      refine g_goto (tgt := 4) X dX0_greatest_36 rfl ?_
      refine g_sub (le_1 rfl (le_1 rfl (le_1 (ei (congrArg nI (gcN_f c17))) (le_1 e_1 le_n)))) (ih (i + 1) ?_ ?_)
      · try dsimp only
        exact ⟨by omega, by rw [← gfd_f (fun z => c17 z.1)]; exact hI.2⟩
      · try dsimp only
        omega
set_option maxHeartbeats 600000 in
theorem k_X2_greatest {l : Launch} {E : gk_E} (ho : E.2.2.2.2 = true) {S : gk_S} {x : Int32} {n : Nat} {f : Nat → Int32} (hu : MU S n f) : gk_T l E yX2_greatest cX2_greatest 5 ((some .int)) 3 66 0 0 [.ref (E.2.2.1 3), .int x] S (fun r S' => r = some (.int (if x = -1 then nI (gcN n f (2 ^ n - 1 + 1)) else gfd n f x (2 ^ n - 1 + 1))) ∧ S' = S) := by
  refine gk_T.of [some (.ref (E.2.2.1 3)), some (.int x), none, none, none] (by decide) (Nat.le_of_ble_eq_true rfl) (le_1 rfl (le_1 rfl (le_p (le_p (le_p le_n))))) ?_
  intro p_ e_ R_ s_ m_ args_ below_ meth_ c_ hR X hr hin
  subst hR
  have hn8 : n ≤ 8 := hu.1
  obtain ⟨hN, hN2⟩ := alC_n hn8
  refine g_iconst (v := 0) X dX2_greatest_0 rfl ?_
  refine g_istore_n X dX2_greatest_1 (Nat.le_of_ble_eq_true rfl) ?_
  refine g_bipush (v := (-2)) X dX2_greatest_2 rfl ?_
  refine g_istore_n X dX2_greatest_4 (Nat.le_of_ble_eq_true rfl) ?_
  refine g_iconst (v := 0) X dX2_greatest_5 rfl ?_
  refine g_istore X dX2_greatest_6 (Nat.le_of_ble_eq_true rfl) ?_
  refine g_loop (σ := Nat) (fun (i : Nat) => S) (fun (i : Nat) => ([some (.ref (E.2.2.1 3)), some (.int x), some (.int (nI (gcN n f i))), some (.int (gfd n f x i)), some (.int (nI i))] : List (Option Value))) (fun (i : Nat) => i ≤ 2 ^ n - 1 + 1) (fun (i : Nat) => 2 ^ n - 1 + 1 - i) (0) ?_ (rfl) (le_1 rfl (le_1 rfl (le_1 rfl (le_1 rfl (le_1 rfl le_n))))) ?_
  · exact Nat.zero_le _
  intro i hI ih
  try dsimp only at hI ih ⊢
  refine g_iload X dX2_greatest_8 rfl ?_
  refine g_aload_n X dX2_greatest_10 rfl ?_
  refine g_callV (C := RX2) (T := TX2) (N := 35) X (k_X2_every ho hu) (lw_V q1759 q1761 qs98 q139 q1762) hd_X2_every dX2_greatest_11 (rd3 ho) rfl rfl ⟨Nat.le_of_ble_eq_true rfl, Nat.le_of_ble_eq_true rfl⟩ ⟨Nat.le_of_ble_eq_true rfl, Nat.le_of_ble_eq_true rfl⟩ (Nat.le_of_ble_eq_true rfl) ?_
  rintro _ S1 ⟨rfl, hS1⟩
  obtain rfl := hS1.symm
  refine g_icmp_gt (tgt := 46) X dX2_greatest_14 rfl (fun c14 => ?_) (fun c14 => ?_)
  · have hi : i = 2 ^ n - 1 + 1 := out_gt0 hI hN2 (by rw [← hN]; exact c14)
    subst hi
    refine g_iload_n X dX2_greatest_46 rfl ?_
    refine g_iconst (v := (-1)) X dX2_greatest_47 rfl ?_
    refine g_icmp_ne (tgt := 55) X dX2_greatest_48 rfl (fun c48 => ?_) (fun c48 => ?_)
    · refine g_iload_n X dX2_greatest_55 rfl ?_
      exact g_iret X hr dX2_greatest_56 (Nat.le_of_ble_eq_true rfl) (Nat.le_of_ble_eq_true rfl) (⟨by rw [if_neg c48], rfl⟩)
    · refine g_iload_n X dX2_greatest_51 rfl ?_
      refine g_goto (tgt := 56) X dX2_greatest_52 rfl ?_
      exact g_iret X hr dX2_greatest_56 (Nat.le_of_ble_eq_true rfl) (Nat.le_of_ble_eq_true rfl) (⟨by rw [if_pos c48], rfl⟩)
  · have hi : i ≤ 2 ^ n - 1 := in_gt0 hI hN2 (by rw [← hN]; exact c14)
    refine g_aload_n X dX2_greatest_17 rfl ?_
    refine g_iload X dX2_greatest_18 rfl ?_
    refine g_callV (C := RX2) (T := TX2) (N := 35) X (k_X2_isGreatest ho hu) (lw_V q1963 q1965 qs122 q139 q1966) hd_X2_isGreatest dX2_greatest_20 (rd3 ho) rfl rfl ⟨Nat.le_of_ble_eq_true rfl, Nat.le_of_ble_eq_true rfl⟩ ⟨Nat.le_of_ble_eq_true rfl, Nat.le_of_ble_eq_true rfl⟩ (Nat.le_of_ble_eq_true rfl) ?_
    rintro _ S1 ⟨rfl, hS1⟩
    obtain rfl := hS1.symm
    refine g_ifp_ne (tgt := 29) X dX2_greatest_23 rfl (fun c23 => ?_) (fun c23 => ?_)
    · refine g_iload_n X dX2_greatest_29 rfl ?_
      refine g_iload_n X dX2_greatest_30 rfl ?_
      refine g_icmp_ne (tgt := 37) X dX2_greatest_31 rfl (fun c31 => ?_) (fun c31 => ?_)
      · refine g_iinc (v := 1) X dX2_greatest_37 rfl rfl (Nat.le_of_ble_eq_true rfl) ?_
        refine g_iinc (v := 1) X dX2_greatest_40 rfl rfl (Nat.le_of_ble_eq_true rfl) ?_
        refine g_goto (tgt := 8) X dX2_greatest_43 rfl ?_
        refine g_sub (le_1 rfl (le_1 rfl (le_1 (ei (by rw [nI_1, gcN_t c23])) (le_1 (ei (gfd_f (fun z => c31 z.2))) (le_1 e_1 le_n))))) (ih (i + 1) ?_ ?_)
        · try dsimp only
          omega
        · try dsimp only
          omega
      · refine g_iload X dX2_greatest_34 rfl ?_
        refine g_istore_n X dX2_greatest_36 (Nat.le_of_ble_eq_true rfl) ?_
        refine g_iinc (v := 1) X dX2_greatest_37 rfl rfl (Nat.le_of_ble_eq_true rfl) ?_
        refine g_iinc (v := 1) X dX2_greatest_40 rfl rfl (Nat.le_of_ble_eq_true rfl) ?_
        refine g_goto (tgt := 8) X dX2_greatest_43 rfl ?_
        refine g_sub (le_1 rfl (le_1 rfl (le_1 (ei (by rw [nI_1, gcN_t c23])) (le_1 (ei (gfd_t ⟨c23, c31⟩)) (le_1 e_1 le_n))))) (ih (i + 1) ?_ ?_)
        · try dsimp only
          omega
        · try dsimp only
          omega
    · refine g_goto (tgt := 40) X dX2_greatest_26 rfl ?_
      refine g_iinc (v := 1) X dX2_greatest_40 rfl rfl (Nat.le_of_ble_eq_true rfl) ?_
      refine g_goto (tgt := 8) X dX2_greatest_43 rfl ?_
      refine g_sub (le_1 rfl (le_1 rfl (le_1 (ei (congrArg nI (gcN_f c23))) (le_1 (ei (gfd_f (fun z => c23 z.1))) (le_1 e_1 le_n))))) (ih (i + 1) ?_ ?_)
      · try dsimp only
        omega
      · try dsimp only
        omega
def mxI (x y : Int32) : Int32 := if x < y then y else x
/-- ask, the component's way: (best, least) -/
abbrev asP (b : Int32) (k : Nat) (m l : Int32) : Prop := hs b (nI k) ∨ l ≤ m
def asC (n : Nat) (f : Nat → Int32) (b : Int32) (i : Nat) : Int32 × Int32 := itr (fun k q => if hs b (nI k) ∨ q.2 ≤ mxI (bcI (wo n f (b ||| one (nI k)))) (bcI (wo n f b) - bcI (wo n f (b ||| one (nI k)))) then q else (nI k, mxI (bcI (wo n f (b ||| one (nI k)))) (bcI (wo n f b) - bcI (wo n f (b ||| one (nI k)))))) i (-1, 99999)
def asM (n : Nat) (f : Nat → Int32) (b : Int32) (i : Nat) : Int32 × Int32 := itr (fun k q => if hs b (nI k) ∨ q.2 ≤ (if bcI (wo n f b &&& f k) ≤ bcI (wo n f b) - bcI (wo n f b &&& f k) then bcI (wo n f b) - bcI (wo n f b &&& f k) else bcI (wo n f b &&& f k)) then q else (nI k, if bcI (wo n f b &&& f k) ≤ bcI (wo n f b) - bcI (wo n f b &&& f k) then bcI (wo n f b) - bcI (wo n f b &&& f k) else bcI (wo n f b &&& f k))) i (-1, 1000000)
theorem asC_f {n i : Nat} {f : Nat → Int32} {b : Int32} (h : hs b (nI i) ∨ (asC n f b i).2 ≤ mxI (bcI (wo n f (b ||| one (nI i)))) (bcI (wo n f b) - bcI (wo n f (b ||| one (nI i))))) : asC n f b i = asC n f b (i + 1) := (if_pos h).symm
theorem asC_t {n i : Nat} {f : Nat → Int32} {b : Int32} (h : ¬ (hs b (nI i) ∨ (asC n f b i).2 ≤ mxI (bcI (wo n f (b ||| one (nI i)))) (bcI (wo n f b) - bcI (wo n f (b ||| one (nI i)))))) : (nI i, mxI (bcI (wo n f (b ||| one (nI i)))) (bcI (wo n f b) - bcI (wo n f (b ||| one (nI i))))) = asC n f b (i + 1) := (if_neg h).symm
theorem asM_f {n i : Nat} {f : Nat → Int32} {b : Int32} (h : hs b (nI i) ∨ (asM n f b i).2 ≤ (if bcI (wo n f b &&& f i) ≤ bcI (wo n f b) - bcI (wo n f b &&& f i) then bcI (wo n f b) - bcI (wo n f b &&& f i) else bcI (wo n f b &&& f i))) : asM n f b i = asM n f b (i + 1) := (if_pos h).symm
theorem asM_t {n i : Nat} {f : Nat → Int32} {b : Int32} (h : ¬ (hs b (nI i) ∨ (asM n f b i).2 ≤ (if bcI (wo n f b &&& f i) ≤ bcI (wo n f b) - bcI (wo n f b &&& f i) then bcI (wo n f b) - bcI (wo n f b &&& f i) else bcI (wo n f b &&& f i)))) : (nI i, if bcI (wo n f b &&& f i) ≤ bcI (wo n f b) - bcI (wo n f b &&& f i) then bcI (wo n f b) - bcI (wo n f b &&& f i) else bcI (wo n f b &&& f i)) = asM n f b (i + 1) := (if_neg h).symm
/-- the tables are sets of worlds -/
def tbW (n : Nat) (f : Nat → Int32) : Prop := ∀ c, c < n → ∃ w, w < 65536 ∧ f c = nI w
theorem and_w {v w : Nat} (h : v < 65536) : v &&& w < 65536 := Nat.lt_of_le_of_lt Nat.and_le_left h
theorem wo_w {n : Nat} {f : Nat → Int32} {b : Int32} (h : tbW n f) : ∃ w, w < 65536 ∧ wo n f b = nI w := by
  have key : ∀ i, i ≤ n → ∃ w, w < 65536 ∧ woi i f b = nI w := by
    intro i
    induction i with
    | zero => intro _; exact ⟨65535, by decide, rfl⟩
    | succ i ih =>
      intro hi
      obtain ⟨w, h1, h2⟩ := ih (by omega)
      by_cases hb : hs b (nI i)
      · obtain ⟨v, h3, h4⟩ := h i (by omega)
        refine ⟨w &&& v, and_w h1, ?_⟩
        rw [show woi (i + 1) f b = woi i f b &&& f i from if_pos hb, h2, h4, nx_and]
      · exact ⟨w, h1, by rw [show woi (i + 1) f b = woi i f b from if_neg hb, h2]⟩
  exact key n (Nat.le_refl _)
set_option maxHeartbeats 600000 in
theorem k_X0_ask {l : Launch} {E : gk_E} (ho : E.2.2.2.2 = true) {S : gk_S} {b : Int32} {a n : Nat} {f : Nat → Int32} (hu : RU E S a n f) : gk_T l E yX0_ask cX0_ask 7 ((some .int)) 4 84 0 0 [.ref (E.2.2.1 0), .int b] S (fun r S' => r = some (.int (if (0 ≤ b ∧ b ≤ alC n) ∧ wo n f b ≠ 0 then (asC n f b n).1 else -1)) ∧ S' = S) := by
  refine gk_T.of [some (.ref (E.2.2.1 0)), some (.int b), none, none, none, none, none] (by decide) (Nat.le_of_ble_eq_true rfl) (le_1 rfl (le_1 rfl (le_p (le_p (le_p (le_p (le_p le_n))))))) ?_
  intro p_ e_ R_ s_ m_ args_ below_ meth_ c_ hR X hr hin
  subst hR
  have hn8 : n ≤ 8 := hu.1
  obtain ⟨hN, hN2⟩ := alC_n hn8
  refine g_aload_n X dX0_ask_0 rfl ?_
  refine g_iload_n X dX0_ask_1 rfl ?_
  refine g_callV (C := RX0) (T := TX0) (N := 13) X (k_X0_areClaims ho hu) (lw_V q1193 q1195 qs44 q135 q1196) hd_X0_areClaims dX0_ask_2 (rd0 ho) rfl rfl ⟨Nat.le_of_ble_eq_true rfl, Nat.le_of_ble_eq_true rfl⟩ ⟨Nat.le_of_ble_eq_true rfl, Nat.le_of_ble_eq_true rfl⟩ (Nat.le_of_ble_eq_true rfl) ?_
  rintro _ S1 ⟨rfl, hS1⟩
  obtain rfl := hS1.symm
  refine g_ifp_eq (tgt := 16) X dX0_ask_5 rfl (fun c5 => ?_) (fun c5 => ?_)
  · refine g_iconst (v := (-1)) X dX0_ask_16 rfl ?_
    exact g_iret X hr dX0_ask_17 (Nat.le_of_ble_eq_true rfl) (Nat.le_of_ble_eq_true rfl) (⟨by rw [if_neg (fun z => c5 z.1)], rfl⟩)
  · refine g_aload_n X dX0_ask_8 rfl ?_
    refine g_iload_n X dX0_ask_9 rfl ?_
    refine g_callV (C := RX0) (T := TX0) (N := 13) X (k_X0_isTogether ho hu) (lw_V q1221 q1223 qs46 q135 q1224) hd_X0_isTogether dX0_ask_10 (rd0 ho) rfl rfl ⟨Nat.le_of_ble_eq_true rfl, Nat.le_of_ble_eq_true rfl⟩ ⟨Nat.le_of_ble_eq_true rfl, Nat.le_of_ble_eq_true rfl⟩ (Nat.le_of_ble_eq_true rfl) ?_
    rintro _ S1 ⟨rfl, hS1⟩
    obtain rfl := hS1.symm
    refine g_ifp_ne (tgt := 18) X dX0_ask_13 rfl (fun c13 => ?_) (fun c13 => ?_)
    · refine g_iconst (v := (-1)) X dX0_ask_18 rfl ?_
      refine g_istore_n X dX0_ask_19 (Nat.le_of_ble_eq_true rfl) ?_
      refine g_ldcw X dX0_ask_20 q1253 ?_
      refine g_istore_n X dX0_ask_23 (Nat.le_of_ble_eq_true rfl) ?_
      refine g_aload_n X dX0_ask_24 rfl ?_
      refine g_iload_n X dX0_ask_25 rfl ?_
      refine g_callV (C := RX0) (T := TX0) (N := 13) X (k_X0_worldsOf ho hu) (lw_V q1043 q1045 qs32 q135 q1046) hd_X0_worldsOf dX0_ask_26 (rd0 ho) rfl rfl ⟨Nat.le_of_ble_eq_true rfl, Nat.le_of_ble_eq_true rfl⟩ ⟨Nat.le_of_ble_eq_true rfl, Nat.le_of_ble_eq_true rfl⟩ (Nat.le_of_ble_eq_true rfl) ?_
      rintro _ S1 ⟨rfl, hS1⟩
      obtain rfl := hS1.symm
      refine g_callS X (k_J13_bitCount ho) (lw_S q1068 q1069 q163 q1070) hd_J13_bitCount dX0_ask_29 rfl ⟨Nat.le_of_ble_eq_true rfl, Nat.le_of_ble_eq_true rfl⟩ ⟨Nat.le_of_ble_eq_true rfl, Nat.le_of_ble_eq_true rfl⟩ (Nat.le_of_ble_eq_true rfl) ?_
      rintro _ S1 ⟨rfl, hS1⟩
      obtain rfl := hS1.symm
      refine g_istore X dX0_ask_32 (Nat.le_of_ble_eq_true rfl) ?_
      refine g_iconst (v := 0) X dX0_ask_34 rfl ?_
      refine g_istore X dX0_ask_35 (Nat.le_of_ble_eq_true rfl) ?_
      refine g_loop (σ := Nat) (fun (i : Nat) => S) (fun (i : Nat) => ([some (.ref (E.2.2.1 0)), some (.int b), some (.int (asC n f b i).1), some (.int (asC n f b i).2), some (.int (bcI (wo n f b))), some (.int (nI i)), none] : List (Option Value))) (fun (i : Nat) => i ≤ n) (fun (i : Nat) => n - i) (0) ?_ (rfl) (le_1 rfl (le_1 rfl (le_1 rfl (le_1 rfl (le_1 rfl (le_1 rfl (le_0 le_n))))))) ?_
      · exact Nat.zero_le _
      intro i hI ih
      try dsimp only at hI ih ⊢
      refine g_iload X dX0_ask_37 rfl ?_
      refine g_aload_n X dX0_ask_39 rfl ?_
      refine g_callV (C := RX0) (T := TX0) (N := 13) X (k_X0_claims ho hu) (lw_V q1015 q1017 qs27 q135 q1018) hd_X0_claims dX0_ask_40 (rd0 ho) rfl rfl ⟨Nat.le_of_ble_eq_true rfl, Nat.le_of_ble_eq_true rfl⟩ ⟨Nat.le_of_ble_eq_true rfl, Nat.le_of_ble_eq_true rfl⟩ (Nat.le_of_ble_eq_true rfl) ?_
      rintro _ S1 ⟨rfl, hS1⟩
      obtain rfl := hS1.symm
      refine g_icmp_ge (tgt := 107) X dX0_ask_43 rfl (fun c43 => ?_) (fun c43 => ?_)
      · refine g_iload_n X dX0_ask_107 rfl ?_
        exact g_iret X hr dX0_ask_108 (Nat.le_of_ble_eq_true rfl) (Nat.le_of_ble_eq_true rfl) (⟨by rw [if_pos ⟨c5, c13⟩, out_of (by omega) hI c43], rfl⟩)
      · have hi : i < n := in_of (by omega) hI c43
        refine g_aload_n X dX0_ask_46 rfl ?_
        refine g_iload_n X dX0_ask_47 rfl ?_
        refine g_iconst (v := 1) X dX0_ask_48 rfl ?_
        refine g_iload X dX0_ask_49 rfl ?_
        refine g_ishl X dX0_ask_51 ?_
        refine g_ior X dX0_ask_52 ?_
        refine g_callV (C := RX0) (T := TX0) (N := 13) X (k_X0_worldsOf ho hu) (lw_V q1043 q1045 qs32 q135 q1046) hd_X0_worldsOf dX0_ask_53 (rd0 ho) rfl rfl ⟨Nat.le_of_ble_eq_true rfl, Nat.le_of_ble_eq_true rfl⟩ ⟨Nat.le_of_ble_eq_true rfl, Nat.le_of_ble_eq_true rfl⟩ (Nat.le_of_ble_eq_true rfl) ?_
        rintro _ S1 ⟨rfl, hS1⟩
        obtain rfl := hS1.symm
        refine g_callS X (k_J13_bitCount ho) (lw_S q1068 q1069 q163 q1070) hd_J13_bitCount dX0_ask_56 rfl ⟨Nat.le_of_ble_eq_true rfl, Nat.le_of_ble_eq_true rfl⟩ ⟨Nat.le_of_ble_eq_true rfl, Nat.le_of_ble_eq_true rfl⟩ (Nat.le_of_ble_eq_true rfl) ?_
        rintro _ S1 ⟨rfl, hS1⟩
        obtain rfl := hS1.symm
        refine g_istore X dX0_ask_59 (Nat.le_of_ble_eq_true rfl) ?_
        refine g_iload_n X dX0_ask_61 rfl ?_
        refine g_iload X dX0_ask_62 rfl ?_
        refine g_callS X (k_X0_has ho) (lw_S q1028 q1029 q135 q1030) hd_X0_has dX0_ask_64 rfl ⟨Nat.le_of_ble_eq_true rfl, Nat.le_of_ble_eq_true rfl⟩ ⟨Nat.le_of_ble_eq_true rfl, Nat.le_of_ble_eq_true rfl⟩ (Nat.le_of_ble_eq_true rfl) ?_
        rintro _ S1 ⟨rfl, hS1⟩
        obtain rfl := hS1.symm
        refine g_ifp_ne (tgt := 101) X dX0_ask_67 rfl (fun c67 => ?_) (fun c67 => ?_)
        · refine g_iinc (v := 1) X dX0_ask_101 rfl rfl (Nat.le_of_ble_eq_true rfl) ?_
          refine g_goto (tgt := 37) X dX0_ask_104 rfl ?_
          refine g_sub (le_1 rfl (le_1 rfl (le_1 (ei (by rw [← asC_f (Or.inl c67)])) (le_1 (ei (by rw [← asC_f (Or.inl c67)])) (le_1 rfl (le_1 e_1 (le_0 le_n))))))) (ih (i + 1) ?_ ?_)
          · try dsimp only
            omega
          · try dsimp only
            omega
        · refine g_iload X dX0_ask_70 rfl ?_
          refine g_iload X dX0_ask_72 rfl ?_
          refine g_iload X dX0_ask_74 rfl ?_
          refine g_isub X dX0_ask_76 ?_
          refine g_mmax X dX0_ask_77 q1254 q748 q149 q749 (Nat.le_of_ble_eq_true rfl) (Nat.le_of_ble_eq_true rfl) ⟨Nat.le_of_ble_eq_true rfl, Nat.le_of_ble_eq_true rfl⟩ ?_
          refine g_iload_n X dX0_ask_80 rfl ?_
          refine g_icmp_lt (tgt := 87) X dX0_ask_81 rfl (fun c81 => ?_) (fun c81 => ?_)
          · refine g_iload X dX0_ask_87 rfl ?_
            refine g_istore_n X dX0_ask_89 (Nat.le_of_ble_eq_true rfl) ?_
            refine g_iload X dX0_ask_90 rfl ?_
            refine g_iload X dX0_ask_92 rfl ?_
            refine g_iload X dX0_ask_94 rfl ?_
            refine g_isub X dX0_ask_96 ?_
            refine g_mmax X dX0_ask_97 q1254 q748 q149 q749 (Nat.le_of_ble_eq_true rfl) (Nat.le_of_ble_eq_true rfl) ⟨Nat.le_of_ble_eq_true rfl, Nat.le_of_ble_eq_true rfl⟩ ?_
            refine g_istore_n X dX0_ask_100 (Nat.le_of_ble_eq_true rfl) ?_
            refine g_iinc (v := 1) X dX0_ask_101 rfl rfl (Nat.le_of_ble_eq_true rfl) ?_
            refine g_goto (tgt := 37) X dX0_ask_104 rfl ?_
            refine g_sub (le_1 rfl (le_1 rfl (le_1 (ei (by rw [← asC_t (fun z => z.elim c67 (fun y => absurd y (Int32.not_le.mpr c81)))])) (le_1 (ei (by rw [← asC_t (fun z => z.elim c67 (fun y => absurd y (Int32.not_le.mpr c81)))]; rfl)) (le_1 rfl (le_1 e_1 (le_0 le_n))))))) (ih (i + 1) ?_ ?_)
            · try dsimp only
              omega
            · try dsimp only
              omega
          · refine g_goto (tgt := 101) X dX0_ask_84 rfl ?_
            refine g_iinc (v := 1) X dX0_ask_101 rfl rfl (Nat.le_of_ble_eq_true rfl) ?_
            refine g_goto (tgt := 37) X dX0_ask_104 rfl ?_
            refine g_sub (le_1 rfl (le_1 rfl (le_1 (ei (by rw [← asC_f (Or.inr (Int32.not_lt.mp c81))])) (le_1 (ei (by rw [← asC_f (Or.inr (Int32.not_lt.mp c81))])) (le_1 rfl (le_1 e_1 (le_0 le_n))))))) (ih (i + 1) ?_ ?_)
            · try dsimp only
              omega
            · try dsimp only
              omega
    · refine g_iconst (v := (-1)) X dX0_ask_16 rfl ?_
      exact g_iret X hr dX0_ask_17 (Nat.le_of_ble_eq_true rfl) (Nat.le_of_ble_eq_true rfl) (⟨by rw [if_neg (fun z => c13 z.2)], rfl⟩)
set_option maxHeartbeats 600000 in
theorem k_X2_ask {l : Launch} {E : gk_E} (ho : E.2.2.2.2 = true) {S : gk_S} {b : Int32} {n : Nat} {f : Nat → Int32} (hu : MU S n f) (ht : tbW n f) : gk_T l E yX2_ask cX2_ask 8 ((some .int)) 3 61 0 0 [.ref (E.2.2.1 3), .int b] S (fun r S' => r = some (.int (if (0 ≤ b ∧ b ≤ alC n) ∧ wo n f b ≠ 0 then (asM n f b n).1 else -1)) ∧ S' = S) := by
  refine gk_T.of [some (.ref (E.2.2.1 3)), some (.int b), none, none, none, none, none, none] (by decide) (Nat.le_of_ble_eq_true rfl) (le_1 rfl (le_1 rfl (le_p (le_p (le_p (le_p (le_p (le_p le_n)))))))) ?_
  intro p_ e_ R_ s_ m_ args_ below_ meth_ c_ hR X hr hin
  subst hR
  have hn8 : n ≤ 8 := hu.1
  obtain ⟨hN, hN2⟩ := alC_n hn8
  obtain ⟨w, hw, hw2⟩ := wo_w (b := b) ht
  refine g_aload_n X dX2_ask_0 rfl ?_
  refine g_iload_n X dX2_ask_1 rfl ?_
  refine g_callV (C := RX2) (T := TX2) (N := 35) X (k_X2_areClaims ho hu) (lw_V q1939 q1941 qs121 q139 q1942) hd_X2_areClaims dX2_ask_2 (rd3 ho) rfl rfl ⟨Nat.le_of_ble_eq_true rfl, Nat.le_of_ble_eq_true rfl⟩ ⟨Nat.le_of_ble_eq_true rfl, Nat.le_of_ble_eq_true rfl⟩ (Nat.le_of_ble_eq_true rfl) ?_
  rintro _ S1 ⟨rfl, hS1⟩
  obtain rfl := hS1.symm
  refine g_ifp_eq (tgt := 16) X dX2_ask_5 rfl (fun c5 => ?_) (fun c5 => ?_)
  · refine g_iconst (v := (-1)) X dX2_ask_16 rfl ?_
    exact g_iret X hr dX2_ask_17 (Nat.le_of_ble_eq_true rfl) (Nat.le_of_ble_eq_true rfl) (⟨by rw [if_neg (fun z => c5 z.1)], rfl⟩)
  · refine g_aload_n X dX2_ask_8 rfl ?_
    refine g_iload_n X dX2_ask_9 rfl ?_
    refine g_callV (C := RX2) (T := TX2) (N := 35) X (k_X2_worldsOf ho hu) (lw_V q1763 q1765 qs99 q139 q1766) hd_X2_worldsOf dX2_ask_10 (rd3 ho) rfl rfl ⟨Nat.le_of_ble_eq_true rfl, Nat.le_of_ble_eq_true rfl⟩ ⟨Nat.le_of_ble_eq_true rfl, Nat.le_of_ble_eq_true rfl⟩ (Nat.le_of_ble_eq_true rfl) ?_
    rintro _ S1 ⟨rfl, hS1⟩
    obtain rfl := hS1.symm
    refine g_if_ne (tgt := 18) X dX2_ask_13 rfl (fun c13 => ?_) (fun c13 => ?_)
    · refine g_aload_n X dX2_ask_18 rfl ?_
      refine g_iload_n X dX2_ask_19 rfl ?_
      refine g_callV (C := RX2) (T := TX2) (N := 35) X (k_X2_worldsOf ho hu) (lw_V q1763 q1765 qs99 q139 q1766) hd_X2_worldsOf dX2_ask_20 (rd3 ho) rfl rfl ⟨Nat.le_of_ble_eq_true rfl, Nat.le_of_ble_eq_true rfl⟩ ⟨Nat.le_of_ble_eq_true rfl, Nat.le_of_ble_eq_true rfl⟩ (Nat.le_of_ble_eq_true rfl) ?_
      rintro _ S1 ⟨rfl, hS1⟩
      obtain rfl := hS1.symm
      refine g_istore_n X dX2_ask_23 (Nat.le_of_ble_eq_true rfl) ?_
      refine g_iconst (v := (-1)) X dX2_ask_24 rfl ?_
      refine g_istore_n X dX2_ask_25 (Nat.le_of_ble_eq_true rfl) ?_
      refine g_ldcw X dX2_ask_26 q1987 ?_
      refine g_istore X dX2_ask_29 (Nat.le_of_ble_eq_true rfl) ?_
      refine g_iconst (v := 0) X dX2_ask_31 rfl ?_
      refine g_istore X dX2_ask_32 (Nat.le_of_ble_eq_true rfl) ?_
      refine g_loop (σ := Nat) (fun (i : Nat) => S) (fun (i : Nat) => ([some (.ref (E.2.2.1 3)), some (.int b), some (.int (wo n f b)), some (.int (asM n f b i).1), some (.int (asM n f b i).2), some (.int (nI i)), none, none] : List (Option Value))) (fun (i : Nat) => i ≤ n) (fun (i : Nat) => n - i) (0) ?_ (rfl) (le_1 rfl (le_1 rfl (le_1 rfl (le_1 rfl (le_1 rfl (le_1 rfl (le_0 (le_0 le_n)))))))) ?_
      · exact Nat.zero_le _
      intro i hI ih
      try dsimp only at hI ih ⊢
      refine g_iload X dX2_ask_34 rfl ?_
      refine g_aload_n X dX2_ask_36 rfl ?_
      refine g_callV (C := RX2) (T := TX2) (N := 35) X (k_X2_claims ho hu) (lw_V q1707 q1709 qs94 q139 q1710) hd_X2_claims dX2_ask_37 (rd3 ho) rfl rfl ⟨Nat.le_of_ble_eq_true rfl, Nat.le_of_ble_eq_true rfl⟩ ⟨Nat.le_of_ble_eq_true rfl, Nat.le_of_ble_eq_true rfl⟩ (Nat.le_of_ble_eq_true rfl) ?_
      rintro _ S1 ⟨rfl, hS1⟩
      obtain rfl := hS1.symm
      refine g_icmp_ge (tgt := 114) X dX2_ask_40 rfl (fun c40 => ?_) (fun c40 => ?_)
      · refine g_iload_n X dX2_ask_114 rfl ?_
        exact g_iret X hr dX2_ask_115 (Nat.le_of_ble_eq_true rfl) (Nat.le_of_ble_eq_true rfl) (⟨by rw [if_pos ⟨c5, c13⟩, out_of (by omega) hI c40], rfl⟩)
      · have hi : i < n := in_of (by omega) hI c40
        obtain ⟨v, hv, hv2⟩ := ht i hi
        have hwv : wo n f b &&& f i = nI (w &&& v) := by rw [hw2, hv2, nx_and]
        refine g_iload_n X dX2_ask_43 rfl ?_
        refine g_aload_n X dX2_ask_44 rfl ?_
        refine g_iload X dX2_ask_45 rfl ?_
        refine g_callV (C := RX2) (T := TX2) (N := 35) X (k_X2_tableOf ho hu rfl hi) (lw_V q1768 q1770 qs100 q139 q1771) hd_X2_tableOf dX2_ask_47 (rd3 ho) rfl rfl ⟨Nat.le_of_ble_eq_true rfl, Nat.le_of_ble_eq_true rfl⟩ ⟨Nat.le_of_ble_eq_true rfl, Nat.le_of_ble_eq_true rfl⟩ (Nat.le_of_ble_eq_true rfl) ?_
        rintro _ S1 ⟨rfl, hS1⟩
        obtain rfl := hS1.symm
        refine g_iand X dX2_ask_50 ?_
        refine g_callS X (k_X2_bits ho hwv (and_w hw)) (lw_S q1822 q1823 q139 q1824) hd_X2_bits dX2_ask_51 rfl ⟨Nat.le_of_ble_eq_true rfl, Nat.le_of_ble_eq_true rfl⟩ ⟨Nat.le_of_ble_eq_true rfl, Nat.le_of_ble_eq_true rfl⟩ (Nat.le_of_ble_eq_true rfl) ?_
        rintro _ S1 ⟨rfl, hS1⟩
        obtain rfl := hS1.symm
        refine g_istore X dX2_ask_54 (Nat.le_of_ble_eq_true rfl) ?_
        refine g_iload X dX2_ask_56 rfl ?_
        refine g_iload_n X dX2_ask_58 rfl ?_
        refine g_callS X (k_X2_bits ho hw2 hw) (lw_S q1822 q1823 q139 q1824) hd_X2_bits dX2_ask_59 rfl ⟨Nat.le_of_ble_eq_true rfl, Nat.le_of_ble_eq_true rfl⟩ ⟨Nat.le_of_ble_eq_true rfl, Nat.le_of_ble_eq_true rfl⟩ (Nat.le_of_ble_eq_true rfl) ?_
        rintro _ S1 ⟨rfl, hS1⟩
        obtain rfl := hS1.symm
        refine g_iload X dX2_ask_62 rfl ?_
        refine g_isub X dX2_ask_64 ?_
        refine g_icmp_le (tgt := 73) X dX2_ask_65 rfl (fun c65 => ?_) (fun c65 => ?_)
        · refine g_iload_n X dX2_ask_73 rfl ?_
          refine g_callS X (k_X2_bits ho hw2 hw) (lw_S q1822 q1823 q139 q1824) hd_X2_bits dX2_ask_74 rfl ⟨Nat.le_of_ble_eq_true rfl, Nat.le_of_ble_eq_true rfl⟩ ⟨Nat.le_of_ble_eq_true rfl, Nat.le_of_ble_eq_true rfl⟩ (Nat.le_of_ble_eq_true rfl) ?_
          rintro _ S1 ⟨rfl, hS1⟩
          obtain rfl := hS1.symm
          refine g_iload X dX2_ask_77 rfl ?_
          refine g_isub X dX2_ask_79 ?_
          refine g_istore X dX2_ask_80 (Nat.le_of_ble_eq_true rfl) ?_
          refine g_iload_n X dX2_ask_82 rfl ?_
          refine g_iload X dX2_ask_83 rfl ?_
          refine g_callS X (k_X2_has ho) (lw_S q1711 q1712 q139 q1713) hd_X2_has dX2_ask_85 rfl ⟨Nat.le_of_ble_eq_true rfl, Nat.le_of_ble_eq_true rfl⟩ ⟨Nat.le_of_ble_eq_true rfl, Nat.le_of_ble_eq_true rfl⟩ (Nat.le_of_ble_eq_true rfl) ?_
          rintro _ S1 ⟨rfl, hS1⟩
          obtain rfl := hS1.symm
          refine g_ifp_ne (tgt := 108) X dX2_ask_88 rfl (fun c88 => ?_) (fun c88 => ?_)
          · refine g_iinc (v := 1) X dX2_ask_108 rfl rfl (Nat.le_of_ble_eq_true rfl) ?_
            refine g_goto (tgt := 34) X dX2_ask_111 rfl ?_
            refine g_sub (le_1 rfl (le_1 rfl (le_1 rfl (le_1 (ei (by rw [← asM_f (Or.inl c88)])) (le_1 (ei (by rw [← asM_f (Or.inl c88)])) (le_1 e_1 (le_0 (le_0 le_n)))))))) (ih (i + 1) ?_ ?_)
            · try dsimp only
              omega
            · try dsimp only
              omega
          · refine g_iload X dX2_ask_91 rfl ?_
            refine g_iload X dX2_ask_93 rfl ?_
            refine g_icmp_lt (tgt := 101) X dX2_ask_95 rfl (fun c95 => ?_) (fun c95 => ?_)
            · refine g_iload X dX2_ask_101 rfl ?_
              refine g_istore X dX2_ask_103 (Nat.le_of_ble_eq_true rfl) ?_
              refine g_iload X dX2_ask_105 rfl ?_
              refine g_istore_n X dX2_ask_107 (Nat.le_of_ble_eq_true rfl) ?_
              refine g_iinc (v := 1) X dX2_ask_108 rfl rfl (Nat.le_of_ble_eq_true rfl) ?_
              refine g_goto (tgt := 34) X dX2_ask_111 rfl ?_
              refine g_sub (le_1 rfl (le_1 rfl (le_1 rfl (le_1 (ei (by rw [← asM_t (fun z => z.elim c88 (fun y => absurd (show (asM n f b i).2 ≤ _ from by rw [if_pos c65] at y; exact y) (Int32.not_le.mpr c95)))])) (le_1 (ei (by rw [← asM_t (fun z => z.elim c88 (fun y => absurd (show (asM n f b i).2 ≤ _ from by rw [if_pos c65] at y; exact y) (Int32.not_le.mpr c95)))]; exact (if_pos c65).symm)) (le_1 e_1 (le_0 (le_0 le_n)))))))) (ih (i + 1) ?_ ?_)
              · try dsimp only
                omega
              · try dsimp only
                omega
            · refine g_goto (tgt := 108) X dX2_ask_98 rfl ?_
              refine g_iinc (v := 1) X dX2_ask_108 rfl rfl (Nat.le_of_ble_eq_true rfl) ?_
              refine g_goto (tgt := 34) X dX2_ask_111 rfl ?_
              refine g_sub (le_1 rfl (le_1 rfl (le_1 rfl (le_1 (ei (by rw [← asM_f (Or.inr (by rw [if_pos c65]; exact Int32.not_lt.mp c95))])) (le_1 (ei (by rw [← asM_f (Or.inr (by rw [if_pos c65]; exact Int32.not_lt.mp c95))])) (le_1 e_1 (le_0 (le_0 le_n)))))))) (ih (i + 1) ?_ ?_)
              · try dsimp only
                omega
              · try dsimp only
                omega
        · refine g_iload X dX2_ask_68 rfl ?_
          refine g_goto (tgt := 80) X dX2_ask_70 rfl ?_
          refine g_istore X dX2_ask_80 (Nat.le_of_ble_eq_true rfl) ?_
          refine g_iload_n X dX2_ask_82 rfl ?_
          refine g_iload X dX2_ask_83 rfl ?_
          refine g_callS X (k_X2_has ho) (lw_S q1711 q1712 q139 q1713) hd_X2_has dX2_ask_85 rfl ⟨Nat.le_of_ble_eq_true rfl, Nat.le_of_ble_eq_true rfl⟩ ⟨Nat.le_of_ble_eq_true rfl, Nat.le_of_ble_eq_true rfl⟩ (Nat.le_of_ble_eq_true rfl) ?_
          rintro _ S1 ⟨rfl, hS1⟩
          obtain rfl := hS1.symm
          refine g_ifp_ne (tgt := 108) X dX2_ask_88 rfl (fun c88 => ?_) (fun c88 => ?_)
          · refine g_iinc (v := 1) X dX2_ask_108 rfl rfl (Nat.le_of_ble_eq_true rfl) ?_
            refine g_goto (tgt := 34) X dX2_ask_111 rfl ?_
            refine g_sub (le_1 rfl (le_1 rfl (le_1 rfl (le_1 (ei (by rw [← asM_f (Or.inl c88)])) (le_1 (ei (by rw [← asM_f (Or.inl c88)])) (le_1 e_1 (le_0 (le_0 le_n)))))))) (ih (i + 1) ?_ ?_)
            · try dsimp only
              omega
            · try dsimp only
              omega
          · refine g_iload X dX2_ask_91 rfl ?_
            refine g_iload X dX2_ask_93 rfl ?_
            refine g_icmp_lt (tgt := 101) X dX2_ask_95 rfl (fun c95 => ?_) (fun c95 => ?_)
            · refine g_iload X dX2_ask_101 rfl ?_
              refine g_istore X dX2_ask_103 (Nat.le_of_ble_eq_true rfl) ?_
              refine g_iload X dX2_ask_105 rfl ?_
              refine g_istore_n X dX2_ask_107 (Nat.le_of_ble_eq_true rfl) ?_
              refine g_iinc (v := 1) X dX2_ask_108 rfl rfl (Nat.le_of_ble_eq_true rfl) ?_
              refine g_goto (tgt := 34) X dX2_ask_111 rfl ?_
              refine g_sub (le_1 rfl (le_1 rfl (le_1 rfl (le_1 (ei (by rw [← asM_t (fun z => z.elim c88 (fun y => absurd (show (asM n f b i).2 ≤ _ from by rw [if_neg c65] at y; exact y) (Int32.not_le.mpr c95)))])) (le_1 (ei (by rw [← asM_t (fun z => z.elim c88 (fun y => absurd (show (asM n f b i).2 ≤ _ from by rw [if_neg c65] at y; exact y) (Int32.not_le.mpr c95)))]; exact (if_neg c65).symm)) (le_1 e_1 (le_0 (le_0 le_n)))))))) (ih (i + 1) ?_ ?_)
              · try dsimp only
                omega
              · try dsimp only
                omega
            · refine g_goto (tgt := 108) X dX2_ask_98 rfl ?_
              refine g_iinc (v := 1) X dX2_ask_108 rfl rfl (Nat.le_of_ble_eq_true rfl) ?_
              refine g_goto (tgt := 34) X dX2_ask_111 rfl ?_
              refine g_sub (le_1 rfl (le_1 rfl (le_1 rfl (le_1 (ei (by rw [← asM_f (Or.inr (by rw [if_neg c65]; exact Int32.not_lt.mp c95))])) (le_1 (ei (by rw [← asM_f (Or.inr (by rw [if_neg c65]; exact Int32.not_lt.mp c95))])) (le_1 e_1 (le_0 (le_0 le_n)))))))) (ih (i + 1) ?_ ?_)
              · try dsimp only
                omega
              · try dsimp only
                omega
    · refine g_iconst (v := (-1)) X dX2_ask_16 rfl ?_
      exact g_iret X hr dX2_ask_17 (Nat.le_of_ble_eq_true rfl) (Nat.le_of_ble_eq_true rfl) (⟨by rw [if_neg (fun z => z.2 c13)], rfl⟩)
