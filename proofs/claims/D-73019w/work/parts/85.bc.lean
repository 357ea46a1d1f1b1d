/-- the best of those left by V, the first of the greatest -/
def boF (V : Nat → Int32) (y : Int32) (i : Nat) : Int32 := itr (fun k b => if hs y (nI k) ∧ (b = -1 ∨ V (ix b) < V k) then nI k else b) i (-1)
theorem bo_0 {V : Nat → Int32} {y : Int32} : boF V y 0 = -1 := itr_0
theorem bo_t {V : Nat → Int32} {y : Int32} {i : Nat} (h1 : hs y (nI i)) (h2 : boF V y i = -1 ∨ V (ix (boF V y i)) < V i) : nI i = boF V y (i + 1) := (if_pos ⟨h1, h2⟩).symm
theorem bo_f {V : Nat → Int32} {y : Int32} {i : Nat} (h : ¬ (hs y (nI i) ∧ (boF V y i = -1 ∨ V (ix (boF V y i)) < V i))) : boF V y i = boF V y (i + 1) := (if_neg h).symm
theorem bo_in {V : Nat → Int32} {y : Int32} : ∀ {i : Nat}, boF V y i = -1 ∨ ∃ j, j < i ∧ boF V y i = nI j ∧ hs y (nI j)
  | 0 => Or.inl rfl
  | i + 1 => by
    by_cases h : hs y (nI i) ∧ (boF V y i = -1 ∨ V (ix (boF V y i)) < V i)
    · exact Or.inr ⟨i, by omega, (bo_t h.1 h.2).symm, h.1⟩
    · rw [← bo_f h]
      rcases bo_in (V := V) (y := y) (i := i) with z | ⟨j, hj, z⟩
      · exact Or.inl z
      · exact Or.inr ⟨j, by omega, z⟩
theorem bo_c {V V' : Nat → Int32} {y : Int32} : ∀ {i : Nat}, i ≤ 100 → (∀ k, k < i → V k = V' k) → boF V y i = boF V' y i
  | 0, _, _ => bo_0.trans bo_0.symm
  | i + 1, hb, h => by
    have e := bo_c (V := V) (V' := V') (y := y) (i := i) (by omega) (fun k hk => h k (by omega))
    have e2 : (boF V y i = -1 ∨ V (ix (boF V y i)) < V i) ↔ (boF V' y i = -1 ∨ V' (ix (boF V' y i)) < V' i) := by
      rw [e, h i (by omega)]
      rcases bo_in (V := V') (y := y) (i := i) with z | ⟨j, hj, z, _⟩
      · exact ⟨fun _ => Or.inl z, fun _ => Or.inl z⟩
      · rw [z, ix_n (by omega), h j (by omega)]
    by_cases c : hs y (nI i) ∧ (boF V y i = -1 ∨ V (ix (boF V y i)) < V i)
    · rw [← bo_t c.1 c.2, ← bo_t c.1 (e2.mp c.2)]
    · rw [← bo_f c, ← bo_f (fun z => c ⟨z.1, e2.mpr z.2⟩), e]
theorem nmL_n {o : Nat → Int32} {b : Int32} : ∀ {i k : Nat}, (k < 10 ∨ 10 + i ≤ k) → nmL o b i k = o k
  | 0, _, _ => rfl
  | i + 1, k, h => by
    rw [nmL_s, upd_n (by omega)]
    exact nmL_n (by omega)
theorem nmL_g {o : Nat → Int32} {b : Int32} : ∀ {i k : Nat}, k < i → nmL o b i (10 + k) = (b >>> (nI k &&& 31)) &&& 1
  | i + 1, k, h => by
    rw [nmL_s]
    by_cases e : k = i
    · subst e
      rw [upd_s]
    · rw [upd_n (by omega)]
      exact nmL_g (by omega)
def offC (F o : Nat → Int32) : Prop := ∀ i, (i < 4 ∨ 18 ≤ i) → F i = o i
theorem nm6_n {o : Nat → Int32} {x4 x5 x6 x7 x8 x9 : Int32} {i : Nat} (h : i < 4 ∨ 10 ≤ i) : nm6 o x4 x5 x6 x7 x8 x9 i = o i := by
  unfold nm6
  rw [upd_n (by omega), upd_n (by omega), upd_n (by omega), upd_n (by omega), upd_n (by omega), upd_n (by omega)]
theorem nmC_o {S : gk_S} {q n f k : Nat} : offC (nmC S q n f k) (S.1 301) := by
  intro i hi
  unfold nmC
  rw [nmL_n (by omega), nm6_n (by omega)]
theorem nm6_c {o o' : Nat → Int32} {x4 x5 x6 x7 x8 x9 : Int32} {i : Nat} (h : 4 ≤ i ∧ i < 10) : nm6 o x4 x5 x6 x7 x8 x9 i = nm6 o' x4 x5 x6 x7 x8 x9 i := by
  unfold nm6
  unfold upd
  rcases (show i = 4 ∨ i = 5 ∨ i = 6 ∨ i = 7 ∨ i = 8 ∨ i = 9 by omega) with e | e | e | e | e | e <;> subst e <;> rfl
theorem nmL_off {F o : Nat → Int32} (h : offC F o) {x4 x5 x6 x7 x8 x9 b : Int32} : nmL (nm6 F x4 x5 x6 x7 x8 x9) b 8 = nmL (nm6 o x4 x5 x6 x7 x8 x9) b 8 := by
  funext i
  by_cases h1 : 10 ≤ i ∧ i < 18
  · obtain ⟨k, rfl⟩ := Nat.le.dest h1.1
    rw [nmL_g (by omega), nmL_g (by omega)]
  · rw [nmL_n (by omega), nmL_n (by omega)]
    by_cases h2 : 4 ≤ i ∧ i < 10
    · exact nm6_c h2
    · rw [nm6_n (by omega), nm6_n (by omega)]
      exact h i (by omega)
theorem nmC_off11 {S : gk_S} {F : Nat → Int32} {n f k : Nat} (hf : f < 5) (h : offC F (S.1 301)) : nmC (gk_si S 301 F) 11 n f k = nmC S 11 n f k := by
  unfold nmC
  rw [si_s, si_n (show 20 + f ≠ 301 by omega)]
  exact nmL_off h
set_option maxHeartbeats 600000 in
theorem k_X0_bestOf_11 {l : Launch} {E : gk_E} (ho : E.2.2.2.2 = true) {S : gk_S} {x : Int32} {y : Int32} {a n f : Nat} {g : Nat → Int32} {W : Option mnB} {ic : Nat → Nat} (hu : RU E S a n g) (hx : x = nI f) (hf : f < 5) (hw : wtO E ic S.2.2.2 a W) (hic : icA S ic) : gk_T l E yX0_bestOf cX0_bestOf 6 ((some .int)) 251 8026 0 0 [.ref (E.2.2.1 0), .ref (E.2.2.1 11), .int x, .int y] S (fun r S' => ∃ F : Nat → Int32, r = some (.int (boF (fun k => wvC W (nmC S 11 n f k)) y 5)) ∧ S' = gk_si S 301 F ∧ offC F (S.1 301)) := by
  refine gk_T.of [some (.ref (E.2.2.1 0)), some (.ref (E.2.2.1 11)), some (.int x), some (.int y), none, none] (by decide) (Nat.le_of_ble_eq_true rfl) (le_1 rfl (le_1 rfl (le_1 rfl (le_1 rfl (le_p (le_p le_n)))))) ?_
  intro p_ e_ R_ s_ m_ args_ below_ meth_ c_ hR X hr hin
  subst hR
  refine g_iconst (v := (-1)) X dX0_bestOf_0 rfl ?_
  refine g_istore X dX0_bestOf_1 (Nat.le_of_ble_eq_true rfl) ?_
  refine g_iconst (v := 0) X dX0_bestOf_3 rfl ?_
  refine g_istore X dX0_bestOf_4 (Nat.le_of_ble_eq_true rfl) ?_
  refine g_loop (σ := Nat × (Nat → Int32)) (fun (q : Nat × (Nat → Int32)) => match q with | (i, F) => gk_si S 301 F) (fun (q : Nat × (Nat → Int32)) => match q with | (i, F) => ([some (.ref (E.2.2.1 0)), some (.ref (E.2.2.1 11)), some (.int x), some (.int y), some (.int (boF (fun k => wvC W (nmC S 11 n f k)) y i)), some (.int (nI i))] : List (Option Value))) (fun (q : Nat × (Nat → Int32)) => match q with | (i, F) => i ≤ 5 ∧ offC F (S.1 301)) (fun (q : Nat × (Nat → Int32)) => match q with | (i, F) => 5 - i) ((0, S.1 301)) ?_ (si_id.symm) (le_1 rfl (le_1 rfl (le_1 rfl (le_1 rfl (le_1 rfl (le_1 rfl le_n)))))) ?_
  · exact ⟨Nat.zero_le _, fun _ _ => rfl⟩
  rintro ⟨i, F⟩ hI ih
  try dsimp only at hI ih ⊢
  obtain ⟨hI1, hI2⟩ := hI
  refine g_iload X dX0_bestOf_6 rfl ?_
  refine g_iconst (v := 5) X dX0_bestOf_8 rfl ?_
  refine g_icmp_ge (tgt := 64) X dX0_bestOf_9 rfl (fun c9 => ?_) (fun c9 => ?_)
  · obtain rfl : i = 5 := Nat.le_antisymm hI1 ((nI_leI (by decide) (by omega)).mp c9)
    refine g_iload X dX0_bestOf_64 rfl ?_
    exact g_iret X hr dX0_bestOf_66 (Nat.le_of_ble_eq_true rfl) (Nat.le_of_ble_eq_true rfl) (⟨F, rfl, rfl, hI2⟩)
  · have hi5 : i < 5 := (nI_ltI (by omega) (by decide)).mp (Int32.not_le.mp c9)
    refine g_iload_n X dX0_bestOf_12 rfl ?_
    refine g_iload X dX0_bestOf_13 rfl ?_
    refine g_callS X (k_X0_has ho) (lw_S q1028 q1029 q135 q1030) hd_X0_has dX0_bestOf_15 rfl ⟨Nat.le_of_ble_eq_true rfl, Nat.le_of_ble_eq_true rfl⟩ ⟨Nat.le_of_ble_eq_true rfl, Nat.le_of_ble_eq_true rfl⟩ (Nat.le_of_ble_eq_true rfl) ?_
    rintro _ S1 ⟨rfl, hS1⟩
    obtain rfl := hS1.symm
    refine g_ifp_eq (tgt := 58) X dX0_bestOf_18 rfl (fun c18 => ?_) (fun c18 => ?_)
    · refine g_iinc (v := 1) X dX0_bestOf_58 rfl rfl (Nat.le_of_ble_eq_true rfl) ?_
      refine g_goto (tgt := 6) X dX0_bestOf_61 rfl ?_
      refine g_sub (le_1 rfl (le_1 rfl (le_1 rfl (le_1 rfl (le_1 (congrArg (fun z => some (Value.int z)) (bo_f (fun z => c18 z.1))) (le_1 e_1 le_n)))))) (ih (i + 1, F) ?_ ?_)
      · exact ⟨by omega, hI2⟩
      · show 5 - (i + 1) < 5 - i; omega
    · refine g_iload X dX0_bestOf_21 rfl ?_
      refine g_iconst (v := (-1)) X dX0_bestOf_23 rfl ?_
      refine g_icmp_eq (tgt := 54) X dX0_bestOf_24 rfl (fun c24 => ?_) (fun c24 => ?_)
      · refine g_iload X dX0_bestOf_54 rfl ?_
        refine g_istore X dX0_bestOf_56 (Nat.le_of_ble_eq_true rfl) ?_
        refine g_iinc (v := 1) X dX0_bestOf_58 rfl rfl (Nat.le_of_ble_eq_true rfl) ?_
        refine g_goto (tgt := 6) X dX0_bestOf_61 rfl ?_
        refine g_sub (le_1 rfl (le_1 rfl (le_1 rfl (le_1 rfl (le_1 (congrArg (fun z => some (Value.int z)) (bo_t c18 (Or.inl c24))) (le_1 e_1 le_n)))))) (ih (i + 1, F) ?_ ?_)
        · exact ⟨by omega, hI2⟩
        · show 5 - (i + 1) < 5 - i; omega
      · obtain ⟨j, hj, hbj, _⟩ := (bo_in (V := (fun k => wvC W (nmC S 11 n f k))) (y := y) (i := i)).resolve_left c24
        refine g_aload_n X dX0_bestOf_27 rfl ?_
        refine g_aload_n X dX0_bestOf_28 rfl ?_
        refine g_callV (C := RX0) (T := TX0) (N := 13) X (k_X0_rules ho (S := gk_si S 301 F) hu) (lw_V q1019 q1021 qs28 q135 q1022) hd_X0_rules dX0_bestOf_29 (rd0 ho) rfl rfl ⟨Nat.le_of_ble_eq_true rfl, Nat.le_of_ble_eq_true rfl⟩ ⟨Nat.le_of_ble_eq_true rfl, Nat.le_of_ble_eq_true rfl⟩ (Nat.le_of_ble_eq_true rfl) ?_
        rintro _ S1 ⟨rfl, hS1⟩
        obtain rfl := hS1.symm
        refine g_aload_n X dX0_bestOf_32 rfl ?_
        refine g_iload_n X dX0_bestOf_33 rfl ?_
        refine g_iload X dX0_bestOf_34 rfl ?_
        refine g_callV (C := RX0) (T := TX0) (N := 13) X (k_X0_worthBy_11 ho (S := gk_si S 301 F) hu hx hf rfl hi5 hw hic) (lw_V q1053 q1055 qs34 q135 q1056) hd_X0_worthBy dX0_bestOf_36 (rd0 ho) rfl rfl ⟨Nat.le_of_ble_eq_true rfl, Nat.le_of_ble_eq_true rfl⟩ ⟨Nat.le_of_ble_eq_true rfl, Nat.le_of_ble_eq_true rfl⟩ (Nat.le_of_ble_eq_true rfl) ?_
        rintro _ S1 ⟨rfl, hS1⟩
        obtain rfl := hS1.symm
        refine g_top (y := wvC W (nmC S 11 n f i)) (by rw [nmC_off11 hf hI2]) ?_
        refine g_eq (S2 := gk_si S 301 (nmC S 11 n f i)) (by rw [si_si, nmC_off11 hf hI2]) ?_
        refine g_aload_n X dX0_bestOf_39 rfl ?_
        refine g_aload_n X dX0_bestOf_40 rfl ?_
        refine g_callV (C := RX0) (T := TX0) (N := 13) X (k_X0_rules ho (S := gk_si S 301 _) hu) (lw_V q1019 q1021 qs28 q135 q1022) hd_X0_rules dX0_bestOf_41 (rd0 ho) rfl rfl ⟨Nat.le_of_ble_eq_true rfl, Nat.le_of_ble_eq_true rfl⟩ ⟨Nat.le_of_ble_eq_true rfl, Nat.le_of_ble_eq_true rfl⟩ (Nat.le_of_ble_eq_true rfl) ?_
        rintro _ S1 ⟨rfl, hS1⟩
        obtain rfl := hS1.symm
        refine g_aload_n X dX0_bestOf_44 rfl ?_
        refine g_iload_n X dX0_bestOf_45 rfl ?_
        refine g_iload X dX0_bestOf_46 rfl ?_
        refine g_callV (C := RX0) (T := TX0) (N := 13) X (k_X0_worthBy_11 ho (S := gk_si S 301 _) hu hx hf hbj (by omega) hw hic) (lw_V q1053 q1055 qs34 q135 q1056) hd_X0_worthBy dX0_bestOf_48 (rd0 ho) rfl rfl ⟨Nat.le_of_ble_eq_true rfl, Nat.le_of_ble_eq_true rfl⟩ ⟨Nat.le_of_ble_eq_true rfl, Nat.le_of_ble_eq_true rfl⟩ (Nat.le_of_ble_eq_true rfl) ?_
        rintro _ S1 ⟨rfl, hS1⟩
        obtain rfl := hS1.symm
        refine g_top (y := wvC W (nmC S 11 n f j)) (by rw [nmC_off11 hf nmC_o]) ?_
        refine g_eq (S2 := gk_si S 301 (nmC S 11 n f j)) (by rw [si_si, nmC_off11 hf nmC_o]) ?_
        refine g_icmp_le (tgt := 58) X dX0_bestOf_51 rfl (fun c51 => ?_) (fun c51 => ?_)
        · refine g_iinc (v := 1) X dX0_bestOf_58 rfl rfl (Nat.le_of_ble_eq_true rfl) ?_
          refine g_goto (tgt := 6) X dX0_bestOf_61 rfl ?_
          refine g_sub (le_1 rfl (le_1 rfl (le_1 rfl (le_1 rfl (le_1 (congrArg (fun z => some (Value.int z)) (bo_f (fun z => z.2.elim c24 (fun z2 => Int32.lt_irrefl (Int32.lt_of_lt_of_le (by rw [hbj, ix_n (by omega)] at z2; exact z2) c51))))) (le_1 e_1 le_n)))))) (ih (i + 1, nmC S 11 n f j) ?_ ?_)
          · exact ⟨by omega, nmC_o⟩
          · show 5 - (i + 1) < 5 - i; omega
        · refine g_iload X dX0_bestOf_54 rfl ?_
          refine g_istore X dX0_bestOf_56 (Nat.le_of_ble_eq_true rfl) ?_
          refine g_iinc (v := 1) X dX0_bestOf_58 rfl rfl (Nat.le_of_ble_eq_true rfl) ?_
          refine g_goto (tgt := 6) X dX0_bestOf_61 rfl ?_
          refine g_sub (le_1 rfl (le_1 rfl (le_1 rfl (le_1 rfl (le_1 (congrArg (fun z => some (Value.int z)) (bo_t c18 (Or.inr (by rw [hbj, ix_n (by omega)]; exact Int32.not_le.mp c51)))) (le_1 e_1 le_n)))))) (ih (i + 1, nmC S 11 n f j) ?_ ?_)
          · exact ⟨by omega, nmC_o⟩
          · show 5 - (i + 1) < 5 - i; omega
theorem nmC_off304 {S : gk_S} {F : Nat → Int32} {n f k : Nat} (hf : f < 5) (h : offC F (S.1 301)) : nmC (gk_si S 301 F) 304 n f k = nmC S 304 n f k := by
  unfold nmC
  rw [si_s, si_n (show 20 + f ≠ 301 by omega)]
  exact nmL_off h
set_option maxHeartbeats 600000 in
theorem k_X0_bestOf_304 {l : Launch} {E : gk_E} (ho : E.2.2.2.2 = true) {S : gk_S} {x : Int32} {y : Int32} {a n f : Nat} {g : Nat → Int32} {W : Option mnB} {ic : Nat → Nat} (hu : RU E S a n g) (hx : x = nI f) (hf : f < 5) (hw : wtO E ic S.2.2.2 a W) (hic : icA S ic) : gk_T l E yX0_bestOf cX0_bestOf 6 ((some .int)) 251 8026 0 0 [.ref (E.2.2.1 0), .ref (E.2.2.1 304), .int x, .int y] S (fun r S' => ∃ F : Nat → Int32, r = some (.int (boF (fun k => wvC W (nmC S 304 n f k)) y 5)) ∧ S' = gk_si S 301 F ∧ offC F (S.1 301)) := by
  refine gk_T.of [some (.ref (E.2.2.1 0)), some (.ref (E.2.2.1 304)), some (.int x), some (.int y), none, none] (by decide) (Nat.le_of_ble_eq_true rfl) (le_1 rfl (le_1 rfl (le_1 rfl (le_1 rfl (le_p (le_p le_n)))))) ?_
  intro p_ e_ R_ s_ m_ args_ below_ meth_ c_ hR X hr hin
  subst hR
  refine g_iconst (v := (-1)) X dX0_bestOf_0 rfl ?_
  refine g_istore X dX0_bestOf_1 (Nat.le_of_ble_eq_true rfl) ?_
  refine g_iconst (v := 0) X dX0_bestOf_3 rfl ?_
  refine g_istore X dX0_bestOf_4 (Nat.le_of_ble_eq_true rfl) ?_
  refine g_loop (σ := Nat × (Nat → Int32)) (fun (q : Nat × (Nat → Int32)) => match q with | (i, F) => gk_si S 301 F) (fun (q : Nat × (Nat → Int32)) => match q with | (i, F) => ([some (.ref (E.2.2.1 0)), some (.ref (E.2.2.1 304)), some (.int x), some (.int y), some (.int (boF (fun k => wvC W (nmC S 304 n f k)) y i)), some (.int (nI i))] : List (Option Value))) (fun (q : Nat × (Nat → Int32)) => match q with | (i, F) => i ≤ 5 ∧ offC F (S.1 301)) (fun (q : Nat × (Nat → Int32)) => match q with | (i, F) => 5 - i) ((0, S.1 301)) ?_ (si_id.symm) (le_1 rfl (le_1 rfl (le_1 rfl (le_1 rfl (le_1 rfl (le_1 rfl le_n)))))) ?_
  · exact ⟨Nat.zero_le _, fun _ _ => rfl⟩
  rintro ⟨i, F⟩ hI ih
  try dsimp only at hI ih ⊢
  obtain ⟨hI1, hI2⟩ := hI
  refine g_iload X dX0_bestOf_6 rfl ?_
  refine g_iconst (v := 5) X dX0_bestOf_8 rfl ?_
  refine g_icmp_ge (tgt := 64) X dX0_bestOf_9 rfl (fun c9 => ?_) (fun c9 => ?_)
  · obtain rfl : i = 5 := Nat.le_antisymm hI1 ((nI_leI (by decide) (by omega)).mp c9)
    refine g_iload X dX0_bestOf_64 rfl ?_
    exact g_iret X hr dX0_bestOf_66 (Nat.le_of_ble_eq_true rfl) (Nat.le_of_ble_eq_true rfl) (⟨F, rfl, rfl, hI2⟩)
  · have hi5 : i < 5 := (nI_ltI (by omega) (by decide)).mp (Int32.not_le.mp c9)
    refine g_iload_n X dX0_bestOf_12 rfl ?_
    refine g_iload X dX0_bestOf_13 rfl ?_
    refine g_callS X (k_X0_has ho) (lw_S q1028 q1029 q135 q1030) hd_X0_has dX0_bestOf_15 rfl ⟨Nat.le_of_ble_eq_true rfl, Nat.le_of_ble_eq_true rfl⟩ ⟨Nat.le_of_ble_eq_true rfl, Nat.le_of_ble_eq_true rfl⟩ (Nat.le_of_ble_eq_true rfl) ?_
    rintro _ S1 ⟨rfl, hS1⟩
    obtain rfl := hS1.symm
    refine g_ifp_eq (tgt := 58) X dX0_bestOf_18 rfl (fun c18 => ?_) (fun c18 => ?_)
    · refine g_iinc (v := 1) X dX0_bestOf_58 rfl rfl (Nat.le_of_ble_eq_true rfl) ?_
      refine g_goto (tgt := 6) X dX0_bestOf_61 rfl ?_
      refine g_sub (le_1 rfl (le_1 rfl (le_1 rfl (le_1 rfl (le_1 (congrArg (fun z => some (Value.int z)) (bo_f (fun z => c18 z.1))) (le_1 e_1 le_n)))))) (ih (i + 1, F) ?_ ?_)
      · exact ⟨by omega, hI2⟩
      · show 5 - (i + 1) < 5 - i; omega
    · refine g_iload X dX0_bestOf_21 rfl ?_
      refine g_iconst (v := (-1)) X dX0_bestOf_23 rfl ?_
      refine g_icmp_eq (tgt := 54) X dX0_bestOf_24 rfl (fun c24 => ?_) (fun c24 => ?_)
      · refine g_iload X dX0_bestOf_54 rfl ?_
        refine g_istore X dX0_bestOf_56 (Nat.le_of_ble_eq_true rfl) ?_
        refine g_iinc (v := 1) X dX0_bestOf_58 rfl rfl (Nat.le_of_ble_eq_true rfl) ?_
        refine g_goto (tgt := 6) X dX0_bestOf_61 rfl ?_
        refine g_sub (le_1 rfl (le_1 rfl (le_1 rfl (le_1 rfl (le_1 (congrArg (fun z => some (Value.int z)) (bo_t c18 (Or.inl c24))) (le_1 e_1 le_n)))))) (ih (i + 1, F) ?_ ?_)
        · exact ⟨by omega, hI2⟩
        · show 5 - (i + 1) < 5 - i; omega
      · obtain ⟨j, hj, hbj, _⟩ := (bo_in (V := (fun k => wvC W (nmC S 304 n f k))) (y := y) (i := i)).resolve_left c24
        refine g_aload_n X dX0_bestOf_27 rfl ?_
        refine g_aload_n X dX0_bestOf_28 rfl ?_
        refine g_callV (C := RX0) (T := TX0) (N := 13) X (k_X0_rules ho (S := gk_si S 301 F) hu) (lw_V q1019 q1021 qs28 q135 q1022) hd_X0_rules dX0_bestOf_29 (rd0 ho) rfl rfl ⟨Nat.le_of_ble_eq_true rfl, Nat.le_of_ble_eq_true rfl⟩ ⟨Nat.le_of_ble_eq_true rfl, Nat.le_of_ble_eq_true rfl⟩ (Nat.le_of_ble_eq_true rfl) ?_
        rintro _ S1 ⟨rfl, hS1⟩
        obtain rfl := hS1.symm
        refine g_aload_n X dX0_bestOf_32 rfl ?_
        refine g_iload_n X dX0_bestOf_33 rfl ?_
        refine g_iload X dX0_bestOf_34 rfl ?_
        refine g_callV (C := RX0) (T := TX0) (N := 13) X (k_X0_worthBy_304 ho (S := gk_si S 301 F) hu hx hf rfl hi5 hw hic) (lw_V q1053 q1055 qs34 q135 q1056) hd_X0_worthBy dX0_bestOf_36 (rd0 ho) rfl rfl ⟨Nat.le_of_ble_eq_true rfl, Nat.le_of_ble_eq_true rfl⟩ ⟨Nat.le_of_ble_eq_true rfl, Nat.le_of_ble_eq_true rfl⟩ (Nat.le_of_ble_eq_true rfl) ?_
        rintro _ S1 ⟨rfl, hS1⟩
        obtain rfl := hS1.symm
        refine g_top (y := wvC W (nmC S 304 n f i)) (by rw [nmC_off304 hf hI2]) ?_
        refine g_eq (S2 := gk_si S 301 (nmC S 304 n f i)) (by rw [si_si, nmC_off304 hf hI2]) ?_
        refine g_aload_n X dX0_bestOf_39 rfl ?_
        refine g_aload_n X dX0_bestOf_40 rfl ?_
        refine g_callV (C := RX0) (T := TX0) (N := 13) X (k_X0_rules ho (S := gk_si S 301 _) hu) (lw_V q1019 q1021 qs28 q135 q1022) hd_X0_rules dX0_bestOf_41 (rd0 ho) rfl rfl ⟨Nat.le_of_ble_eq_true rfl, Nat.le_of_ble_eq_true rfl⟩ ⟨Nat.le_of_ble_eq_true rfl, Nat.le_of_ble_eq_true rfl⟩ (Nat.le_of_ble_eq_true rfl) ?_
        rintro _ S1 ⟨rfl, hS1⟩
        obtain rfl := hS1.symm
        refine g_aload_n X dX0_bestOf_44 rfl ?_
        refine g_iload_n X dX0_bestOf_45 rfl ?_
        refine g_iload X dX0_bestOf_46 rfl ?_
        refine g_callV (C := RX0) (T := TX0) (N := 13) X (k_X0_worthBy_304 ho (S := gk_si S 301 _) hu hx hf hbj (by omega) hw hic) (lw_V q1053 q1055 qs34 q135 q1056) hd_X0_worthBy dX0_bestOf_48 (rd0 ho) rfl rfl ⟨Nat.le_of_ble_eq_true rfl, Nat.le_of_ble_eq_true rfl⟩ ⟨Nat.le_of_ble_eq_true rfl, Nat.le_of_ble_eq_true rfl⟩ (Nat.le_of_ble_eq_true rfl) ?_
        rintro _ S1 ⟨rfl, hS1⟩
        obtain rfl := hS1.symm
        refine g_top (y := wvC W (nmC S 304 n f j)) (by rw [nmC_off304 hf nmC_o]) ?_
        refine g_eq (S2 := gk_si S 301 (nmC S 304 n f j)) (by rw [si_si, nmC_off304 hf nmC_o]) ?_
        refine g_icmp_le (tgt := 58) X dX0_bestOf_51 rfl (fun c51 => ?_) (fun c51 => ?_)
        · refine g_iinc (v := 1) X dX0_bestOf_58 rfl rfl (Nat.le_of_ble_eq_true rfl) ?_
          refine g_goto (tgt := 6) X dX0_bestOf_61 rfl ?_
          refine g_sub (le_1 rfl (le_1 rfl (le_1 rfl (le_1 rfl (le_1 (congrArg (fun z => some (Value.int z)) (bo_f (fun z => z.2.elim c24 (fun z2 => Int32.lt_irrefl (Int32.lt_of_lt_of_le (by rw [hbj, ix_n (by omega)] at z2; exact z2) c51))))) (le_1 e_1 le_n)))))) (ih (i + 1, nmC S 304 n f j) ?_ ?_)
          · exact ⟨by omega, nmC_o⟩
          · show 5 - (i + 1) < 5 - i; omega
        · refine g_iload X dX0_bestOf_54 rfl ?_
          refine g_istore X dX0_bestOf_56 (Nat.le_of_ble_eq_true rfl) ?_
          refine g_iinc (v := 1) X dX0_bestOf_58 rfl rfl (Nat.le_of_ble_eq_true rfl) ?_
          refine g_goto (tgt := 6) X dX0_bestOf_61 rfl ?_
          refine g_sub (le_1 rfl (le_1 rfl (le_1 rfl (le_1 rfl (le_1 (congrArg (fun z => some (Value.int z)) (bo_t c18 (Or.inr (by rw [hbj, ix_n (by omega)]; exact Int32.not_le.mp c51)))) (le_1 e_1 le_n)))))) (ih (i + 1, nmC S 304 n f j) ?_ ?_)
          · exact ⟨by omega, nmC_o⟩
          · show 5 - (i + 1) < 5 - i; omega
def offM (F o : Nat → Int32) : Prop := ∀ i, 6 ≤ i → F i = o i
theorem nmM_o {S : gk_S} {f k : Nat} : offM (nmM S f k) (S.1 405) := fun i hi => nmM_hi hi
theorem nmd_c {F o : Nat → Int32} (h : offM F o) {x0 x1 x2 x3 x4 x5 : Int32} : nmd F x0 x1 x2 x3 x4 x5 = nmd o x0 x1 x2 x3 x4 x5 := by
  funext i
  unfold nmd upd
  by_cases h6 : 6 ≤ i
  · simp [h i h6]
  · rcases (show i = 0 ∨ i = 1 ∨ i = 2 ∨ i = 3 ∨ i = 4 ∨ i = 5 by omega) with e | e | e | e | e | e <;> subst e <;> rfl
theorem nmM_dt {S : gk_S} {F B : Nat → Int32} {A : Nat → Int64} {f k : Nat} (h : offM F (S.1 405)) : nmM (gk_dt S F A B) f k = nmM S f k := nmd_c h
theorem vcM_dt {S : gk_S} {F B : Nat → Int32} {A : Nat → Int64} {f k n : Nat} (h : offM F (S.1 405)) : vcM (gk_dt S F A B) f k n = vcM S f k n := by
  funext i
  unfold vcM
  rw [nmM_dt h]
  by_cases h4 : i < 4
  · rw [if_pos h4, if_pos h4]
    exact h _ (by omega)
  · rw [if_neg h4, if_neg h4]
    rfl
set_option maxHeartbeats 600000 in
theorem k_X2_taken {l : Launch} {E : gk_E} (ho : E.2.2.2.2 = true) {S : gk_S} {x : Int32} {y : Int32} {n f : Nat} {g : Nat → Int32} {W : Option mnB} (hu : MU S n g) (hx : x = nI f) (hf : f < 5) (hw : wtM (S.1 402) (S.1 400 2) W) (hcl : S.1 201 24 = 0) (hag : ∀ k, k < 5 → agK false (vcM S f k n) (vcM S f k n)) (hlw : lwB (S.2.1 0)) : gk_T l E yX2_taken cX2_taken 5 ((some .int)) 4 98 0 0 [.ref (E.2.2.1 3), .int x, .int y] S (fun r S' => ∃ (F : Nat → Int32) (A : Nat → Int64) (B : Nat → Int32), r = some (.int (y &&& ((1 : Int32) <<< (boF (fun k => wvM W (vcM S f k n)) y 5 &&& 31) ^^^ -1))) ∧ S' = gk_dt (gk_si S 400 (upd (S.1 400) (17 + 2 * f) (boF (fun k => wvM W (vcM S f k n)) y 5))) F A B ∧ offM F (S.1 405) ∧ lwB A) := by
  refine gk_T.of [some (.ref (E.2.2.1 3)), some (.int x), some (.int y), none, none] (by decide) (Nat.le_of_ble_eq_true rfl) (le_1 rfl (le_1 rfl (le_1 rfl (le_p (le_p le_n))))) ?_
  intro p_ e_ R_ s_ m_ args_ below_ meth_ c_ hR X hr hin
  subst hR
  refine g_iconst (v := (-1)) X dX2_taken_0 rfl ?_
  refine g_istore_n X dX2_taken_1 (Nat.le_of_ble_eq_true rfl) ?_
  refine g_iconst (v := 0) X dX2_taken_2 rfl ?_
  refine g_istore X dX2_taken_3 (Nat.le_of_ble_eq_true rfl) ?_
  refine g_loop (σ := Nat × (Nat → Int32) × (Nat → Int64) × (Nat → Int32)) (fun (q : Nat × (Nat → Int32) × (Nat → Int64) × (Nat → Int32)) => match q with | (i, F, A, B) => gk_dt S F A B) (fun (q : Nat × (Nat → Int32) × (Nat → Int64) × (Nat → Int32)) => match q with | (i, F, A, B) => ([some (.ref (E.2.2.1 3)), some (.int x), some (.int y), some (.int (boF (fun k => wvM W (vcM S f k n)) y i)), some (.int (nI i))] : List (Option Value))) (fun (q : Nat × (Nat → Int32) × (Nat → Int64) × (Nat → Int32)) => match q with | (i, F, A, B) => i ≤ 5 ∧ offM F (S.1 405) ∧ lwB A) (fun (q : Nat × (Nat → Int32) × (Nat → Int64) × (Nat → Int32)) => match q with | (i, F, A, B) => 5 - i) ((0, S.1 405, S.2.1 0, S.1 407)) ?_ (dt_self) (le_1 rfl (le_1 rfl (le_1 rfl (le_1 rfl (le_1 rfl le_n))))) ?_
  · exact ⟨Nat.zero_le _, fun _ _ => rfl, hlw⟩
  rintro ⟨i, F, A, B⟩ hI ih
  try dsimp only at hI ih ⊢
  obtain ⟨hI1, hI2, hI3⟩ := hI
  refine g_iload X dX2_taken_5 rfl ?_
  refine g_iconst (v := 5) X dX2_taken_7 rfl ?_
  refine g_icmp_ge (tgt := 62) X dX2_taken_8 rfl (fun c8 => ?_) (fun c8 => ?_)
  · obtain rfl : i = 5 := Nat.le_antisymm hI1 ((nI_leI (by decide) (by omega)).mp c8)
    refine g_aload_n X dX2_taken_62 rfl ?_
    refine g_get (C := RX2) (T := TX2) (N := 35) X 0 in_X2 dX2_taken_63 q1405 (rd3 ho) rfl (Nat.le_of_ble_eq_true rfl) (fun _ h9 => h9) rfl ?_
    refine g_bipush (v := 17) X dX2_taken_66 rfl ?_
    refine g_iconst (v := 2) X dX2_taken_68 rfl ?_
    refine g_iload_n X dX2_taken_69 rfl ?_
    refine g_imul X dX2_taken_70 ?_
    refine g_iadd X dX2_taken_71 ?_
    refine g_iload_n X dX2_taken_72 rfl ?_
    refine g_iast X ho (400) (j := 17 + 2 * f) dX2_taken_73 rfl (rfl) (by rw [hx]; show nI 17 + nI 2 * nI f = _; rw [pk_mul, nI_add]) (by omega) (by decide) ?_
    refine g_eq (S2 := gk_dt (gk_si S 400 (upd (S.1 400) (17 + 2 * f) (boF (fun k => wvM W (vcM S f k n)) y 5))) F A B) (by rw [dt_si (by decide) (by decide)]; rfl) ?_
    refine g_iload_n X dX2_taken_74 rfl ?_
    refine g_iconst (v := 1) X dX2_taken_75 rfl ?_
    refine g_iload_n X dX2_taken_76 rfl ?_
    refine g_ishl X dX2_taken_77 ?_
    refine g_iconst (v := (-1)) X dX2_taken_78 rfl ?_
    refine g_ixor X dX2_taken_79 ?_
    refine g_iand X dX2_taken_80 ?_
    exact g_iret X hr dX2_taken_81 (Nat.le_of_ble_eq_true rfl) (Nat.le_of_ble_eq_true rfl) (⟨F, A, B, rfl, rfl, hI2, hI3⟩)
  · have hi5 : i < 5 := (nI_ltI (by omega) (by decide)).mp (Int32.not_le.mp c8)
    refine g_iload_n X dX2_taken_11 rfl ?_
    refine g_iload X dX2_taken_12 rfl ?_
    refine g_callS X (k_X2_has ho) (lw_S q1711 q1712 q139 q1713) hd_X2_has dX2_taken_14 rfl ⟨Nat.le_of_ble_eq_true rfl, Nat.le_of_ble_eq_true rfl⟩ ⟨Nat.le_of_ble_eq_true rfl, Nat.le_of_ble_eq_true rfl⟩ (Nat.le_of_ble_eq_true rfl) ?_
    rintro _ S1 ⟨rfl, hS1⟩
    obtain rfl := hS1.symm
    refine g_ifp_eq (tgt := 56) X dX2_taken_17 rfl (fun c17 => ?_) (fun c17 => ?_)
    · refine g_iinc (v := 1) X dX2_taken_56 rfl rfl (Nat.le_of_ble_eq_true rfl) ?_
      refine g_goto (tgt := 5) X dX2_taken_59 rfl ?_
      refine g_sub (le_1 rfl (le_1 rfl (le_1 rfl (le_1 (congrArg (fun z => some (Value.int z)) (bo_f (fun z => c17 z.1))) (le_1 e_1 le_n))))) (ih (i + 1, F, A, B) ?_ ?_)
      · exact ⟨by omega, hI2, hI3⟩
      · show 5 - (i + 1) < 5 - i; omega
    · refine g_iload_n X dX2_taken_20 rfl ?_
      refine g_iconst (v := (-1)) X dX2_taken_21 rfl ?_
      refine g_icmp_eq (tgt := 53) X dX2_taken_22 rfl (fun c22 => ?_) (fun c22 => ?_)
      · refine g_iload X dX2_taken_53 rfl ?_
        refine g_istore_n X dX2_taken_55 (Nat.le_of_ble_eq_true rfl) ?_
        refine g_iinc (v := 1) X dX2_taken_56 rfl rfl (Nat.le_of_ble_eq_true rfl) ?_
        refine g_goto (tgt := 5) X dX2_taken_59 rfl ?_
        refine g_sub (le_1 rfl (le_1 rfl (le_1 rfl (le_1 (congrArg (fun z => some (Value.int z)) (bo_t c17 (Or.inl c22))) (le_1 e_1 le_n))))) (ih (i + 1, F, A, B) ?_ ?_)
        · exact ⟨by omega, hI2, hI3⟩
        · show 5 - (i + 1) < 5 - i; omega
      · obtain ⟨j, hj, hbj, _⟩ := (bo_in (V := (fun k => wvM W (vcM S f k n))) (y := y) (i := i)).resolve_left c22
        refine g_aload_n X dX2_taken_25 rfl ?_
        refine g_aload_n X dX2_taken_26 rfl ?_
        refine g_get (C := RX2) (T := TX2) (N := 35) X 0 in_X2 dX2_taken_27 q1405 (rd3 ho) rfl (Nat.le_of_ble_eq_true rfl) (fun _ h9 => h9) rfl ?_
        refine g_iconst (v := 2) X dX2_taken_30 rfl ?_
        refine g_iald (j := 2) X dX2_taken_31 (rdi ho (400) (rfl)) rfl (by decide) (by decide) ?_
        refine g_iload_n X dX2_taken_32 rfl ?_
        refine g_iload X dX2_taken_33 rfl ?_
        refine g_callV (C := RX2) (T := TX2) (N := 35) X (k_X2_worthBy ho (S := gk_dt S F A B) (W := W) (n := n) (g := g) hx hf rfl hi5 hw hcl hu (by rw [vcM_dt hI2]; exact hag _ hi5) hI3) (lw_V q1829 q1831 qs110 q139 q1832) hd_X2_worthBy dX2_taken_35 (rd3 ho) rfl rfl ⟨Nat.le_of_ble_eq_true rfl, Nat.le_of_ble_eq_true rfl⟩ ⟨Nat.le_of_ble_eq_true rfl, Nat.le_of_ble_eq_true rfl⟩ (Nat.le_of_ble_eq_true rfl) ?_
        rintro _ S1 ⟨A2, B2, rfl, hS1, hA2⟩
        obtain rfl := hS1.symm
        refine g_top (y := wvM W (vcM S f i n)) (by rw [vcM_dt hI2]) ?_
        refine g_eq (S2 := gk_dt S (nmM S f i) A2 B2) (by rw [dt_dt, nmM_dt hI2]) ?_
        refine g_aload_n X dX2_taken_38 rfl ?_
        refine g_aload_n X dX2_taken_39 rfl ?_
        refine g_get (C := RX2) (T := TX2) (N := 35) X 0 in_X2 dX2_taken_40 q1405 (rd3 ho) rfl (Nat.le_of_ble_eq_true rfl) (fun _ h9 => h9) rfl ?_
        refine g_iconst (v := 2) X dX2_taken_43 rfl ?_
        refine g_iald (j := 2) X dX2_taken_44 (rdi ho (400) (rfl)) rfl (by decide) (by decide) ?_
        refine g_iload_n X dX2_taken_45 rfl ?_
        refine g_iload_n X dX2_taken_46 rfl ?_
        refine g_callV (C := RX2) (T := TX2) (N := 35) X (k_X2_worthBy ho (S := gk_dt S (nmM S f i) A2 B2) (W := W) (n := n) (g := g) hx hf hbj (by omega) hw hcl hu (by rw [vcM_dt nmM_o]; exact hag _ (by omega)) hA2) (lw_V q1829 q1831 qs110 q139 q1832) hd_X2_worthBy dX2_taken_47 (rd3 ho) rfl rfl ⟨Nat.le_of_ble_eq_true rfl, Nat.le_of_ble_eq_true rfl⟩ ⟨Nat.le_of_ble_eq_true rfl, Nat.le_of_ble_eq_true rfl⟩ (Nat.le_of_ble_eq_true rfl) ?_
        rintro _ S1 ⟨A3, B3, rfl, hS1, hA3⟩
        obtain rfl := hS1.symm
        refine g_top (y := wvM W (vcM S f j n)) (by rw [vcM_dt nmM_o]) ?_
        refine g_eq (S2 := gk_dt S (nmM S f j) A3 B3) (by rw [dt_dt, nmM_dt nmM_o]) ?_
        refine g_icmp_le (tgt := 56) X dX2_taken_50 rfl (fun c50 => ?_) (fun c50 => ?_)
        · refine g_iinc (v := 1) X dX2_taken_56 rfl rfl (Nat.le_of_ble_eq_true rfl) ?_
          refine g_goto (tgt := 5) X dX2_taken_59 rfl ?_
          refine g_sub (le_1 rfl (le_1 rfl (le_1 rfl (le_1 (congrArg (fun z => some (Value.int z)) (bo_f (fun z => z.2.elim c22 (fun z2 => Int32.lt_irrefl (Int32.lt_of_lt_of_le (by rw [hbj, ix_n (by omega)] at z2; exact z2) c50))))) (le_1 e_1 le_n))))) (ih (i + 1, nmM S f j, A3, B3) ?_ ?_)
          · exact ⟨by omega, nmM_o, hA3⟩
          · show 5 - (i + 1) < 5 - i; omega
        · refine g_iload X dX2_taken_53 rfl ?_
          refine g_istore_n X dX2_taken_55 (Nat.le_of_ble_eq_true rfl) ?_
          refine g_iinc (v := 1) X dX2_taken_56 rfl rfl (Nat.le_of_ble_eq_true rfl) ?_
          refine g_goto (tgt := 5) X dX2_taken_59 rfl ?_
          refine g_sub (le_1 rfl (le_1 rfl (le_1 rfl (le_1 (congrArg (fun z => some (Value.int z)) (bo_t c17 (Or.inr (by rw [hbj, ix_n (by omega)]; exact Int32.not_le.mp c50)))) (le_1 e_1 le_n))))) (ih (i + 1, nmM S f j, A3, B3) ?_ ?_)
          · exact ⟨by omega, nmM_o, hA3⟩
          · show 5 - (i + 1) < 5 - i; omega
