/-! THE MODEL'S STEPS: a run of numbers and truths over lists; rn v C: the code C run by names v -/
abbrev mst : Type := List Int64 × List Bool
def bdd (x : Int64) : Bool := decide (-1000000 ≤ x) && decide (x ≤ 1000000)
def ps (x : Int64) (vs : List Int64) (ts : List Bool) : Option mst := if bdd x = true then some (x :: vs, ts) else none
def twM (o : Int32) (x y : Int64) : Int64 := if o = 6 then clM (x + y) else if o = 7 then clM (x - y) else if o = 8 then clM (x * y) else if y = 0 then 0 else clM (x / y)
def gaM (x : Int64) : Int64 := if x < 0 then 0 - x else x - 0
def biM (o : Nat) (x y : Int64) : Int64 := if o = 4 then gaM (twM 7 x y) else twM (nI o) x y
def akB (o : Int32) (x y : Int64) : Bool := if o = 10 then decide (x < y) else if o = 11 then decide (x ≤ y) else if o = 12 then decide (y < x) else if o = 13 then decide (y ≤ x) else if o = 14 then decide (x = y) else decide (x ≠ y)
def jnB (o : Int32) (a b : Bool) : Bool := if o = 21 then a && b else a || b
def nvM (v : Nat → Int32) (w : Nat) : Int32 := if w < 6 then v (4 + w) else v (w - 6)
def st (v : Nat → Int32) (o w : Nat) (q : mst) : Option mst :=
  if o ≤ 1 then (if o = 1 ∧ ¬ w < 10 then none else ps (if o = 0 then (nI w).toInt64 else (nvM v w).toInt64) q.1 q.2)
  else if o = 3 then (match q.1, q.2 with
    | y :: x :: vs, b :: ts => ps (if b = true then x else y) vs ts
    | _, _ => none)
  else if o = 5 ∨ o = 2 then (match q.1 with
    | x :: vs => ps (if o = 5 then -x else hdB v x) vs q.2
    | _ => none)
  else if o < 10 then (match q.1 with
    | y :: x :: vs => ps (biM o x y) vs q.2
    | _ => none)
  else if o < 20 then (match q.1 with
    | y :: x :: vs => some (vs, akB (nI o) x y :: q.2)
    | _ => none)
  else if o = 20 then (match q.2 with
    | b :: ts => some (q.1, (!b) :: ts)
    | _ => none)
  else if o ≤ 22 then (match q.2 with
    | b :: a :: ts => some (q.1, jnB (nI o) a b :: ts)
    | _ => none)
  else none
def rn (v : Nat → Int32) : List (Nat × Nat) → mst → Option mst
  | [], q => some q
  | ow :: C, q => (st v ow.1 ow.2 q).bind (rn v C)
theorem rn_app {v : Nat → Int32} : ∀ {C D : List (Nat × Nat)} {q : mst}, rn v (C ++ D) q = (rn v C q).bind (rn v D)
  | [], _, _ => rfl
  | ow :: C, D, q => by
    show (st v ow.1 ow.2 q).bind (rn v (C ++ D)) = ((st v ow.1 ow.2 q).bind (rn v C)).bind (rn v D)
    cases st v ow.1 ow.2 q with
    | none => rfl
    | some z => exact rn_app
theorem ps_some {x : Int64} {vs : List Int64} {ts : List Bool} {z : mst} (h : ps x vs ts = some z) : z = (x :: vs, ts) ∧ bdd x = true := by
  unfold ps at h
  split at h
  · rename_i hb
    exact ⟨(Option.some.inj h).symm, hb⟩
  · cases h
theorem st_le {v : Nat → Int32} {o w : Nat} {q z : mst} (h : st v o w q = some z) : o ≤ 22 := by
  apply Decidable.byContradiction
  intro hn
  unfold st at h
  rw [if_neg (by omega), if_neg (by omega), if_neg (by omega), if_neg (by omega), if_neg (by omega), if_neg (by omega), if_neg hn] at h
  cases h
theorem st_0 {v : Nat → Int32} {o w : Nat} {q z : mst} (h : st v o w q = some z) (ho : o ≤ 1) : z = ((if o = 0 then (nI w).toInt64 else (nvM v w).toInt64) :: q.1, q.2) ∧ bdd (if o = 0 then (nI w).toInt64 else (nvM v w).toInt64) = true ∧ (o = 1 → w < 10) := by
  unfold st at h
  rw [if_pos ho] at h
  split at h
  · cases h
  · rename_i hn
    obtain ⟨h1, h2⟩ := ps_some h
    exact ⟨h1, h2, fun h3 => Decidable.byContradiction (fun h4 => hn ⟨h3, h4⟩)⟩
theorem st_3 {v : Nat → Int32} {o w : Nat} {q z : mst} (h : st v o w q = some z) (ho : o = 3) : ∃ (x y : Int64) (b : Bool) (vs : List Int64) (ts : List Bool), q = (y :: x :: vs, b :: ts) ∧ z = ((if b = true then x else y) :: vs, ts) ∧ bdd (if b = true then x else y) = true := by
  unfold st at h
  rw [if_neg (by omega), if_pos ho] at h
  split at h
  · rename_i y x vs b ts e1 e2
    obtain ⟨h1, h2⟩ := ps_some h
    exact ⟨x, y, b, vs, ts, Prod.ext e1 e2, h1, h2⟩
  · cases h
theorem st_5 {v : Nat → Int32} {o w : Nat} {q z : mst} (h : st v o w q = some z) (ho : o = 5 ∨ o = 2) : ∃ (x : Int64) (vs : List Int64), q.1 = x :: vs ∧ z = ((if o = 5 then -x else hdB v x) :: vs, q.2) ∧ bdd (if o = 5 then -x else hdB v x) = true := by
  unfold st at h
  rw [if_neg (by omega), if_neg (by omega), if_pos ho] at h
  split at h
  · rename_i x vs e1
    obtain ⟨h1, h2⟩ := ps_some h
    exact ⟨x, vs, e1, h1, h2⟩
  · cases h
theorem st_9 {v : Nat → Int32} {o w : Nat} {q z : mst} (h : st v o w q = some z) (h0 : ¬ o ≤ 1) (h3 : ¬ o = 3) (h5 : ¬ o = 5) (h2 : ¬ o = 2) (ho : o < 10) : ∃ (x y : Int64) (vs : List Int64), q.1 = y :: x :: vs ∧ z = (biM o x y :: vs, q.2) ∧ bdd (biM o x y) = true := by
  unfold st at h
  rw [if_neg h0, if_neg h3, if_neg (by omega), if_pos ho] at h
  split at h
  · rename_i y x vs e1
    obtain ⟨h1, h2⟩ := ps_some h
    exact ⟨x, y, vs, e1, h1, h2⟩
  · cases h
theorem st_15 {v : Nat → Int32} {o w : Nat} {q z : mst} (h : st v o w q = some z) (h0 : ¬ o < 10) (ho : o < 20) : ∃ (x y : Int64) (vs : List Int64), q.1 = y :: x :: vs ∧ z = (vs, akB (nI o) x y :: q.2) := by
  unfold st at h
  rw [if_neg (by omega), if_neg (by omega), if_neg (by omega), if_neg h0, if_pos ho] at h
  split at h
  · rename_i y x vs e1
    exact ⟨x, y, vs, e1, (Option.some.inj h).symm⟩
  · cases h
theorem st_20 {v : Nat → Int32} {o w : Nat} {q z : mst} (h : st v o w q = some z) (ho : o = 20) : ∃ (b : Bool) (ts : List Bool), q.2 = b :: ts ∧ z = (q.1, (!b) :: ts) := by
  unfold st at h
  rw [if_neg (by omega), if_neg (by omega), if_neg (by omega), if_neg (by omega), if_neg (by omega), if_pos ho] at h
  split at h
  · rename_i b ts e1
    exact ⟨b, ts, e1, (Option.some.inj h).symm⟩
  · cases h
theorem st_22 {v : Nat → Int32} {o w : Nat} {q z : mst} (h : st v o w q = some z) (h0 : ¬ o < 20) (ho : ¬ o = 20) : ∃ (a b : Bool) (ts : List Bool), q.2 = b :: a :: ts ∧ z = (q.1, jnB (nI o) a b :: ts) := by
  have hle := st_le h
  unfold st at h
  rw [if_neg (by omega), if_neg (by omega), if_neg (by omega), if_neg (by omega), if_neg h0, if_neg ho, if_pos hle] at h
  split at h
  · rename_i b a ts e1
    exact ⟨a, b, ts, e1, (Option.some.inj h).symm⟩
  · cases h
/-- the arrays hold the lists, the last at the front -/
def rpL (A : Nat → Int64) : List Int64 → Prop
  | [] => True
  | x :: vs => A vs.length = x ∧ rpL A vs
def rpT (B : Nat → Int32) : List Bool → Prop
  | [] => True
  | b :: ts => B ts.length = bP (b = true) ∧ rpT B ts
theorem rpL_up {A : Nat → Int64} {n : Nat} {x : Int64} : ∀ {vs : List Int64}, rpL A vs → vs.length ≤ n → rpL (vp_updL A n x) vs
  | [], _, _ => trivial
  | y :: vs, h, hn => by
    have hl : vs.length + 1 ≤ n := hn
    exact ⟨by show (if vs.length = n then x else A vs.length) = y; rw [if_neg (by omega)]; exact h.1, rpL_up h.2 (by omega)⟩
theorem rpL_ps {A : Nat → Int64} {x : Int64} {vs : List Int64} (h : rpL A vs) : rpL (vp_updL A vs.length x) (x :: vs) := ⟨if_pos rfl, rpL_up h (Nat.le_refl _)⟩
theorem rpT_up {B : Nat → Int32} {n : Nat} {x : Int32} : ∀ {ts : List Bool}, rpT B ts → ts.length ≤ n → rpT (upd B n x) ts
  | [], _, _ => trivial
  | y :: ts, h, hn => by
    have hl : ts.length + 1 ≤ n := hn
    exact ⟨by rw [upd_n (by omega)]; exact h.1, rpT_up h.2 (by omega)⟩
theorem nar_bP {P : Prop} [Decidable P] : vp_nar .boolean (bP P) = bP P := by unfold bP; split <;> rfl
theorem rpT_ps {B : Nat → Int32} {b : Bool} {ts : List Bool} {x : Int32} (h : rpT B ts) (hx : x = bP (b = true)) : rpT (upd B ts.length (vp_nar .boolean x)) (b :: ts) := ⟨by rw [upd_s, hx, nar_bP], rpT_up h (Nat.le_refl _)⟩
def lwB (A : Nat → Int64) : Prop := bdd (A 0) = true
theorem lwB_up {A : Nat → Int64} {n : Nat} {x : Int64} (h : lwB A) (hx : bdd x = true) : lwB (vp_updL A n x) := by
  unfold lwB vp_updL
  split
  · exact hx
  · exact h
/-- the code of a text in the texts' array, from step i on -/
def cdA (t : Nat → Int32) (j : Nat) : Nat → List (Nat × Nat) → Prop
  | _, [] => True
  | i, ow :: D => t (714 * j + 97 + 2 * i) = nI ow.1 ∧ t (714 * j + 97 + 2 * i + 1) = nI ow.2 ∧ cdA t j (i + 1) D
theorem nI_p1 {n : Nat} : nI (n + 1) + (-1) = nI n := by rw [← nI_pred n, Int32.sub_eq_add_neg]
theorem nI_p2 {n : Nat} : nI (n + 2) + (-1) - 1 = nI n := by rw [show n + 2 = (n + 1) + 1 from rfl, nI_p1, nI_pred]
theorem nI_p3 {n : Nat} : nI (n + 2) + (-2) = nI n := by rw [show (-2 : Int32) = -1 + -1 by decide, ← Int32.add_assoc, show n + 2 = (n + 1) + 1 from rfl, nI_p1, nI_p1]
theorem sl_nf {S : gk_S} {A B : Nat → Int64} {F : Nat → Int32} : gk_sl (gk_si (gk_sl S 0 A) 407 F) 0 B = gk_si (gk_sl S 0 B) 407 F := by
  unfold gk_sl gk_si
  refine Prod.ext rfl (Prod.ext ?_ rfl)
  funext k
  by_cases h : k = 0 <;> simp [va_up, h]
theorem ak_v {o : Int32} {v w : Int64} : (if o = 10 then bP (v < w) else if o = 11 then bP (v ≤ w) else if o = 12 then bP (w < v) else if o = 13 then bP (w ≤ v) else if o = 14 then bP (v = w) else bP (v ≠ w)) = bP (akB o v w = true) := by
  unfold akB
  repeat' split
  all_goals exact bP_iff (by simp)
theorem jn_v {o : Int32} {a b : Bool} : (if o = 21 then (if bP (a = true) = 0 ∨ bP (b = true) = 0 then (0 : Int32) else 1) else if bP (a = true) = 0 ∧ bP (b = true) = 0 then 0 else 1) = bP (jnB o a b = true) := by
  unfold jnB
  split <;> cases a <;> cases b <;> rfl
theorem tw6 {x y : Int64} : twM 6 x y = clM (x + y) := if_pos rfl
theorem tw7 {x y : Int64} : twM 7 x y = clM (x - y) := (if_neg (by decide)).trans (if_pos rfl)
theorem tw8 {x y : Int64} : twM 8 x y = clM (x * y) := (if_neg (by decide)).trans ((if_neg (by decide)).trans (if_pos rfl))
theorem tw_o6 {o : Int32} (h : o.toInt < 6 ∨ 8 < o.toInt) : ¬ o = 6 := fun z => by subst z; revert h; decide
theorem tw_o7 {o : Int32} (h : o.toInt < 6 ∨ 8 < o.toInt) : ¬ o = 7 := fun z => by subst z; revert h; decide
theorem tw_o8 {o : Int32} (h : o.toInt < 6 ∨ 8 < o.toInt) : ¬ o = 8 := fun z => by subst z; revert h; decide
set_option maxHeartbeats 600000 in
theorem k_X2_two {l : Launch} {E : gk_E} (ho : E.2.2.2.2 = true) {S : gk_S} {o : Int32} {x : Int64} {y : Int64}   : gk_T l E yX2_two cX2_two 5 ((some .long)) 1 21 0 0 [.int o, .long x, .long y] S (fun r S' => r = some (.long (twM o x y)) ∧ S' = S) := by
  refine gk_T.of [some (.int o), some (.long x), none, some (.long y), none] (by decide) (Nat.le_of_ble_eq_true rfl) (fun _ _ h => h) ?_
  intro p_ e_ R_ s_ m_ args_ below_ meth_ c_ hR X hr hin
  subst hR
  refine g_iload_n X dX2_two_0 rfl ?_
  rcases Decidable.em ((o).toInt < 6 ∨ 8 < (o).toInt) with h1 | h1
  · refine g_tableOut (tgt := 49) X dX2_two_1 h1 rfl ?_
    refine g_lload_n X dX2_two_49 rfl ?_
    refine g_lconst (v := 0) X dX2_two_50 rfl ?_
    refine g_lcmp X dX2_two_51 ?_
    refine g_if_ne (tgt := 59) X dX2_two_52 rfl (fun c52 => ?_) (fun c52 => ?_)
    · refine g_lload_n X dX2_two_59 rfl ?_
      refine g_lload_n X dX2_two_60 rfl ?_
      refine g_ldiv X dX2_two_61 (fun z => c52 ((lg_cmp_eq _ _).mpr z)) ?_
      refine g_callS X (k_X2_clip ho) (lw_S q1717 q1718 q139 q1719) hd_X2_clip dX2_two_62 rfl ⟨Nat.le_of_ble_eq_true rfl, Nat.le_of_ble_eq_true rfl⟩ ⟨Nat.le_of_ble_eq_true rfl, Nat.le_of_ble_eq_true rfl⟩ (Nat.le_of_ble_eq_true rfl) ?_
      rintro _ S1 ⟨rfl, hS1⟩
      obtain rfl := hS1.symm
      exact g_lret X hr dX2_two_65 (Nat.le_of_ble_eq_true rfl) (Nat.le_of_ble_eq_true rfl) (⟨by unfold twM; rw [if_neg (tw_o6 h1), if_neg (tw_o7 h1), if_neg (tw_o8 h1), if_neg (fun z => c52 ((lg_cmp_eq _ _).mpr z))], rfl⟩)
    · refine g_lconst (v := 0) X dX2_two_55 rfl ?_
      refine g_goto (tgt := 65) X dX2_two_56 rfl ?_
      exact g_lret X hr dX2_two_65 (Nat.le_of_ble_eq_true rfl) (Nat.le_of_ble_eq_true rfl) (⟨by unfold twM; rw [if_neg (tw_o6 h1), if_neg (tw_o7 h1), if_neg (tw_o8 h1), if_pos ((lg_cmp_eq _ _).mp c52)], rfl⟩)
  · rcases (show (o).toInt = 6 ∨ (o).toInt = 7 ∨ (o).toInt = 8 from by omega) with s1 | s1 | s1
    · have s1 : o = 6 := Int32.toInt_inj.mp (s1.trans (by decide))
      refine g_tableIn (off := 27) (tgt := 28) X dX2_two_1 (by rw [s1]; decide) (by rw [s1]; decide) (by rw [s1]; rfl) rfl ?_
      refine g_lload_n X dX2_two_28 rfl ?_
      refine g_lload_n X dX2_two_29 rfl ?_
      refine g_ladd X dX2_two_30 ?_
      refine g_callS X (k_X2_clip ho) (lw_S q1717 q1718 q139 q1719) hd_X2_clip dX2_two_31 rfl ⟨Nat.le_of_ble_eq_true rfl, Nat.le_of_ble_eq_true rfl⟩ ⟨Nat.le_of_ble_eq_true rfl, Nat.le_of_ble_eq_true rfl⟩ (Nat.le_of_ble_eq_true rfl) ?_
      rintro _ S1 ⟨rfl, hS1⟩
      obtain rfl := hS1.symm
      exact g_lret X hr dX2_two_34 (Nat.le_of_ble_eq_true rfl) (Nat.le_of_ble_eq_true rfl) (⟨by rw [s1, tw6], rfl⟩)
    · have s1 : o = 7 := Int32.toInt_inj.mp (s1.trans (by decide))
      refine g_tableIn (off := 34) (tgt := 35) X dX2_two_1 (by rw [s1]; decide) (by rw [s1]; decide) (by rw [s1]; rfl) rfl ?_
      refine g_lload_n X dX2_two_35 rfl ?_
      refine g_lload_n X dX2_two_36 rfl ?_
      refine g_lsub X dX2_two_37 ?_
      refine g_callS X (k_X2_clip ho) (lw_S q1717 q1718 q139 q1719) hd_X2_clip dX2_two_38 rfl ⟨Nat.le_of_ble_eq_true rfl, Nat.le_of_ble_eq_true rfl⟩ ⟨Nat.le_of_ble_eq_true rfl, Nat.le_of_ble_eq_true rfl⟩ (Nat.le_of_ble_eq_true rfl) ?_
      rintro _ S1 ⟨rfl, hS1⟩
      obtain rfl := hS1.symm
      exact g_lret X hr dX2_two_41 (Nat.le_of_ble_eq_true rfl) (Nat.le_of_ble_eq_true rfl) (⟨by rw [s1, tw7], rfl⟩)
    · have s1 : o = 8 := Int32.toInt_inj.mp (s1.trans (by decide))
      refine g_tableIn (off := 41) (tgt := 42) X dX2_two_1 (by rw [s1]; decide) (by rw [s1]; decide) (by rw [s1]; rfl) rfl ?_
      refine g_lload_n X dX2_two_42 rfl ?_
      refine g_lload_n X dX2_two_43 rfl ?_
      refine g_lmul X dX2_two_44 ?_
      refine g_callS X (k_X2_clip ho) (lw_S q1717 q1718 q139 q1719) hd_X2_clip dX2_two_45 rfl ⟨Nat.le_of_ble_eq_true rfl, Nat.le_of_ble_eq_true rfl⟩ ⟨Nat.le_of_ble_eq_true rfl, Nat.le_of_ble_eq_true rfl⟩ (Nat.le_of_ble_eq_true rfl) ?_
      rintro _ S1 ⟨rfl, hS1⟩
      obtain rfl := hS1.symm
      exact g_lret X hr dX2_two_48 (Nat.le_of_ble_eq_true rfl) (Nat.le_of_ble_eq_true rfl) (⟨by rw [s1, tw8], rfl⟩)
/-- heldOf answers by v -/
def HdA (S : gk_S) (v : Nat → Int32) : Prop := (S.1 201 24 = 0 ∧ ∃ (n : Nat) (f : Nat → Int32), MU S n f ∧ ∀ k, k < 8 → v (10 + k) = bP (k < n ∧ hs (S.1 400 7) (nI k))) ∨ (S.1 201 24 ≠ 0 ∧ ∀ k, k < 8 → v (10 + k) = 0)
theorem hh_0 {v : Nat → Int32} {c : Int64} (h : ∀ k, k < 8 → v (10 + k) = 0) : hdB v c = 0 := by
  unfold hdB
  split
  · rfl
  · rename_i hc
    have h1 : ¬ c < 0 := fun z => hc (Or.inl z)
    have h2 : ¬ 8 ≤ c := fun z => hc (Or.inr z)
    have h3 := Int64.le_iff_toInt_le.mp (Int64.not_lt.mp h1)
    have h4 := Int64.lt_iff_toInt_lt.mp (Int64.not_le.mp h2)
    have h5 : c.toInt < 8 := h4
    have h6 : 0 ≤ c.toInt := h3
    rw [h _ (by omega)]
    rfl
theorem hh_neg {v : Nat → Int32} {c : Int64} (h : lg_cmp c 0 < 0) : hdB v c = 0 := if_pos (hd_ps2 h)
theorem hh_n {n : Nat} (hn : n ≤ 8) : (nI n).toInt64.toInt = n := by rw [Int32.toInt_toInt64, nI_toInt (by omega)]
theorem hh_ge {v : Nat → Int32} {b : Int32} {n : Nat} {c : Int64} (hn : n ≤ 8) (h : ∀ k, k < 8 → v (10 + k) = bP (k < n ∧ hs b (nI k))) (h0 : ¬ lg_cmp c 0 < 0) (h1 : 0 ≤ lg_cmp c (nI n).toInt64) : hdB v c = 0 := by
  unfold hdB
  split
  · rfl
  · rename_i hc
    have h2 : ¬ 8 ≤ c := fun z => hc (Or.inr z)
    have h3 := Int64.le_iff_toInt_le.mp (lc_ge h0)
    have h4 := Int64.lt_iff_toInt_lt.mp (Int64.not_le.mp h2)
    have h5 : c.toInt < 8 := h4
    have h6 : 0 ≤ c.toInt := h3
    have h7 := Int64.le_iff_toInt_le.mp ((lg_cmp_ge _ _).mp h1)
    rw [hh_n hn] at h7
    rw [h _ (by omega), bP_f (fun z => by have := z.1; omega)]
    rfl
theorem hh_in {n : Nat} {c : Int64} (hn : n ≤ 8) (h0 : ¬ lg_cmp c 0 < 0) (h1 : ¬ 0 ≤ lg_cmp c (nI n).toInt64) : 0 ≤ c.toInt ∧ c.toInt < n := by
  have h3 : 0 ≤ c.toInt := Int64.le_iff_toInt_le.mp (lc_ge h0)
  have h7 := Int64.lt_iff_toInt_lt.mp (Int64.not_le.mp (fun z => h1 ((lg_cmp_ge _ _).mpr z)))
  rw [hh_n hn] at h7
  exact ⟨h3, h7⟩
theorem hh_has {v : Nat → Int32} {b : Int32} {n : Nat} {c : Int64} (hn : n ≤ 8) (h : ∀ k, k < 8 → v (10 + k) = bP (k < n ∧ hs b (nI k))) (h0 : ¬ lg_cmp c 0 < 0) (h1 : ¬ 0 ≤ lg_cmp c (nI n).toInt64) : hdB v c = (bP (hs b c.toInt32)).toInt64 := by
  obtain ⟨a1, a2⟩ := hh_in hn h0 h1
  have e : c.toInt32 = nI c.toInt.toNat := by
    apply Int32.toInt_inj.mp
    rw [nI_toInt (by omega), Int64.toInt_toInt32, Int.toNat_of_nonneg a1]
    exact Int.bmod_eq_of_le (by omega) (by omega)
  unfold hdB
  rw [if_neg, h _ (by omega), e, bP_iff (show (c.toInt.toNat < n ∧ hs b (nI c.toInt.toNat)) ↔ hs b (nI c.toInt.toNat) from ⟨fun z => z.2, fun z => ⟨by omega, z⟩⟩)]
  rintro (z | z)
  · have : c.toInt < 0 := Int64.lt_iff_toInt_lt.mp z
    omega
  · have : 8 ≤ c.toInt := Int64.le_iff_toInt_le.mp z
    omega
set_option maxHeartbeats 600000 in
theorem k_X2_heldOf {l : Launch} {E : gk_E} (ho : E.2.2.2.2 = true) {S : gk_S} {x : Int64} {v : Nat → Int32} (hH : HdA S v) : gk_T l E yX2_heldOf cX2_heldOf 3 ((some .long)) 1 21 0 0 [.ref (E.2.2.1 3), .long x] S (fun r S' => r = some (.long (hdB v x)) ∧ S' = S) := by
  refine gk_T.of [some (.ref (E.2.2.1 3)), some (.long x), none] (by decide) (Nat.le_of_ble_eq_true rfl) (fun _ _ h => h) ?_
  intro p_ e_ R_ s_ m_ args_ below_ meth_ c_ hR X hr hin
  subst hR
  refine g_aload_n X dX2_heldOf_0 rfl ?_
  refine g_get (C := RX2) (T := TX2) (N := 35) X 24 in_X2 dX2_heldOf_1 q1429 (rd3 ho) rfl (Nat.le_of_ble_eq_true rfl) (fun _ h9 => h9) rfl ?_
  refine g_if_ne (tgt := 42) X dX2_heldOf_4 rfl (fun c4 => ?_) (fun c4 => ?_)
  · refine g_lconst (v := 0) X dX2_heldOf_42 rfl ?_
    exact g_lret X hr dX2_heldOf_43 (Nat.le_of_ble_eq_true rfl) (Nat.le_of_ble_eq_true rfl) (⟨by rw [hh_0 (hH.resolve_left (fun z => c4 z.1)).2], rfl⟩)
  · obtain ⟨n, f, hu, hv⟩ : ∃ (n : Nat) (f : Nat → Int32), MU S n f ∧ ∀ k, k < 8 → v (10 + k) = bP (k < n ∧ hs (S.1 400 7) (nI k)) := (hH.resolve_right (fun z => z.1 c4)).2
    have hn8 : n ≤ 8 := hu.1
    refine g_lload_n X dX2_heldOf_7 rfl ?_
    refine g_lconst (v := 0) X dX2_heldOf_8 rfl ?_
    refine g_lcmp X dX2_heldOf_9 ?_
    refine g_if_lt (tgt := 42) X dX2_heldOf_10 rfl (fun c10 => ?_) (fun c10 => ?_)
    · refine g_lconst (v := 0) X dX2_heldOf_42 rfl ?_
      exact g_lret X hr dX2_heldOf_43 (Nat.le_of_ble_eq_true rfl) (Nat.le_of_ble_eq_true rfl) (⟨by rw [hh_neg c10], rfl⟩)
    · refine g_lload_n X dX2_heldOf_13 rfl ?_
      refine g_aload_n X dX2_heldOf_14 rfl ?_
      refine g_callV (C := RX2) (T := TX2) (N := 35) X (k_X2_claims ho hu) (lw_V q1707 q1709 qs94 q139 q1710) hd_X2_claims dX2_heldOf_15 (rd3 ho) rfl rfl ⟨Nat.le_of_ble_eq_true rfl, Nat.le_of_ble_eq_true rfl⟩ ⟨Nat.le_of_ble_eq_true rfl, Nat.le_of_ble_eq_true rfl⟩ (Nat.le_of_ble_eq_true rfl) ?_
      rintro _ S1 ⟨rfl, hS1⟩
      obtain rfl := hS1.symm
      refine g_i2l X dX2_heldOf_18 rfl ?_
      refine g_lcmp X dX2_heldOf_19 ?_
      refine g_if_ge (tgt := 42) X dX2_heldOf_20 rfl (fun c20 => ?_) (fun c20 => ?_)
      · refine g_lconst (v := 0) X dX2_heldOf_42 rfl ?_
        exact g_lret X hr dX2_heldOf_43 (Nat.le_of_ble_eq_true rfl) (Nat.le_of_ble_eq_true rfl) (⟨by rw [hh_ge hn8 hv c10 c20], rfl⟩)
      · refine g_aload_n X dX2_heldOf_23 rfl ?_
        refine g_get (C := RX2) (T := TX2) (N := 35) X 0 in_X2 dX2_heldOf_24 q1405 (rd3 ho) rfl (Nat.le_of_ble_eq_true rfl) (fun _ h9 => h9) rfl ?_
        refine g_bipush (v := 7) X dX2_heldOf_27 rfl ?_
        refine g_iald (j := 7) X dX2_heldOf_29 (rdi ho (400) (rfl)) rfl (by decide) (by decide) ?_
        refine g_lload_n X dX2_heldOf_30 rfl ?_
        refine g_l2i X dX2_heldOf_31 rfl ?_
        refine g_callS X (k_X2_has ho) (lw_S q1711 q1712 q139 q1713) hd_X2_has dX2_heldOf_32 rfl ⟨Nat.le_of_ble_eq_true rfl, Nat.le_of_ble_eq_true rfl⟩ ⟨Nat.le_of_ble_eq_true rfl, Nat.le_of_ble_eq_true rfl⟩ (Nat.le_of_ble_eq_true rfl) ?_
        rintro _ S1 ⟨rfl, hS1⟩
        obtain rfl := hS1.symm
        refine g_ifp_eq (tgt := 42) X dX2_heldOf_35 rfl (fun c35 => ?_) (fun c35 => ?_)
        · refine g_lconst (v := 0) X dX2_heldOf_42 rfl ?_
          exact g_lret X hr dX2_heldOf_43 (Nat.le_of_ble_eq_true rfl) (Nat.le_of_ble_eq_true rfl) (⟨by rw [hh_has hn8 hv c10 c20, bP_f c35]; rfl, rfl⟩)
        · refine g_lconst (v := 1) X dX2_heldOf_38 rfl ?_
          refine g_goto (tgt := 43) X dX2_heldOf_39 rfl ?_
          exact g_lret X hr dX2_heldOf_43 (Nat.le_of_ble_eq_true rfl) (Nat.le_of_ble_eq_true rfl) (⟨by rw [hh_has hn8 hv c10 c20, bP_t c35]; rfl, rfl⟩)
