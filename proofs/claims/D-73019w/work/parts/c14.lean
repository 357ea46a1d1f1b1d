theorem LsB.fr {E : gk_E} {S S' : gk_S} {o : Nat} {mo : Int32} {b n k : Nat} {x : Nat → Option Nat} (h : LsB E S o mo b n k x) (ho : S'.2.2.2 o = S.2.2.2 o) (hb : S'.2.2.2 b = S.2.2.2 b) (he : ∀ y ci fs, S.2.2.2 y = some (.inr (ci, fs)) → ∃ ci fs, S'.2.2.2 y = some (.inr (ci, fs))) : LsB E S' o mo b n k x := by
  have hb9 := hb.trans h.2.2.2.1
  refine ⟨⟨ho.trans h.1.1, rd_dy hb9, h.1.2.2⟩, h.2.1, h.2.2.1, hb9, fun i y hy => ?_⟩
  obtain ⟨h1, ci, fs, h2⟩ := h.2.2.2.2 i y hy
  exact ⟨h1, he y ci fs h2⟩
/-- what an add leaves of another list -/
theorem LsB.fr2 {E : gk_E} {S S' : gk_S} {o o2 b2 : Nat} {mo mo2 : Int32} {b n k b3 n3 k3 : Nat} {x x2 : Nat → Option Nat} {P : Prop} (h : LsB E S o mo b n k x) (h2 : LsB E S' o2 mo2 b3 n3 k3 x2) (hF : FrN (fun q => q = o2 ∨ (q = b2 ∧ P)) S S') (ho : o ≠ o2) (hb : b = b2 → ¬ P) (hob : o ≠ b2 ∨ ¬ P) (hbo : b ≠ o2) (hbb : ∀ y z, S.2.2.2 y = some (.inr z) → P → y ≠ b2) : LsB E S' o mo b n k x := by
  refine h.fr ?_ ?_ (fun y ci fs hy => ?_)
  · rw [hF.2.2.2 o _ h.1.1 (fun z => by rcases z with z | z; exact ho z; rcases hob with w | w; exact w z.1; exact w z.2), h.1.1]
  · rw [hF.2.2.2 b _ h.2.2.2.1 (fun z => by rcases z with z | z; exact hbo z; exact hb z.1 z.2), h.2.2.2.1]
  · by_cases hyo : y = o2
    · exact ⟨_, _, by rw [hyo]; exact h2.1.1⟩
    · exact ⟨ci, fs, hF.2.2.2 y _ hy (fun z => by rcases z with z | z; exact hyo z; exact hbb y _ hy z.2 z.1)⟩
/-- a Chain: first, the lists of more and of signs -/
def ChA (E : gk_E) (S : gk_S) (c fst o2 o3 : Nat) (mo2 mo3 : Int32) (b2 b3 n k : Nat) (x w : Nat → Option Nat) : Prop := S.2.2.2 c = some (.inr (7, [.ref fst, .ref o2, .ref o3])) ∧ LsB E S o2 mo2 b2 n k x ∧ LsB E S o3 mo3 b3 n k w ∧ o2 ≠ o3 ∧ (k < n → b2 ≠ b3)
theorem al_dif {S : gk_S} {a b ci cj : Nat} {x y : List Value} (h : S.2.2.2 a = some (.inr (ci, x))) (h2 : S.2.2.2 b = some (.inr (cj, y))) (hn : ci ≠ cj) : a ≠ b := fun z => by
  rw [z, h2] at h
  cases h
  exact hn rfl
set_option maxHeartbeats 600000 in
theorem k_X7_add {l : Launch} {E : gk_E} {S : gk_S} {i1 : Int32} {o1 v fst o2 o3 b2 b3 n k j ci : Nat} {mo2 mo3 : Int32} {x w : Nat → Option Nat} {ic : Nat → Nat} {vs : List Value} (hi : i1 = nI j) (hj : j < 128) (hic : icB E S ic) (h : ChA E S o1 fst o2 o3 mo2 mo3 b2 b3 n k x w) (hv : S.2.2.2 v = some (.inr (ci, vs))) (hci : ci ≠ 17) (hrr : ∃ r9 : vw_C, gk_cl[ci]? = some r9) (h5 : n < 50000) : gk_TZ l E yX7_add cX7_add 3 (none) 7 330 (adC k n + adC k n) (adS k n + adS k n) [.ref o1, .int i1, .ref v] S (fun r S' => r = none ∧ ∃ b4 b5 : Nat, ChA E S' o1 fst o2 o3 (mo2 + 1) (mo3 + 1) b4 b5 (adN k n) (k + 1) (va_up x k (some v)) (va_up w k (some (ic j))) ∧ ((b4 = b2 ∧ k < n) ∨ (¬ k < n ∧ S.2.2.2 b4 = none)) ∧ ((b5 = b3 ∧ k < n) ∨ (¬ k < n ∧ S.2.2.2 b5 = none)) ∧ FrN (fun q => q = o2 ∨ q = o3 ∨ (k < n ∧ (q = b2 ∨ q = b3))) S S') := by
  refine gk_TZ.of [some (.ref o1), some (.int i1), some (.ref v)] (by decide) (Nat.le_of_ble_eq_true rfl) (fun _ _ h => h) ?_
  intro p_ e_ R_ s_ m_ args_ below_ meth_ c_ hR X hZ hr hin
  subst hR
  obtain ⟨hc, h2, h3, h23, hbb⟩ := h
  have hij := hic.1 j hj
  refine g_aload_n X dX7_add_0 rfl ?_
  refine g_get (C := RX7) (T := TX7) (N := 3) X 2 in_X7 dX7_add_1 q696 (rd_dy hc) rfl (Nat.le_of_ble_eq_true rfl) (fun _ h9 => h9) rfl ?_
  refine g_iload_n X dX7_add_4 rfl ?_
  refine g_callSZ X hZ (k_J13_valueOf hi hj hic) (lw_S q708 q709 q163 q710) hd_J13_valueOf dX7_add_5 rfl ⟨by first | omega | (dsimp only; omega), by first | omega | (dsimp only; omega)⟩ ⟨by first | omega | (dsimp only; omega), by first | omega | (dsimp only; omega)⟩ (Nat.le_of_ble_eq_true rfl) ?_
  rintro _ S1 ⟨rfl, hS1⟩
  obtain rfl := hS1.symm
  refine g_callVZ (C := RJ3) (T := TJ3) (N := 3) X hZ (k_add h3 hij (al_dif hij h3.1.1 (by decide)) ⟨_, rfl⟩ h5) (lw_V q728 q729 q730 q144 q731) hd_J3_add dX7_add_8 (rd_dy h3.1.1) rfl rfl ⟨by first | omega | (dsimp only; omega), by first | omega | (dsimp only; omega)⟩ ⟨by first | omega | (dsimp only; omega), by first | omega | (dsimp only; omega)⟩ (Nat.le_of_ble_eq_true rfl) ?_
  rintro _ S1 ⟨rfl, b5, hL3, hb5, hF1⟩
  have hL2 : LsB E S1 o2 mo2 b2 n k x := h2.fr2 hL3 hF1 h23 (fun z p => hbb p z) (Or.inl (al_ob h2.1.1 h3.2.2.2.1)) (al_ob h3.1.1 h2.2.2.2.1).symm (fun y z hy _ => al_ob hy h3.2.2.2.1)
  have hc1 : S1.2.2.2 o1 = some (.inr (7, [.ref fst, .ref o2, .ref o3])) := hF1.2.2.2 o1 _ hc (fun z => by rcases z with z | z; exact al_dif hc h3.1.1 (by decide) z; exact al_ob hc h3.2.2.2.1 z.1)
  have hv1 : S1.2.2.2 v = some (.inr (ci, vs)) := hF1.2.2.2 v _ hv (fun z => by rcases z with z | z; exact al_dif hv h3.1.1 hci z; exact al_ob hv h3.2.2.2.1 z.1)
  refine g_pop X dX7_add_11 rfl ?_
  refine g_aload_n X dX7_add_12 rfl ?_
  refine g_get (C := RX7) (T := TX7) (N := 3) X 1 in_X7 dX7_add_13 q695 (rd_dy hc1) rfl (Nat.le_of_ble_eq_true rfl) (fun _ h9 => h9) rfl ?_
  refine g_aload_n X dX7_add_16 rfl ?_
  refine g_callVZ (C := RJ3) (T := TJ3) (N := 3) X hZ (k_add hL2 hv1 (al_dif hv1 hL2.1.1 hci) hrr h5) (lw_V q728 q729 q730 q144 q731) hd_J3_add dX7_add_17 (rd_dy hL2.1.1) rfl rfl ⟨by first | omega | (dsimp only; omega), by first | omega | (dsimp only; omega)⟩ ⟨by first | omega | (dsimp only; omega), by first | omega | (dsimp only; omega)⟩ (Nat.le_of_ble_eq_true rfl) ?_
  rintro _ S2 ⟨rfl, b4, hL4, hb4, hF2⟩
  refine g_pop X dX7_add_20 rfl ?_
  have hb52 : k < n → b5 ≠ b2 := fun p z => by
    rcases hb5 with w | w
    · exact hbb p (z.symm.trans w.1)
    · exact w.1 p
  have hc2 : S2.2.2.2 o1 = some (.inr (7, [.ref fst, .ref o2, .ref o3])) := hF2.2.2.2 o1 _ hc1 (fun z => by rcases z with z | z; exact al_dif hc1 hL2.1.1 (by decide) z; exact al_ob hc1 hL2.2.2.2.1 z.1)
  have hL5 := hL3.fr2 hL4 hF2 (Ne.symm h23) (fun z p => hb52 p z) (Or.inl (al_ob hL3.1.1 hL2.2.2.2.1)) (al_ob hL2.1.1 hL3.2.2.2.1).symm (fun y z hy _ => al_ob hy hL2.2.2.2.1)
  have h45 : b4 ≠ b5 := fun z => by
    rcases hb4 with w | w
    · exact hb52 w.2 (z.symm.trans w.1)
    · rw [z, hL3.2.2.2.1] at w
      cases w.2
  have hb4' : (b4 = b2 ∧ k < n) ∨ (¬ k < n ∧ S.2.2.2 b4 = none) := by
    rcases hb4 with w | w
    · exact Or.inl w
    · refine Or.inr ⟨w.1, ?_⟩
      cases hs : S.2.2.2 b4 with
      | none => rfl
      | some e =>
        have h9 := hF1.2.2.2 b4 e hs (fun z => by
          rcases z with z | z
          · rw [z, hL3.1.1] at w
            cases w.2
          · exact w.1 z.2)
        rw [w.2] at h9
        cases h9
  exact g_vret X hr dX7_add_21 (by omega) (by omega) ⟨rfl, b4, b5, ⟨hc2, hL4, hL5, h23, fun _ => h45⟩, hb4', hb5, (hF1.wk (fun q e _ hp => by rcases hp with z | z; exact Or.inr (Or.inl z); exact Or.inr (Or.inr ⟨z.2, Or.inr z.1⟩))).tr (hF2.wk (fun q e _ hp => by rcases hp with z | z; exact Or.inl z; exact Or.inr (Or.inr ⟨z.2, Or.inl z.1⟩)))⟩
