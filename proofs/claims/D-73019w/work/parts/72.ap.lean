theorem J6_in {k i : Nat} (h : i < k) (hk : k < 100000) : ¬ nI i < 0 ∧ nI i < nI k := ⟨nI_pos (by omega), nI_lt h (by omega)⟩
set_option maxHeartbeats 600000 in
theorem k_J3_elementData {l : Launch} {E : gk_E} (ho : E.2.2.2.2 = true) {S : gk_S} {i0 : Int32} {o1 b n k i q1 : Nat} {mo : Int32} {x : Nat → Option Nat} (h : LsA E S o1 mo b n k x) (hi : i0 = nI i) (hk : i < k) (hx : x i = some q1) : gk_T l E yJ3_elementData cJ3_elementData 2 ((some (.object "java/lang/Object"))) 0 0 0 0 [.ref o1, .int i0] S (fun r S' => r = some (.ref q1) ∧ S' = S) := by
  refine gk_T.of [some (.ref o1), some (.int i0)] (by decide) (Nat.le_of_ble_eq_true rfl) (fun _ _ h => h) ?_
  intro p_ e_ R_ s_ m_ args_ below_ meth_ c_ hR X hr hin
  subst hR
  refine g_aload_n X dJ3_elementData_0 rfl ?_
  refine g_get (C := RJ3) (T := TJ3) (N := 3) X 1 in_J3 dJ3_elementData_1 q377 (rd_dy h.1) rfl (Nat.le_of_ble_eq_true rfl) (fun _ h9 => h9) rfl ?_
  refine g_iload_n X dJ3_elementData_4 rfl ?_
  refine g_aald (t := 6) (j := i) (v := .ref q1) X dJ3_elementData_5 h.2.1 rfl rfl hi (Nat.lt_of_lt_of_le hk h.2.2.1) (Nat.lt_trans h.2.2.2 (by decide)) (by rw [hx]; rfl) ?_
  exact g_aret X hr (by first | exact Or.inl ⟨_, rfl⟩ | exact Or.inr ⟨_, rfl⟩) dJ3_elementData_6 (Nat.le_of_ble_eq_true rfl) (Nat.le_of_ble_eq_true rfl) (⟨rfl, rfl⟩)
