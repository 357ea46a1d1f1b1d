set_option maxHeartbeats 600000 in
theorem k_J6_checkIndex {l : Launch} {E : gk_E} (ho : E.2.2.2.2 = true) {S : gk_S} {x : Int32} {y : Int32}  (h : ¬ x < 0 ∧ x < y) : gk_T l E yJ6_checkIndex cJ6_checkIndex 3 ((some .int)) 0 0 0 0 [.int x, .int y, .null] S (fun r S' => r = some (.int x) ∧ S' = S) := by
  refine gk_T.of [some (.int x), some (.int y), some (.null)] (by decide) (Nat.le_of_ble_eq_true rfl) (fun _ _ h => h) ?_
  intro p_ e_ R_ s_ m_ args_ below_ meth_ c_ hR X hr hin
  subst hR
  refine g_iload_n X dJ6_checkIndex_0 rfl ?_
  refine g_if_lt (tgt := 9) X dJ6_checkIndex_1 rfl (fun c1 => ?_) (fun c1 => ?_)
  · exact absurd c1 h.1
  · refine g_iload_n X dJ6_checkIndex_4 rfl ?_
    refine g_iload_n X dJ6_checkIndex_5 rfl ?_
    refine g_icmp_lt (tgt := 16) X dJ6_checkIndex_6 rfl (fun c6 => ?_) (fun c6 => ?_)
    · refine g_iload_n X dJ6_checkIndex_16 rfl ?_
      exact g_iret X hr dJ6_checkIndex_17 (Nat.le_of_ble_eq_true rfl) (Nat.le_of_ble_eq_true rfl) (⟨rfl, rfl⟩)
    · exact absurd h.2 c6
set_option maxHeartbeats 600000 in
theorem k_J15_checkIndex {l : Launch} {E : gk_E} (ho : E.2.2.2.2 = true) {S : gk_S} {x : Int32} {y : Int32}  (h : ¬ x < 0 ∧ x < y) : gk_T l E yJ15_checkIndex cJ15_checkIndex 2 ((some .int)) 1 22 0 0 [.int x, .int y] S (fun r S' => r = some (.int x) ∧ S' = S) := by
  refine gk_T.of [some (.int x), some (.int y)] (by decide) (Nat.le_of_ble_eq_true rfl) (fun _ _ h => h) ?_
  intro p_ e_ R_ s_ m_ args_ below_ meth_ c_ hR X hr hin
  subst hR
  refine g_iload_n X dJ15_checkIndex_0 rfl ?_
  refine g_iload_n X dJ15_checkIndex_1 rfl ?_
  refine g_null X dJ15_checkIndex_2 ?_
  refine g_callS X (k_J6_checkIndex ho h) (lw_S q826 q451 q147 q452) hd_J6_checkIndex dJ15_checkIndex_3 rfl ⟨Nat.le_of_ble_eq_true rfl, Nat.le_of_ble_eq_true rfl⟩ ⟨Nat.le_of_ble_eq_true rfl, Nat.le_of_ble_eq_true rfl⟩ (Nat.le_of_ble_eq_true rfl) ?_
  rintro _ S1 ⟨rfl, hS1⟩
  obtain rfl := hS1.symm
  exact g_iret X hr dJ15_checkIndex_6 (Nat.le_of_ble_eq_true rfl) (Nat.le_of_ble_eq_true rfl) (⟨rfl, rfl⟩)
set_option maxHeartbeats 600000 in
theorem k_J3_get {l : Launch} {E : gk_E} (ho : E.2.2.2.2 = true) {S : gk_S} {i0 : Int32} {o1 b n k i q1 : Nat} {mo : Int32} {x : Nat → Option Nat} (h : LsA E S o1 mo b n k x) (hi : i0 = nI i) (hk : i < k) (hx : x i = some q1) : gk_T l E yJ3_get cJ3_get 2 ((some (.object "java/lang/Object"))) 2 43 0 0 [.ref o1, .int i0] S (fun r S' => r = some (.ref q1) ∧ S' = S) := by
  refine gk_T.of [some (.ref o1), some (.int i0)] (by decide) (Nat.le_of_ble_eq_true rfl) (fun _ _ h => h) ?_
  intro p_ e_ R_ s_ m_ args_ below_ meth_ c_ hR X hr hin
  subst hR
  refine g_iload_n X dJ3_get_0 rfl ?_
  refine g_aload_n X dJ3_get_1 rfl ?_
  refine g_get (C := RJ3) (T := TJ3) (N := 3) X 2 in_J3 dJ3_get_2 q378 (rd_dy h.1) rfl (Nat.le_of_ble_eq_true rfl) (fun _ h9 => h9) rfl ?_
  refine g_callS X (k_J15_checkIndex ho (by rw [hi]; exact J6_in hk (Nat.lt_of_le_of_lt h.2.2.1 h.2.2.2))) (lw_S q823 q824 q167 q825) hd_J15_checkIndex dJ3_get_5 rfl ⟨Nat.le_of_ble_eq_true rfl, Nat.le_of_ble_eq_true rfl⟩ ⟨Nat.le_of_ble_eq_true rfl, Nat.le_of_ble_eq_true rfl⟩ (Nat.le_of_ble_eq_true rfl) ?_
  rintro _ S1 ⟨rfl, hS1⟩
  obtain rfl := hS1.symm
  refine g_pop X dJ3_get_8 rfl ?_
  refine g_aload_n X dJ3_get_9 rfl ?_
  refine g_iload_n X dJ3_get_10 rfl ?_
  refine g_callV (C := RJ3) (T := TJ3) (N := 3) X (k_J3_elementData ho h hi hk hx) (lw_V q827 q828 q829 q144 q830) hd_J3_elementData dJ3_get_11 (rd_dy h.1) rfl rfl ⟨Nat.le_of_ble_eq_true rfl, Nat.le_of_ble_eq_true rfl⟩ ⟨Nat.le_of_ble_eq_true rfl, Nat.le_of_ble_eq_true rfl⟩ (Nat.le_of_ble_eq_true rfl) ?_
  rintro _ S1 ⟨rfl, hS1⟩
  obtain rfl := hS1.symm
  exact g_aret X hr (by first | exact Or.inl ⟨_, rfl⟩ | exact Or.inr ⟨_, rfl⟩) dJ3_get_14 (Nat.le_of_ble_eq_true rfl) (Nat.le_of_ble_eq_true rfl) (⟨rfl, rfl⟩)
