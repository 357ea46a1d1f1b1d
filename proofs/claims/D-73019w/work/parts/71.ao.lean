/-- an ArrayList at o: modCount mo, the array at b of n places, k of them used: x -/
def LsA (E : gk_E) (S : gk_S) (o : Nat) (mo : Int32) (b n k : Nat) (x : Nat → Option Nat) : Prop := S.2.2.2 o = some (.inr (17, [.int mo, .ref b, .int (nI k)])) ∧ gk_Rd E S b (.inl (E.2.1 6, n, .inr (.inr (.inr (.inr x))))) ∧ k ≤ n ∧ n < 100000
set_option maxHeartbeats 600000 in
theorem k_J3_size {l : Launch} {E : gk_E} (ho : E.2.2.2.2 = true) {S : gk_S}  {o1 b n k : Nat} {mo : Int32} {x : Nat → Option Nat} (h : LsA E S o1 mo b n k x) : gk_T l E yJ3_size cJ3_size 1 ((some .int)) 0 0 0 0 [.ref o1] S (fun r S' => r = some (.int (nI k)) ∧ S' = S) := by
  refine gk_T.of [some (.ref o1)] (by decide) (Nat.le_of_ble_eq_true rfl) (fun _ _ h => h) ?_
  intro p_ e_ R_ s_ m_ args_ below_ meth_ c_ hR X hr hin
  subst hR
  refine g_aload_n X dJ3_size_0 rfl ?_
  refine g_get (C := RJ3) (T := TJ3) (N := 3) X 2 in_J3 dJ3_size_1 q378 (rd_dy h.1) rfl (Nat.le_of_ble_eq_true rfl) (fun _ h9 => h9) rfl ?_
  exact g_iret X hr dJ3_size_4 (Nat.le_of_ble_eq_true rfl) (Nat.le_of_ble_eq_true rfl) (⟨rfl, rfl⟩)
set_option maxHeartbeats 600000 in
theorem k_J3_isEmpty {l : Launch} {E : gk_E} (ho : E.2.2.2.2 = true) {S : gk_S}  {o1 b n k : Nat} {mo : Int32} {x : Nat → Option Nat} (h : LsA E S o1 mo b n k x) : gk_T l E yJ3_isEmpty cJ3_isEmpty 1 ((some .boolean)) 0 0 0 0 [.ref o1] S (fun r S' => r = some (.int (bP (k = 0))) ∧ S' = S) := by
  refine gk_T.of [some (.ref o1)] (by decide) (Nat.le_of_ble_eq_true rfl) (fun _ _ h => h) ?_
  intro p_ e_ R_ s_ m_ args_ below_ meth_ c_ hR X hr hin
  subst hR
  refine g_aload_n X dJ3_isEmpty_0 rfl ?_
  refine g_get (C := RJ3) (T := TJ3) (N := 3) X 2 in_J3 dJ3_isEmpty_1 q378 (rd_dy h.1) rfl (Nat.le_of_ble_eq_true rfl) (fun _ h9 => h9) rfl ?_
  refine g_if_ne (tgt := 11) X dJ3_isEmpty_4 rfl (fun c4 => ?_) (fun c4 => ?_)
  · refine g_iconst (v := 0) X dJ3_isEmpty_11 rfl ?_
    refine g_zret X hr dJ3_isEmpty_12 ?_ (Nat.le_of_ble_eq_true rfl) (Nat.le_of_ble_eq_true rfl) ?_
    · first | rfl | exact nb_bP
    · exact ⟨lb_0 (fun z => c4 (by rw [z]; rfl)), rfl⟩
  · refine g_iconst (v := 1) X dJ3_isEmpty_7 rfl ?_
    refine g_goto (tgt := 12) X dJ3_isEmpty_8 rfl ?_
    refine g_zret X hr dJ3_isEmpty_12 ?_ (Nat.le_of_ble_eq_true rfl) (Nat.le_of_ble_eq_true rfl) ?_
    · first | rfl | exact nb_bP
    · exact ⟨lb_1 ((nI_eq (b := 0) (Nat.lt_of_le_of_lt h.2.2.1 (Nat.lt_trans h.2.2.2 (by decide))) (by decide)).mp c4), rfl⟩
set_option maxHeartbeats 600000 in
theorem k_J13_intValue {l : Launch} {E : gk_E} (ho : E.2.2.2.2 = true) {S : gk_S}  {o1 : Nat} {v : Int32} (h : gk_Rd E S o1 (.inr (18, [.int v]))) : gk_T l E yJ13_intValue cJ13_intValue 1 ((some .int)) 0 0 0 0 [.ref o1] S (fun r S' => r = some (.int v) ∧ S' = S) := by
  refine gk_T.of [some (.ref o1)] (by decide) (Nat.le_of_ble_eq_true rfl) (fun _ _ h => h) ?_
  intro p_ e_ R_ s_ m_ args_ below_ meth_ c_ hR X hr hin
  subst hR
  refine g_aload_n X dJ13_intValue_0 rfl ?_
  refine g_get (C := RJ13) (T := TJ13) (N := 1) X 0 in_J13 dJ13_intValue_1 q724 h rfl (Nat.le_of_ble_eq_true rfl) (fun _ h9 => h9) rfl ?_
  exact g_iret X hr dJ13_intValue_4 (Nat.le_of_ble_eq_true rfl) (Nat.le_of_ble_eq_true rfl) (⟨rfl, rfl⟩)
