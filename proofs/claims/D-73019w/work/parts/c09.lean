theorem al_same {S : gk_S} {q : Nat} {x : va_E} (h : S.2.2.2 q = some x) : gk_sd S q x = S := by
  unfold gk_sd
  have e : va_up S.2.2.2 q (some x) = S.2.2.2 := by
    funext k
    simp only [va_up]
    split
    · rename_i hk; rw [hk, h]
    · rfl
  rw [e]
/-- the two statics of lists: the empty array, the cache of Integers -/
def em0 (E : gk_E) (S : gk_S) : Prop := ∃ x, S.2.2.2 (E.2.2.1 903) = some (.inl (E.2.1 6, 0, .inr (.inr (.inr (.inr x))))) ∧ ∀ i, x i = none
set_option maxHeartbeats 600000 in
theorem k_J2_init {l : Launch} {E : gk_E} {S : gk_S}  {q1 : Nat} (hq : S.2.2.2 q1 = some (.inr (17, [.int 0, .null, .int 0]))) (hb : E.2.2.2.1 ≤ q1) : gk_T l E yJ2_init cJ2_init 1 (none) 2 60 0 0 [.ref q1] S (fun r S' => r = none ∧ S' = S) := by
  refine gk_T.of [some (.ref q1)] (by decide) (Nat.le_of_ble_eq_true rfl) (fun _ _ h => h) ?_
  intro p_ e_ R_ s_ m_ args_ below_ meth_ c_ hR X hr hin
  subst hR
  refine g_aload_n X dJ2_init_0 rfl ?_
  refine g_callI X (k_J1_init) q373 q142 q371 q372 rfl hd_J1_init dJ2_init_1 rfl ⟨Nat.le_of_ble_eq_true rfl, Nat.le_of_ble_eq_true rfl⟩ ⟨Nat.le_of_ble_eq_true rfl, Nat.le_of_ble_eq_true rfl⟩ (Nat.le_of_ble_eq_true rfl) ?_
  rintro _ S1 ⟨rfl, hS1⟩
  obtain rfl := hS1.symm
  refine g_aload_n X dJ2_init_4 rfl ?_
  refine g_iconst (v := 0) X dJ2_init_5 rfl ?_
  refine g_putd (C := RJ3) (T := TJ3) (N := 3) X 0 in_J3 tyJ3 tyJ3_ok nmJ3 dJ2_init_6 (Or.inl q379) hq hb rfl (Nat.le_of_ble_eq_true rfl) (fun x9 h9 => h9) rfl rfl rfl (Nat.le_of_ble_eq_true rfl) ?_
  exact g_vret X hr dJ2_init_9 (Nat.le_of_ble_eq_true rfl) (Nat.le_of_ble_eq_true rfl) (⟨rfl, al_same hq⟩)
set_option maxHeartbeats 600000 in
theorem k_J3_init {l : Launch} {E : gk_E} {S : gk_S}  {q1 : Nat} (hq : S.2.2.2 q1 = some (.inr (17, [.int 0, .null, .int 0]))) (hb : E.2.2.2.1 ≤ q1) : gk_T l E yJ3_init cJ3_init 1 (none) 3 120 0 0 [.ref q1] S (fun r S' => r = none ∧ S' = gk_sd S q1 (.inr (17, [.int 0, .ref (E.2.2.1 903), .int 0]))) := by
  refine gk_T.of [some (.ref q1)] (by decide) (Nat.le_of_ble_eq_true rfl) (fun _ _ h => h) ?_
  intro p_ e_ R_ s_ m_ args_ below_ meth_ c_ hR X hr hin
  subst hR
  refine g_aload_n X dJ3_init_0 rfl ?_
  refine g_callI X (k_J2_init hq hb) q370 q143 q368 q369 rfl hd_J2_init dJ3_init_1 rfl ⟨Nat.le_of_ble_eq_true rfl, Nat.le_of_ble_eq_true rfl⟩ ⟨Nat.le_of_ble_eq_true rfl, Nat.le_of_ble_eq_true rfl⟩ (Nat.le_of_ble_eq_true rfl) ?_
  rintro _ S1 ⟨rfl, hS1⟩
  obtain rfl := hS1.symm
  refine g_aload_n X dJ3_init_4 rfl ?_
  refine g_gets (C := "java/util/ArrayList") (n := "DEFAULTCAPACITY_EMPTY_ELEMENTDATA") (d := "[Ljava/lang/Object;") X dJ3_init_5 q375 (List.mem_of_getElem? (i := 3) rfl) (fun _ h9 => h9) ?_
  refine g_putd (C := RJ3) (T := TJ3) (N := 3) X 1 in_J3 tyJ3 tyJ3_ok nmJ3 dJ3_init_8 (Or.inl q377) hq hb rfl (Nat.le_of_ble_eq_true rfl) (fun _ h9 => h9) rfl rfl rfl (Nat.le_of_ble_eq_true rfl) ?_
  exact g_vret X hr dJ3_init_11 (Nat.le_of_ble_eq_true rfl) (Nat.le_of_ble_eq_true rfl) (⟨rfl, rfl⟩)
