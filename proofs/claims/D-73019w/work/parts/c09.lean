theorem al_same {S : gk_S} {q : Nat} {x : va_E} (h : S.2.2.2 q = some x) : gk_sd S q x = S := by
  unfold gk_sd
  have e : va_up S.2.2.2 q (some x) = S.2.2.2 := by
    funext k
    simp only [va_up]
    split
    · rename_i hk; rw [hk, h]
    · rfl
  rw [e]
/-- the two statics of lists: the empty array, the cache of Integers -/
def em0 (E : gk_E) (S : gk_S) : Prop := ∃ x, S.2.2.2 (E.2.2.1 903) = some (.inl (E.2.1 6, 0, .inr (.inr (.inr (.inr x))))) ∧ ∀ i, x i = none
set_option maxHeartbeats 600000 in
theorem k_J2_init {l : Launch} {E : gk_E} {S : gk_S}  {q1 : Nat} (hq : S.2.2.2 q1 = some (.inr (17, [.int 0, .null, .int 0]))) (hb : E.2.2.2.1 ≤ q1) : gk_T l E yJ2_init cJ2_init 1 (none) 2 60 0 0 [.ref q1] S (fun r S' => r = none ∧ S' = S) := by
  refine gk_T.of [some (.ref q1)] (by decide) (Nat.le_of_ble_eq_true rfl) (fun _ _ h => h) ?_
  intro p_ e_ R_ s_ m_ args_ below_ meth_ c_ hR X hr hin
  subst hR
  refine g_aload_n X dJ2_init_0 rfl ?_
  refine g_callI X (k_J1_init) q373 q142 q371 q372 rfl hd_J1_init dJ2_init_1 rfl ⟨Nat.le_of_ble_eq_true rfl, Nat.le_of_ble_eq_true rfl⟩ ⟨Nat.le_of_ble_eq_true rfl, Nat.le_of_ble_eq_true rfl⟩ (Nat.le_of_ble_eq_true rfl) ?_
  rintro _ S1 ⟨rfl, hS1⟩
  obtain rfl := hS1.symm
  refine g_aload_n X dJ2_init_4 rfl ?_
  refine g_iconst (v := 0) X dJ2_init_5 rfl ?_
  refine g_putd (C := RJ3) (T := TJ3) (N := 3) X 0 in_J3 tyJ3 tyJ3_ok nmJ3 dJ2_init_6 (Or.inl q379) hq hb rfl (Nat.le_of_ble_eq_true rfl) (fun x9 h9 => h9) rfl rfl rfl (Nat.le_of_ble_eq_true rfl) ?_
  exact g_vret X hr dJ2_init_9 (Nat.le_of_ble_eq_true rfl) (Nat.le_of_ble_eq_true rfl) (⟨rfl, al_same hq⟩)
set_option maxHeartbeats 600000 in
theorem k_J3_init {l : Launch} {E : gk_E} {S : gk_S}  {q1 : Nat} (hq : S.2.2.2 q1 = some (.inr (17, [.int 0, .null, .int 0]))) (hb : E.2.2.2.1 ≤ q1) : gk_T l E yJ3_init cJ3_init 1 (none) 3 120 0 0 [.ref q1] S (fun r S' => r = none ∧ S' = gk_sd S q1 (.inr (17, [.int 0, .ref (E.2.2.1 903), .int 0]))) := by
  refine gk_T.of [some (.ref q1)] (by decide) (Nat.le_of_ble_eq_true rfl) (fun _ _ h => h) ?_
  intro p_ e_ R_ s_ m_ args_ below_ meth_ c_ hR X hr hin
  subst hR
  refine g_aload_n X dJ3_init_0 rfl ?_
  refine g_callI X (k_J2_init hq hb) q370 q143 q368 q369 rfl hd_J2_init dJ3_init_1 rfl ⟨Nat.le_of_ble_eq_true rfl, Nat.le_of_ble_eq_true rfl⟩ ⟨Nat.le_of_ble_eq_true rfl, Nat.le_of_ble_eq_true rfl⟩ (Nat.le_of_ble_eq_true rfl) ?_
  rintro _ S1 ⟨rfl, hS1⟩
  obtain rfl := hS1.symm
  refine g_aload_n X dJ3_init_4 rfl ?_
  refine g_gets (C := "java/util/ArrayList") (n := "DEFAULTCAPACITY_EMPTY_ELEMENTDATA") (d := "[Ljava/lang/Object;") X dJ3_init_5 q375 (List.mem_of_getElem? (i := 3) rfl) (fun _ h9 => h9) ?_
  refine g_putd (C := RJ3) (T := TJ3) (N := 3) X 1 in_J3 tyJ3 tyJ3_ok nmJ3 dJ3_init_8 (Or.inl q377) hq hb rfl (Nat.le_of_ble_eq_true rfl) (fun _ h9 => h9) rfl rfl rfl (Nat.le_of_ble_eq_true rfl) ?_
  exact g_vret X hr dJ3_init_11 (Nat.le_of_ble_eq_true rfl) (Nat.le_of_ble_eq_true rfl) (⟨rfl, rfl⟩)

/-- the cache of Integers, as an array -/
def icB (E : gk_E) (S : gk_S) (ic : Nat → Nat) : Prop := icA S ic ∧ ∃ x, S.2.2.2 (E.2.2.1 904) = some (.inl (E.2.1 8, 256, .inr (.inr (.inr (.inr x))))) ∧ ∀ k, k < 128 → x (128 + k) = some (ic k)
section GKI
variable {p : Program} {l : Launch} {e : Env} {R : Room} {s : State} {m : MethodId} {args : Array Value} {below : List Frame} {meth : Method} {c : Code} {Q : State → Prop} {E : gk_E} {nL : Nat} {S : gk_S} {cells slots pc : Nat} {L : List (Option Value)} {rest : List Value} {cc : ByteArray} {own : String}
theorem g_aaldI (X : gk_X p s m args meth c cc own nL E) (hZ : gk_Z E s s.heap) {a n j : Nat} {i : Int32} {f : Nat → Option Nat} {v : Value} (hdg : decode cc pc = .ok (.aaload, 1)) (hrd : gk_Rd E S a (.inl (E.2.1 8, n, .inr (.inr (.inr (.inr f)))))) (hi : i = nI j) (hj : j < n) (hn : n < 2 ^ 31) (hv : va_rf (f j) = v) (k : gk_G p l e R s m args below meth c E nL S cells slots Q (pc + 1) L (v :: rest)) : gk_G p l e R s m args below meth c E nL S cells slots Q pc L (.int i :: .ref a :: rest) := by
  intro H locs ls hR hS hl
  subst hi
  subst hv
  have hc : (nI j).toNatClampNeg = j := nI_clamp (Nat.lt_trans hj hn)
  have hin : ¬ (nI j < 0 ∨ n ≤ (nI j).toNatClampNeg) := vp_in_nI hj hn
  exact W.aald (v := va_rf (f j)) (ty := .object "java/lang/Integer") X.1 X.2.1 (hrd H hR) (hZ.2.2.2.2.2.1 n (fun j => va_rf (f j))) rfl (fun q => by cases q) (by show ¬ (_ ∨ (arrV _ _ _).slots.size ≤ _); rw [arrV_size]; exact hin) (by show (arrV _ _ _).slots[_]? = _; rw [hc, arrV_read _ _ hj]) rfl rfl hdg (k H locs ls hR hS hl)
end GKI
theorem al_v1 {k : Nat} (hk : k < 128) : ¬ nI k < -128 := by
  intro z
  have h1 := Int32.lt_iff_toInt_lt.mp z
  rw [nI_toInt (by omega), show (-128 : Int32).toInt = -128 by decide] at h1
  omega
theorem al_v2 {k : Nat} (hk : k < 128) : ¬ (127 : Int32) < nI k := by
  intro z
  have h1 := Int32.lt_iff_toInt_lt.mp z
  rw [nI_toInt (by omega), show (127 : Int32).toInt = 127 by decide] at h1
  omega
set_option maxHeartbeats 600000 in
theorem k_J13_valueOf {l : Launch} {E : gk_E} {S : gk_S} {i0 : Int32} {k : Nat} {ic : Nat → Nat} (hi : i0 = nI k) (hk : k < 128) (hic : icB E S ic) : gk_TZ l E yJ13_valueOf cJ13_valueOf 1 ((some (.object "java/lang/Integer"))) 1 60 0 0 [.int i0] S (fun r S' => r = some (.ref (ic k)) ∧ S' = S) := by
  refine gk_TZ.of [some (.int i0)] (by decide) (Nat.le_of_ble_eq_true rfl) (fun _ _ h => h) ?_
  intro p_ e_ R_ s_ m_ args_ below_ meth_ c_ hR X hZ hr hin
  subst hR
  subst hi
  obtain ⟨-, x, hx, hxk⟩ := hic
  refine g_iload_n X dJ13_valueOf_0 rfl ?_
  refine g_bipush (v := (-128)) X dJ13_valueOf_1 rfl ?_
  refine g_icmp_lt (tgt := 23) X dJ13_valueOf_3 rfl (fun c3 => ?_) (fun c3 => ?_)
  · exact absurd c3 (al_v1 hk)
  · refine g_iload_n X dJ13_valueOf_6 rfl ?_
    refine g_gets (C := "java/lang/Integer$IntegerCache") (n := "high") (d := "I") X dJ13_valueOf_7 q711 (List.mem_of_getElem? (i := 5) rfl) (fun _ h9 => h9) ?_
    refine g_icmp_gt (tgt := 23) X dJ13_valueOf_10 rfl (fun c10 => ?_) (fun c10 => ?_)
    · exact absurd c10 (al_v2 hk)
    · refine g_gets (C := "java/lang/Integer$IntegerCache") (n := "cache") (d := "[Ljava/lang/Integer;") X dJ13_valueOf_13 q713 (List.mem_of_getElem? (i := 4) rfl) (fun _ h9 => h9) ?_
      refine g_iload_n X dJ13_valueOf_16 rfl ?_
      refine g_sipush (v := 128) X dJ13_valueOf_17 rfl ?_
      refine g_iadd X dJ13_valueOf_20 ?_
      refine g_aaldI (j := 128 + k) X hZ dJ13_valueOf_21 (rd_dy hx) ((Int32.add_comm _ _).trans (nI_add 128 k)) (by omega) (by decide) (by rw [hxk k hk]) ?_
      exact g_aret X hr (by first | exact Or.inl ⟨_, rfl⟩ | exact Or.inr ⟨_, rfl⟩) dJ13_valueOf_22 (Nat.le_of_ble_eq_true rfl) (Nat.le_of_ble_eq_true rfl) (⟨rfl, rfl⟩)
