section GKC
variable {p : Program} {l : Launch} {e : Env} {R : Room} {s : State} {m : MethodId} {args : Array Value} {below : List Frame} {meth : Method} {c : Code} {Q : State → Prop} {E : gk_E} {nL : Nat} {S : gk_S} {cells slots pc : Nat} {L : List (Option Value)} {rest : List Value} {cc : ByteArray} {own : String}
theorem g_ldcM (X : gk_X p s m args meth c cc own nL E) (hZ : gk_Z E s s.heap) {index : Nat} (hdg : decode cc pc = .ok (.ldc index, 2)) (hcl : Cond.classLink own index "[Ljava/lang/Object;" ∈ lw_all) (k : gk_G p l e R s m args below meth c E nL S cells slots Q (pc + 2) L (.ref (E.2.2.1 905) :: rest)) : gk_G p l e R s m args below meth c E nL S cells slots Q pc L rest := fun H locs ls hR hS hl =>
  va_ldcM X.1 X.2.1 X.2.2.2.1 (X.2.2.2.2.1 _ hcl) hZ.2.2.2.2.1 hdg (k H locs ls hR hS hl)
theorem g_getC (X : gk_X p s m args meth c cc own nL E) (hZ : gk_Z E s s.heap) {index a n : Nat} {f : Nat → Option Nat} (hdg : decode cc pc = .ok (.invokevirtual index, 3)) (hlink : Cond.methodLink own index ⟨"java/lang/Object", "getClass", "()Ljava/lang/Class;"⟩ ∈ lw_all) (hrd : gk_Rd E S a (.inl (E.2.1 6, n, .inr (.inr (.inr (.inr f)))))) (hfr : 1 ≤ R.frames) (hlo : (rest.map fun v => v.category).sum + 14 ≤ R.locals) (k : gk_G p l e R s m args below meth c E nL S cells slots Q (pc + 3) L (.ref (E.2.2.1 905) :: rest)) : gk_G p l e R s m args below meth c E nL S cells slots Q pc L (.ref a :: rest) := fun H locs ls hR hS hl =>
  va_getC X.1 X.2.1 (by rw [X.2.2.1]; exact hl.1.symm) X.2.2.2.1 (X.2.2.2.2.1 _ hlink) hZ.2.2.2.1.use (X.2.2.2.2.1 _ q2128) (X.2.2.2.2.1 _ q758) (X.2.2.2.2.1 _ q779) hZ.2.2.2.2.1 ⟨_, hrd H hR, rfl, va_nmO (X.2.2.2.2.2.1.1.2 6 (E.2.1 6, .object "java/lang/Object") rfl).2 rfl⟩ hfr hlo hdg (k H locs ls hR hS hl)
end GKC
theorem al_max {n : Nat} (hn : 2 ≤ n) (hn2 : n < 100000) : nI n + (if (1 : Int32) < nI (n / 2) then nI (n / 2) else (1 : Int32)) = nI (n + n / 2) := by
  split
  · rw [nI_add]
  · rename_i h
    have e : n / 2 = 1 := by
      have h1 : ¬ nI 1 < nI (n / 2) := h
      rw [Int32.lt_iff_toInt_lt, nI_toInt (by omega), nI_toInt (by omega)] at h1
      omega
    rw [e, ← nI_add]
    rfl
theorem al_c10 {n : Nat} (hn : 2 ≤ n) (hn2 : n < 100000) : ¬ nI (n + n / 2) ≤ 0 := by
  intro z
  have h1 : nI (n + n / 2) ≤ nI 0 := z
  rw [Int32.le_iff_toInt_le, nI_toInt (by omega), nI_toInt (by omega)] at h1
  omega
theorem al_c16 {n : Nat} (hn2 : n < 100000) : ¬ (2147483639 : Int32) < nI (n + n / 2) := by
  intro z
  have h1 : nI 2147483639 < nI (n + n / 2) := z
  rw [Int32.lt_iff_toInt_lt, nI_toInt (by omega), nI_toInt (by omega)] at h1
  omega
set_option maxHeartbeats 600000 in
theorem k_J14_newLength {l : Launch} {E : gk_E} {S : gk_S} {x : Int32} {y : Int32} {z : Int32} {n : Nat} (hx : x = nI n) (hy : y = 1) (hz : z = nI (n / 2)) (hn : 2 ≤ n) (hn2 : n < 100000) : gk_T l E yJ14_newLength cJ14_newLength 4 ((some .int)) 1 23 0 0 [.int x, .int y, .int z] S (fun r S' => r = some (.int (nI (n + n / 2))) ∧ S' = S) := by
  refine gk_T.of [some (.int x), some (.int y), some (.int z), none] (by decide) (Nat.le_of_ble_eq_true rfl) (le_1 rfl (le_1 rfl (le_1 rfl (le_p le_n)))) ?_
  intro p_ e_ R_ s_ m_ args_ below_ meth_ c_ hR X hr hin
  subst hR
  subst hx; subst hy; subst hz
  refine g_iload_n X dJ14_newLength_0 rfl ?_
  refine g_iload_n X dJ14_newLength_1 rfl ?_
  refine g_iload_n X dJ14_newLength_2 rfl ?_
  refine g_mmax X dJ14_newLength_3 q747 q748 q149 q749 (Nat.le_of_ble_eq_true rfl) (Nat.le_of_ble_eq_true rfl) ⟨Nat.le_of_ble_eq_true rfl, Nat.le_of_ble_eq_true rfl⟩ ?_
  refine g_iadd X dJ14_newLength_6 ?_
  refine g_top (al_max hn hn2) ?_
  refine g_istore_n X dJ14_newLength_7 (Nat.le_of_ble_eq_true rfl) ?_
  refine g_iconst (v := 0) X dJ14_newLength_8 rfl ?_
  refine g_iload_n X dJ14_newLength_9 rfl ?_
  refine g_icmp_ge (tgt := 21) X dJ14_newLength_10 rfl (fun c10 => ?_) (fun c10 => ?_)
  · exact absurd c10 (al_c10 hn hn2)
  · refine g_iload_n X dJ14_newLength_13 rfl ?_
    refine g_ldc X dJ14_newLength_14 q750 ?_
    refine g_icmp_gt (tgt := 21) X dJ14_newLength_16 rfl (fun c16 => ?_) (fun c16 => ?_)
    · exact absurd c16 (al_c16 hn2)
    · refine g_iload_n X dJ14_newLength_19 rfl ?_
      exact g_iret X hr dJ14_newLength_20 (Nat.le_of_ble_eq_true rfl) (Nat.le_of_ble_eq_true rfl) (⟨rfl, rfl⟩)
theorem gk_Rd.sd {E : gk_E} {S : gk_S} {q a : Nat} {x e : va_E} (hq : S.2.2.2 q = none) (h : gk_Rd E S a e) : gk_Rd E (gk_sd S q x) a e := fun H hR => h H ⟨hR.1, fun q1 e1 h1 => hR.2 q1 e1 (by
  by_cases hqq : q1 = q
  · rw [hqq, hq] at h1; cases h1
  · simp [gk_sd, va_up, hqq, h1])⟩
theorem al_min {n m : Nat} (h : n ≤ m) (hm : m < 100000) : (if nI m < nI n then nI m else nI n) = nI n := by
  split
  · rename_i h1
    rw [Int32.lt_iff_toInt_lt, nI_toInt (by omega), nI_toInt (by omega)] at h1
    omega
  · rfl
theorem sd_ne {S : gk_S} {q y : Nat} {x e : va_E} (hq : S.2.2.2 q = none) (h : S.2.2.2 y = some e) : (gk_sd S q x).2.2.2 y = some e := by
  have hne : y ≠ q := fun z => by rw [z, hq] at h; cases h
  simp [gk_sd, va_up, hne, h]
set_option maxHeartbeats 600000 in
theorem k_J0_copyOf_2 {l : Launch} {E : gk_E} {S : gk_S} {i1 : Int32} {b n N2 : Nat} {x : Nat → Option Nat} (hi : i1 = nI N2) (hb : gk_Rd E S b (.inl (E.2.1 6, n, .inr (.inr (.inr (.inr x)))))) (h12 : n ≤ N2) (hN2 : N2 < 100000) (hel : ∀ i : Nat, i < n → ∀ y : Nat, x i = some y → ∃ ci fs, S.2.2.2 y = some (.inr (ci, fs))) : gk_TZ l E yJ0_copyOf_2 cJ0_copyOf_2 4 ((some (.array (.object "java/lang/Object")))) 1 60 1 N2 [.ref b, .int i1, .ref ((E.2.2.1 905))] S (fun r S' => ∃ q : Nat, r = some (.ref q) ∧ S.2.2.2 q = none ∧ E.2.2.2.1 ≤ q ∧ S' = gk_sd S q (.inl (E.2.1 6, N2, .inr (.inr (.inr (.inr (va_cpy x (fun _ => none) 0 0 n))))))) := by
  refine gk_TZ.of [some (.ref b), some (.int i1), some (.ref ((E.2.2.1 905))), none] (by decide) (Nat.le_of_ble_eq_true rfl) (le_1 rfl (le_1 rfl (le_1 rfl (le_p le_n)))) ?_
  intro p_ e_ R_ s_ m_ args_ below_ meth_ c_ hR X hZ hr hin
  subst hR
  refine g_aload_n X dJ0_copyOf_2_0 rfl ?_
  refine g_ldcM X hZ dJ0_copyOf_2_1 q783 ?_
  refine g_acmp_ne (rx := some (E.2.2.1 905)) (ry := some (E.2.2.1 905)) (tgt := 13) X dJ0_copyOf_2_3 rfl (fun z => absurd rfl z) (fun _ => ?_)
  refine g_iload_n X dJ0_copyOf_2_6 rfl ?_
  refine g_anew (t := 6) X dJ0_copyOf_2_7 q785 (List.mem_cons_of_mem _ List.mem_cons_self) rfl hi hN2 (by dsimp only; omega) (by dsimp only; omega) (fun q1 hq1 hb1 => ?_)
  refine g_goto (tgt := 24) X dJ0_copyOf_2_10 rfl ?_
  refine g_astore_n X dJ0_copyOf_2_24 (Nat.le_of_ble_eq_true rfl) ?_
  refine g_aload_n X dJ0_copyOf_2_25 rfl ?_
  refine g_iconst (v := 0) X dJ0_copyOf_2_26 rfl ?_
  refine g_aload_n X dJ0_copyOf_2_27 rfl ?_
  refine g_iconst (v := 0) X dJ0_copyOf_2_28 rfl ?_
  refine g_aload_n X dJ0_copyOf_2_29 rfl ?_
  refine g_alen (t := 6) X dJ0_copyOf_2_30 (gk_Rd.sd hq1 hb) rfl ?_
  refine g_iload_n X dJ0_copyOf_2_31 rfl ?_
  refine g_mmin X dJ0_copyOf_2_32 q786 q477 q149 q478 (Nat.le_of_ble_eq_true rfl) (Nat.le_of_ble_eq_true rfl) ⟨by first | omega | (dsimp only; omega), by first | omega | (dsimp only; omega)⟩ ?_
  rw [hi]
  refine g_top (al_min h12 hN2) ?_
  refine g_copyO X dJ0_copyOf_2_35 q787 (gk_Rd.sd hq1 hb) gk_sda hb1 rfl rfl rfl (Nat.le_refl n) h12 (by omega) (fun i h9 y h8 => by obtain ⟨ci, fs, h7⟩ := hel i h9 y h8; exact ⟨ci, fs, sd_ne hq1 h7⟩) (Nat.le_of_ble_eq_true rfl) (Nat.le_of_ble_eq_true rfl) ?_
  rw [vz_sdsd]
  refine g_aload_n X dJ0_copyOf_2_38 rfl ?_
  exact g_aret X hr (Or.inr ⟨_, rfl⟩) dJ0_copyOf_2_39 (by omega) (by omega) ⟨q1, rfl, hq1, hb1, rfl⟩
set_option maxHeartbeats 600000 in
theorem k_J0_copyOf {l : Launch} {E : gk_E} {S : gk_S} {i1 : Int32} {b n N2 : Nat} {x : Nat → Option Nat} (hi : i1 = nI N2) (hb : gk_Rd E S b (.inl (E.2.1 6, n, .inr (.inr (.inr (.inr x)))))) (h12 : n ≤ N2) (hN2 : N2 < 100000) (hel : ∀ i : Nat, i < n → ∀ y : Nat, x i = some y → ∃ ci fs, S.2.2.2 y = some (.inr (ci, fs))) : gk_TZ l E yJ0_copyOf cJ0_copyOf 2 ((some (.array (.object "java/lang/Object")))) 2 90 1 N2 [.ref b, .int i1] S (fun r S' => ∃ q : Nat, r = some (.ref q) ∧ S.2.2.2 q = none ∧ E.2.2.2.1 ≤ q ∧ S' = gk_sd S q (.inl (E.2.1 6, N2, .inr (.inr (.inr (.inr (va_cpy x (fun _ => none) 0 0 n))))))) := by
  refine gk_TZ.of [some (.ref b), some (.int i1)] (by decide) (Nat.le_of_ble_eq_true rfl) (fun _ _ h => h) ?_
  intro p_ e_ R_ s_ m_ args_ below_ meth_ c_ hR X hZ hr hin
  subst hR
  refine g_aload_n X dJ0_copyOf_0 rfl ?_
  refine g_iload_n X dJ0_copyOf_1 rfl ?_
  refine g_aload_n X dJ0_copyOf_2 rfl ?_
  refine g_getC X hZ dJ0_copyOf_3 q757 hb (Nat.le_of_ble_eq_true rfl) (Nat.le_of_ble_eq_true rfl) ?_
  refine g_callSZ X hZ (k_J0_copyOf_2 hi hb h12 hN2 hel) (lw_S q780 q781 q137 q782) hd_J0_copyOf_2 dJ0_copyOf_6 rfl ⟨by first | omega | (dsimp only; omega), by first | omega | (dsimp only; omega)⟩ ⟨by first | omega | (dsimp only; omega), by first | omega | (dsimp only; omega)⟩ (Nat.le_of_ble_eq_true rfl) ?_
  rintro _ S1 ⟨q1, rfl, hq1, hb1, rfl⟩
  exact g_aret X hr (Or.inr ⟨_, rfl⟩) dJ0_copyOf_9 (by omega) (by omega) ⟨q1, rfl, hq1, hb1, rfl⟩
