section GKC
variable {p : Program} {l : Launch} {e : Env} {R : Room} {s : State} {m : MethodId} {args : Array Value} {below : List Frame} {meth : Method} {c : Code} {Q : State → Prop} {E : gk_E} {nL : Nat} {S : gk_S} {cells slots pc : Nat} {L : List (Option Value)} {rest : List Value} {cc : ByteArray} {own : String}
theorem g_ldcM (X : gk_X p s m args meth c cc own nL E) (hZ : gk_Z E s s.heap) {index : Nat} (hdg : decode cc pc = .ok (.ldc index, 2)) (hcl : Cond.classLink own index "[Ljava/lang/Object;" ∈ lw_all) (k : gk_G p l e R s m args below meth c E nL S cells slots Q (pc + 2) L (.ref (E.2.2.1 905) :: rest)) : gk_G p l e R s m args below meth c E nL S cells slots Q pc L rest := fun H locs ls hR hS hl =>
  va_ldcM X.1 X.2.1 X.2.2.2.1 (X.2.2.2.2.1 _ hcl) hZ.2.2.2.2 hdg (k H locs ls hR hS hl)
theorem g_getC (X : gk_X p s m args meth c cc own nL E) (hZ : gk_Z E s s.heap) {index a n : Nat} {f : Nat → Option Nat} (hdg : decode cc pc = .ok (.invokevirtual index, 3)) (hlink : Cond.methodLink own index ⟨"java/lang/Object", "getClass", "()Ljava/lang/Class;"⟩ ∈ lw_all) (hrd : gk_Rd E S a (.inl (E.2.1 6, n, .inr (.inr (.inr (.inr f)))))) (hfr : 1 ≤ R.frames) (hlo : (rest.map fun v => v.category).sum + 14 ≤ R.locals) (k : gk_G p l e R s m args below meth c E nL S cells slots Q (pc + 3) L (.ref (E.2.2.1 905) :: rest)) : gk_G p l e R s m args below meth c E nL S cells slots Q pc L (.ref a :: rest) := fun H locs ls hR hS hl =>
  va_getC X.1 X.2.1 (by rw [X.2.2.1]; exact hl.1.symm) X.2.2.2.1 (X.2.2.2.2.1 _ hlink) hZ.2.2.2.1.use (X.2.2.2.2.1 _ q2128) (X.2.2.2.2.1 _ q758) (X.2.2.2.2.1 _ q779) hZ.2.2.2.2 ⟨_, hrd H hR, rfl, va_nmO (X.2.2.2.2.2.1.1.2 6 (E.2.1 6, .object "java/lang/Object") rfl).2 rfl⟩ hfr hlo hdg (k H locs ls hR hS hl)
end GKC
theorem al_max {n : Nat} (hn : 2 ≤ n) (hn2 : n < 100000) : nI n + (if (1 : Int32) < nI (n / 2) then nI (n / 2) else (1 : Int32)) = nI (n + n / 2) := by
  split
  · rw [nI_add]
  · rename_i h
    have e : n / 2 = 1 := by
      have h1 : ¬ nI 1 < nI (n / 2) := h
      rw [Int32.lt_iff_toInt_lt, nI_toInt (by omega), nI_toInt (by omega)] at h1
      omega
    rw [e, ← nI_add]
    rfl
theorem al_c10 {n : Nat} (hn : 2 ≤ n) (hn2 : n < 100000) : ¬ nI (n + n / 2) ≤ 0 := by
  intro z
  have h1 : nI (n + n / 2) ≤ nI 0 := z
  rw [Int32.le_iff_toInt_le, nI_toInt (by omega), nI_toInt (by omega)] at h1
  omega
theorem al_c16 {n : Nat} (hn2 : n < 100000) : ¬ (2147483639 : Int32) < nI (n + n / 2) := by
  intro z
  have h1 : nI 2147483639 < nI (n + n / 2) := z
  rw [Int32.lt_iff_toInt_lt, nI_toInt (by omega), nI_toInt (by omega)] at h1
  omega
set_option maxHeartbeats 600000 in
theorem k_J14_newLength {l : Launch} {E : gk_E} {S : gk_S} {x : Int32} {y : Int32} {z : Int32} {n : Nat} (hx : x = nI n) (hy : y = 1) (hz : z = nI (n / 2)) (hn : 2 ≤ n) (hn2 : n < 100000) : gk_T l E yJ14_newLength cJ14_newLength 4 ((some .int)) 1 23 0 0 [.int x, .int y, .int z] S (fun r S' => r = some (.int (nI (n + n / 2))) ∧ S' = S) := by
  refine gk_T.of [some (.int x), some (.int y), some (.int z), none] (by decide) (Nat.le_of_ble_eq_true rfl) (le_1 rfl (le_1 rfl (le_1 rfl (le_p le_n)))) ?_
  intro p_ e_ R_ s_ m_ args_ below_ meth_ c_ hR X hr hin
  subst hR
  subst hx; subst hy; subst hz
  refine g_iload_n X dJ14_newLength_0 rfl ?_
  refine g_iload_n X dJ14_newLength_1 rfl ?_
  refine g_iload_n X dJ14_newLength_2 rfl ?_
  refine g_mmax X dJ14_newLength_3 q747 q748 q149 q749 (Nat.le_of_ble_eq_true rfl) (Nat.le_of_ble_eq_true rfl) ⟨Nat.le_of_ble_eq_true rfl, Nat.le_of_ble_eq_true rfl⟩ ?_
  refine g_iadd X dJ14_newLength_6 ?_
  refine g_top (al_max hn hn2) ?_
  refine g_istore_n X dJ14_newLength_7 (Nat.le_of_ble_eq_true rfl) ?_
  refine g_iconst (v := 0) X dJ14_newLength_8 rfl ?_
  refine g_iload_n X dJ14_newLength_9 rfl ?_
  refine g_icmp_ge (tgt := 21) X dJ14_newLength_10 rfl (fun c10 => ?_) (fun c10 => ?_)
  · exact absurd c10 (al_c10 hn hn2)
  · refine g_iload_n X dJ14_newLength_13 rfl ?_
    refine g_ldc X dJ14_newLength_14 q750 ?_
    refine g_icmp_gt (tgt := 21) X dJ14_newLength_16 rfl (fun c16 => ?_) (fun c16 => ?_)
    · exact absurd c16 (al_c16 hn2)
    · refine g_iload_n X dJ14_newLength_19 rfl ?_
      exact g_iret X hr dJ14_newLength_20 (Nat.le_of_ble_eq_true rfl) (Nat.le_of_ble_eq_true rfl) (⟨rfl, rfl⟩)
