/-- the code C asks M -/
def mA (C : List (Nat × Nat)) (M : mnB) : Prop := ∀ v w : Nat → Int32, agK true v w → ∀ vs ts, rn w C (vs, ts) = some (vs, decide (M v = 1) :: ts)
/-- the names of a world -/
def vwC (w : Nat) : Nat → Int32 := fun k => if k < 4 then (nI w >>> (nI k &&& 31)) &&& 1 else 0
def nwL (o : Nat → Int32) (w i : Nat) : Nat → Int32 := itr (fun k F => upd F (6 + k) ((nI w >>> (nI k &&& 31)) &&& 1)) i o
def wlM (F : Nat → Int32) : Nat → Int32 := fun i => if i < 4 then F (6 + i) else if i < 10 then F (i - 4) else 0
theorem nwL_g {o : Nat → Int32} {w : Nat} : ∀ {i k : Nat}, k < i → nwL o w i (6 + k) = (nI w >>> (nI k &&& 31)) &&& 1
  | i + 1, k, h => by
    show upd (nwL o w i) (6 + i) _ (6 + k) = _
    by_cases e : k = i
    · subst e
      rw [upd_s]
    · rw [upd_n (by omega)]
      exact nwL_g (by omega)
theorem and1 (x : Int32) : x &&& 1 = 0 ∨ x &&& 1 = 1 := by
  have h : ∀ b : BitVec 32, b &&& 1#32 = 0#32 ∨ b &&& 1#32 = 1#32 := by
    intro b
    have e : (b &&& 1#32).toNat = b.toNat % 2 := by
      rw [BitVec.toNat_and]
      exact Nat.and_one_is_mod _
    rcases Nat.mod_two_eq_zero_or_one b.toNat with h | h
    · left
      apply BitVec.eq_of_toNat_eq
      rw [e, h]
      rfl
    · right
      apply BitVec.eq_of_toNat_eq
      rw [e, h]
      rfl
  rcases h x.toBitVec with h | h
  · left
    exact Int32.toBitVec_inj.mp (by simpa using h)
  · right
    exact Int32.toBitVec_inj.mp (by simpa using h)
theorem ag_w {o : Nat → Int32} {w : Nat} : agK true (vwC w) (wlM (nwL o w 4)) := by
  intro k hk hr
  rw [if_pos rfl] at hr
  have b : ∀ x : Int32, -9999 ≤ (x &&& 1).toInt ∧ (x &&& 1).toInt ≤ 9999 := fun x => by
    rcases and1 x with h | h <;> rw [h] <;> decide
  by_cases h4 : k < 4
  · have e1 : vwC w k = (nI w >>> (nI k &&& 31)) &&& 1 := if_pos h4
    have e2 : wlM (nwL o w 4) k = (nI w >>> (nI k &&& 31)) &&& 1 := (if_pos h4).trans (nwL_g h4)
    rw [e1, e2]
    exact ⟨rfl, b _⟩
  · have e1 : vwC w k = 0 := if_neg h4
    have e2 : wlM (nwL o w 4) k = 0 := (if_neg h4).trans (if_neg (by omega))
    rw [e1, e2]
    exact ⟨rfl, by decide⟩
theorem wl_nm {F : Nat → Int32} {w : Nat} (h : w < 10) : F w = nvM (wlM F) w := by
  unfold nvM
  split
  · show F w = wlM F (4 + w)
    unfold wlM
    rw [if_neg (by omega), if_pos (by omega)]
    exact congrArg F (by omega)
  · show F w = wlM F (w - 6)
    unfold wlM
    rw [if_pos (by omega)]
    exact congrArg F (by omega)
theorem wl_hd {S : gk_S} {F : Nat → Int32} (h : ¬ S.1 201 24 = 0) : HdA (gk_si S 405 F) (wlM F) := Or.inr ⟨h, fun k hk => by unfold wlM; rw [if_neg (by omega), if_neg (by omega)]⟩
theorem lw_ng {A : Nat → Int64} (h : lwB A) : ¬ lg_cmp (A 0) (-1000000) < 0 := by
  intro z
  have h1 := (lg_cmp_lt _ _).mp z
  unfold lwB bdd at h
  have h2 := of_decide_eq_true (Bool.and_eq_true_iff.mp h).1
  exact Int64.lt_irrefl (Int64.lt_of_lt_of_le h1 h2)
set_option maxHeartbeats 600000 in
theorem k_X2_isSo {l : Launch} {E : gk_E} (ho : E.2.2.2.2 = true) {S : gk_S} {x : Int32} {y : Int32} {j k t0 t1 w : Nat} {C : List (Nat × Nat)} {M : mnB} (hx : x = nI j) (hj : j < 4) (hy : y = nI k) (hk : k < 24) (h1 : S.1 402 (714 * j + 1 + 4 * k + 1) = nI t0) (h2 : S.1 402 (714 * j + 1 + 4 * k + 2) = nI t1) (hC : t0 + C.length = t1) (ht : t1 ≤ 304) (hcd : cdA (S.1 402) j t0 C) (hcl : ¬ S.1 201 24 = 0) (hm : mA C M) (hlw : lwB (S.2.1 0)) : gk_T l E yX2_isSo cX2_isSo 5 ((some .boolean)) 3 74 0 0 [.ref (E.2.2.1 3), .int x, .int y, .int (nI w)] S (fun r S' => ∃ (A : Nat → Int64) (B : Nat → Int32), r = some (.int (bP (M (vwC w) = 1))) ∧ S' = gk_dt S (nwL (S.1 405) w 4) A B ∧ lwB A) := by
  refine gk_T.of [some (.ref (E.2.2.1 3)), some (.int x), some (.int y), some (.int (nI w)), none] (by decide) (Nat.le_of_ble_eq_true rfl) (le_1 rfl (le_1 rfl (le_1 rfl (le_1 rfl (le_p le_n))))) ?_
  intro p_ e_ R_ s_ m_ args_ below_ meth_ c_ hR X hr hin
  subst hR
  refine g_iconst (v := 0) X dX2_isSo_0 rfl ?_
  refine g_istore X dX2_isSo_1 (Nat.le_of_ble_eq_true rfl) ?_
  refine g_loop (σ := Nat) (fun (i : Nat) => gk_si S 405 (nwL (S.1 405) w i)) (fun (i : Nat) => ([some (.ref (E.2.2.1 3)), some (.int x), some (.int y), some (.int (nI w)), some (.int (nI i))] : List (Option Value))) (fun (i : Nat) => i ≤ 4) (fun (i : Nat) => 4 - i) (0) ?_ (si_id.symm) (le_1 rfl (le_1 rfl (le_1 rfl (le_1 rfl (le_1 rfl le_n))))) ?_
  · exact Nat.zero_le _
  intro i hI ih
  try dsimp only at hI ih ⊢
  refine g_iload X dX2_isSo_3 rfl ?_
  refine g_iconst (v := 4) X dX2_isSo_5 rfl ?_
  refine g_icmp_ge (tgt := 31) X dX2_isSo_6 rfl (fun c6 => ?_) (fun c6 => ?_)
  · obtain rfl : i = 4 := Nat.le_antisymm hI ((nI_leI (by decide) (by omega)).mp c6)
    refine g_aload_n X dX2_isSo_31 rfl ?_
    refine g_iload_n X dX2_isSo_32 rfl ?_
    refine g_iload_n X dX2_isSo_33 rfl ?_
    refine g_callV (C := RX2) (T := TX2) (N := 35) X (k_X2_summedUp ho (S := gk_si S 405 _) hx hj hy hk h1 h2 hC ht hcd (hm _ _ ag_w [] []) (fun w hw => wl_nm hw) (wl_hd hcl) hlw) (lw_V q1699 q1701 qs92 q139 q1702) hd_X2_summedUp dX2_isSo_34 (rd3 ho) rfl rfl ⟨Nat.le_of_ble_eq_true rfl, Nat.le_of_ble_eq_true rfl⟩ ⟨Nat.le_of_ble_eq_true rfl, Nat.le_of_ble_eq_true rfl⟩ (Nat.le_of_ble_eq_true rfl) ?_
    rintro _ S1 ⟨A, B, rfl, hS1, hA1, hB1, hA2⟩
    obtain rfl := hS1.symm
    refine g_ldc2 X dX2_isSo_37 q1721 ?_
    refine g_lcmp X dX2_isSo_40 ?_
    refine g_if_lt (tgt := 57) X dX2_isSo_41 rfl (fun c41 => ?_) (fun c41 => ?_)
    · exact absurd c41 (lw_ng hA2)
    · refine g_aload_n X dX2_isSo_44 rfl ?_
      refine g_get (C := RX2) (T := TX2) (N := 35) X 23 in_X2 dX2_isSo_45 q1428 (rd3 ho) rfl (Nat.le_of_ble_eq_true rfl) (fun _ h9 => h9) rfl ?_
      refine g_iconst (v := 0) X dX2_isSo_48 rfl ?_
      refine g_zald (j := 0) X dX2_isSo_49 (rdi ho (407) (rfl)) rfl (by decide) (by decide) ?_
      refine g_top (y := bP (decide (M (vwC w) = 1) = true)) hB1.1 ?_
      refine g_if_eq (tgt := 57) X dX2_isSo_50 rfl (fun c50 => ?_) (fun c50 => ?_)
      · refine g_iconst (v := 0) X dX2_isSo_57 rfl ?_
        refine g_zret X hr dX2_isSo_58 ?_ (Nat.le_of_ble_eq_true rfl) (Nat.le_of_ble_eq_true rfl) ?_
        · first | rfl | exact nb_bP
        · exact ⟨A, B, by rw [bP_f (fun z => bP_0.mp c50 (decide_eq_true z))], rfl, hA2⟩
      · refine g_iconst (v := 1) X dX2_isSo_53 rfl ?_
        refine g_goto (tgt := 58) X dX2_isSo_54 rfl ?_
        refine g_zret X hr dX2_isSo_58 ?_ (Nat.le_of_ble_eq_true rfl) (Nat.le_of_ble_eq_true rfl) ?_
        · first | rfl | exact nb_bP
        · exact ⟨A, B, by rw [bP_t (of_decide_eq_true (Decidable.not_not.mp (fun z => c50 (bP_0.mpr z))))], rfl, hA2⟩
  · have hi4 : i < 4 := (nI_ltI (by omega) (by decide)).mp (Int32.not_le.mp c6)
    refine g_aload_n X dX2_isSo_9 rfl ?_
    refine g_get (C := RX2) (T := TX2) (N := 35) X 21 in_X2 dX2_isSo_10 q1426 (rd3 ho) rfl (Nat.le_of_ble_eq_true rfl) (fun _ h9 => h9) rfl ?_
    refine g_bipush (v := 6) X dX2_isSo_13 rfl ?_
    refine g_iload X dX2_isSo_15 rfl ?_
    refine g_iadd X dX2_isSo_17 ?_
    refine g_iload_n X dX2_isSo_18 rfl ?_
    refine g_iload X dX2_isSo_19 rfl ?_
    refine g_ishr X dX2_isSo_21 ?_
    refine g_iconst (v := 1) X dX2_isSo_22 rfl ?_
    refine g_iand X dX2_isSo_23 ?_
    refine g_iast X ho (405) (j := 6 + i) dX2_isSo_24 rfl (rfl) (by show nI 6 + nI i = _; rw [nI_add]) (by omega) (by decide) ?_
    refine g_iinc (v := 1) X dX2_isSo_25 rfl rfl (Nat.le_of_ble_eq_true rfl) ?_
    refine g_goto (tgt := 3) X dX2_isSo_28 rfl ?_
    refine g_eq (S2 := gk_si S 405 (nwL (S.1 405) w (i + 1))) (by rw [si_si]; rfl) ?_
    refine g_sub (le_1 rfl (le_1 rfl (le_1 rfl (le_1 rfl (le_1 e_1 le_n))))) (ih (i + 1) ?_ ?_)
    · try dsimp only
      omega
    · try dsimp only
      omega
