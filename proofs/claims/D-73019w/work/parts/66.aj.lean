/-- the book makes room -/
def wr1 (R : Nat → Int32) (nb : Nat) : Nat → Int32 := if nb = 20 then upd (va_cpy R R 27 22 95) 21 (nI 19) else R
def wrK (nb : Nat) : Nat := if nb = 20 then 19 else nb
theorem wr1_t {R : Nat → Int32} {nb : Nat} (h : nb = 20) : wr1 R nb = upd (va_cpy R R 27 22 95) 21 (nI 19) := if_pos h
theorem wr1_f {R : Nat → Int32} {nb : Nat} (h : ¬ nb = 20) : wr1 R nb = R := if_neg h
theorem wrK_lt {nb : Nat} (h : nb ≤ 20) : wrK nb < 20 := by unfold wrK; split <;> omega
theorem wr1_21 {R : Nat → Int32} {nb : Nat} (h : R 21 = nI nb) : wr1 R nb 21 = nI (wrK nb) := by
  unfold wr1 wrK
  split
  · exact upd_s
  · exact h
/-- an entry is written -/
def wrC (R : Nat → Int32) (nb : Nat) (x y z v : Int32) : Nat → Int32 := upd (upd (upd (upd (upd (upd (wr1 R nb) (22 + 5 * wrK nb) (wr1 R nb 0)) (22 + 5 * wrK nb + 1) x) (22 + 5 * wrK nb + 2) y) (22 + 5 * wrK nb + 3) v) (22 + 5 * wrK nb + 4) (if z = 0 then 0 else 1)) 21 (nI (wrK nb + 1))
set_option maxHeartbeats 600000 in
theorem k_X0_writes {l : Launch} {E : gk_E} (ho : E.2.2.2.2 = true) {S : gk_S} {x : Int32} {y : Int32} {z : Int32} {q1 nb i : Nat} (hq : gk_kd q1 = some (0, 122)) (hb : S.1 q1 21 = nI nb) (hb2 : nb ≤ 20) (hx : x = nI i) (hi : i < 5) : gk_T l E yX0_writes cX0_writes 5 (none) 1 60 0 0 [.ref (E.2.2.1 q1), .int x, .int y, .int z] S (fun r S' => r = none ∧ S' = gk_si S q1 (wrC (S.1 q1) nb x y z (wr1 (S.1 q1) nb (11 + i)))) := by
  refine gk_T.of [some (.ref (E.2.2.1 q1)), some (.int x), some (.int y), some (.int z), none] (by decide) (Nat.le_of_ble_eq_true rfl) (le_1 rfl (le_1 rfl (le_1 rfl (le_1 rfl (le_p le_n))))) ?_
  intro p_ e_ R_ s_ m_ args_ below_ meth_ c_ hR X hr hin
  subst hR
  refine g_aload_n X dX0_writes_0 rfl ?_
  refine g_bipush (v := 21) X dX0_writes_1 rfl ?_
  refine g_iald (j := 21) X dX0_writes_3 (rdi ho (q1) (hq)) rfl (by decide) (by decide) ?_
  rw [hb]
  refine g_bipush (v := 20) X dX0_writes_4 rfl ?_
  refine g_icmp_ne (tgt := 28) X dX0_writes_6 rfl (fun c6 => ?_) (fun c6 => ?_)
  · refine g_eq (S2 := gk_si S q1 (wr1 (S.1 q1) nb)) (by rw [wr1_f (fun z => c6 (by rw [z]; rfl)), si_id]) ?_
    have hk21 := wr1_21 hb
    have hk := wrK_lt hb2
    refine g_bipush (v := 22) X dX0_writes_28 rfl ?_
    refine g_iconst (v := 5) X dX0_writes_30 rfl ?_
    refine g_aload_n X dX0_writes_31 rfl ?_
    refine g_bipush (v := 21) X dX0_writes_32 rfl ?_
    refine g_iald (j := 21) X dX0_writes_34 (rdi ho (q1) (hq)) rfl (by decide) (by decide) ?_
    refine g_top (y := nI (wrK nb)) (by rw [si_s]; exact hk21) ?_
    refine g_imul X dX0_writes_35 ?_
    refine g_iadd X dX0_writes_36 ?_
    refine g_top (y := nI (22 + 5 * wrK nb)) (by show nI 22 + nI 5 * nI _ = _; rw [pk_mul, nI_add]) ?_
    refine g_istore X dX0_writes_37 (Nat.le_of_ble_eq_true rfl) ?_
    refine g_aload_n X dX0_writes_39 rfl ?_
    refine g_iload X dX0_writes_40 rfl ?_
    refine g_aload_n X dX0_writes_42 rfl ?_
    refine g_iconst (v := 0) X dX0_writes_43 rfl ?_
    refine g_iald (j := 0) X dX0_writes_44 (rdi ho (q1) (hq)) rfl (by decide) (by decide) ?_
    refine g_top (y := wr1 (S.1 q1) nb 0) (by rw [si_s]) ?_
    refine g_iast X ho (q1) (j := 22 + 5 * wrK nb) dX0_writes_45 rfl (hq) rfl (by omega) (by decide) ?_
    refine g_aload_n X dX0_writes_46 rfl ?_
    refine g_iload X dX0_writes_47 rfl ?_
    refine g_iconst (v := 1) X dX0_writes_49 rfl ?_
    refine g_iadd X dX0_writes_50 ?_
    refine g_iload_n X dX0_writes_51 rfl ?_
    refine g_iast X ho (q1) (j := 22 + 5 * wrK nb + 1) dX0_writes_52 rfl (hq) (by show nI _ + nI 1 = _; rw [nI_add]) (by omega) (by decide) ?_
    refine g_aload_n X dX0_writes_53 rfl ?_
    refine g_iload X dX0_writes_54 rfl ?_
    refine g_iconst (v := 2) X dX0_writes_56 rfl ?_
    refine g_iadd X dX0_writes_57 ?_
    refine g_iload_n X dX0_writes_58 rfl ?_
    refine g_iast X ho (q1) (j := 22 + 5 * wrK nb + 2) dX0_writes_59 rfl (hq) (by show nI _ + nI 2 = _; rw [nI_add]) (by omega) (by decide) ?_
    refine g_aload_n X dX0_writes_60 rfl ?_
    refine g_iload X dX0_writes_61 rfl ?_
    refine g_iconst (v := 3) X dX0_writes_63 rfl ?_
    refine g_iadd X dX0_writes_64 ?_
    refine g_aload_n X dX0_writes_65 rfl ?_
    refine g_bipush (v := 11) X dX0_writes_66 rfl ?_
    refine g_iload_n X dX0_writes_68 rfl ?_
    refine g_iadd X dX0_writes_69 ?_
    refine g_iald (j := 11 + i) X dX0_writes_70 (rdi ho (q1) (hq)) (by rw [hx]; show nI 11 + nI i = _; rw [nI_add]) (by omega) (by decide) ?_
    refine g_top (y := wr1 (S.1 q1) nb (11 + i)) (by rw [si_s, upd_n (by omega)]; rw [si_s, upd_n (by omega)]; rw [si_s, upd_n (by omega)]; rw [si_s]) ?_
    refine g_iast X ho (q1) (j := 22 + 5 * wrK nb + 3) dX0_writes_71 rfl (hq) (by show nI _ + nI 3 = _; rw [nI_add]) (by omega) (by decide) ?_
    refine g_aload_n X dX0_writes_72 rfl ?_
    refine g_iload X dX0_writes_73 rfl ?_
    refine g_iconst (v := 4) X dX0_writes_75 rfl ?_
    refine g_iadd X dX0_writes_76 ?_
    refine g_iload_n X dX0_writes_77 rfl ?_
    refine g_if_eq (tgt := 85) X dX0_writes_78 rfl (fun c78 => ?_) (fun c78 => ?_)
    · refine g_iconst (v := 0) X dX0_writes_85 rfl ?_
      refine g_iast X ho (q1) (j := 22 + 5 * wrK nb + 4) dX0_writes_86 rfl (hq) (by show nI _ + nI 4 = _; rw [nI_add]) (by omega) (by decide) ?_
      refine g_aload_n X dX0_writes_87 rfl ?_
      refine g_bipush (v := 21) X dX0_writes_88 rfl ?_
      refine g_dup2_11 X dX0_writes_90 rfl rfl ?_
      refine g_iald (j := 21) X dX0_writes_91 (rdi ho (q1) (hq)) rfl (by decide) (by decide) ?_
      refine g_top (y := nI (wrK nb)) (by rw [si_s, upd_n (by omega)]; rw [si_s, upd_n (by omega)]; rw [si_s, upd_n (by omega)]; rw [si_s, upd_n (by omega)]; rw [si_s, upd_n (by omega)]; rw [si_s]; exact hk21) ?_
      refine g_iconst (v := 1) X dX0_writes_92 rfl ?_
      refine g_iadd X dX0_writes_93 ?_
      refine g_iast X ho (q1) (j := 21) dX0_writes_94 rfl (hq) rfl (by decide) (by decide) ?_
      refine g_eq (S2 := gk_si S q1 (wrC (S.1 q1) nb x y z (wr1 (S.1 q1) nb (11 + i)))) (by unfold wrC; rw [if_pos c78, si_si, si_si, si_si, si_si, si_si, si_si, si_s, si_s, si_s, si_s, si_s, si_s, nI_1]) ?_
      exact g_vret X hr dX0_writes_95 (Nat.le_of_ble_eq_true rfl) (Nat.le_of_ble_eq_true rfl) (⟨rfl, rfl⟩)
    · refine g_iconst (v := 1) X dX0_writes_81 rfl ?_
      refine g_goto (tgt := 86) X dX0_writes_82 rfl ?_
      refine g_iast X ho (q1) (j := 22 + 5 * wrK nb + 4) dX0_writes_86 rfl (hq) (by show nI _ + nI 4 = _; rw [nI_add]) (by omega) (by decide) ?_
      refine g_aload_n X dX0_writes_87 rfl ?_
      refine g_bipush (v := 21) X dX0_writes_88 rfl ?_
      refine g_dup2_11 X dX0_writes_90 rfl rfl ?_
      refine g_iald (j := 21) X dX0_writes_91 (rdi ho (q1) (hq)) rfl (by decide) (by decide) ?_
      refine g_top (y := nI (wrK nb)) (by rw [si_s, upd_n (by omega)]; rw [si_s, upd_n (by omega)]; rw [si_s, upd_n (by omega)]; rw [si_s, upd_n (by omega)]; rw [si_s, upd_n (by omega)]; rw [si_s]; exact hk21) ?_
      refine g_iconst (v := 1) X dX0_writes_92 rfl ?_
      refine g_iadd X dX0_writes_93 ?_
      refine g_iast X ho (q1) (j := 21) dX0_writes_94 rfl (hq) rfl (by decide) (by decide) ?_
      refine g_eq (S2 := gk_si S q1 (wrC (S.1 q1) nb x y z (wr1 (S.1 q1) nb (11 + i)))) (by unfold wrC; rw [if_neg c78, si_si, si_si, si_si, si_si, si_si, si_si, si_s, si_s, si_s, si_s, si_s, si_s, nI_1]) ?_
      exact g_vret X hr dX0_writes_95 (Nat.le_of_ble_eq_true rfl) (Nat.le_of_ble_eq_true rfl) (⟨rfl, rfl⟩)
  · have hnb : nb = 20 := Decidable.not_not.mp (fun z => by first | exact (absurd c6 (fun y => z ((nI_eq (by omega) (by decide)).mp y))) | exact z ((nI_eq (by omega) (by decide)).mp (Decidable.not_not.mp c6)))
    refine g_aload_n X dX0_writes_9 rfl ?_
    refine g_bipush (v := 27) X dX0_writes_10 rfl ?_
    refine g_aload_n X dX0_writes_12 rfl ?_
    refine g_bipush (v := 22) X dX0_writes_13 rfl ?_
    refine g_bipush (v := 95) X dX0_writes_15 rfl ?_
    refine g_copyi X ho q1 (sp := 27) (dp := 22) (n := 95) dX0_writes_17 q1067 (rdi ho q1 hq) rfl hq rfl rfl rfl (by omega) (by omega) (by omega) (by omega) (Nat.le_of_ble_eq_true rfl) (Nat.le_of_ble_eq_true rfl) ?_
    refine g_aload_n X dX0_writes_20 rfl ?_
    refine g_bipush (v := 21) X dX0_writes_21 rfl ?_
    refine g_dup2_11 X dX0_writes_23 rfl rfl ?_
    refine g_iald (j := 21) X dX0_writes_24 (rdi ho (q1) (hq)) rfl (by decide) (by decide) ?_
    refine g_top (y := nI 20) (by rw [si_s]; exact hb.trans (by rw [hnb])) ?_
    refine g_iconst (v := 1) X dX0_writes_25 rfl ?_
    refine g_isub X dX0_writes_26 ?_
    refine g_iast X ho (q1) (j := 21) dX0_writes_27 rfl (hq) rfl (by decide) (by decide) ?_
    refine g_eq (S2 := gk_si S q1 (wr1 (S.1 q1) nb)) (by rw [wr1_t hnb, si_si, si_s]; rfl) ?_
    have hk21 := wr1_21 hb
    have hk := wrK_lt hb2
    refine g_bipush (v := 22) X dX0_writes_28 rfl ?_
    refine g_iconst (v := 5) X dX0_writes_30 rfl ?_
    refine g_aload_n X dX0_writes_31 rfl ?_
    refine g_bipush (v := 21) X dX0_writes_32 rfl ?_
    refine g_iald (j := 21) X dX0_writes_34 (rdi ho (q1) (hq)) rfl (by decide) (by decide) ?_
    refine g_top (y := nI (wrK nb)) (by rw [si_s]; exact hk21) ?_
    refine g_imul X dX0_writes_35 ?_
    refine g_iadd X dX0_writes_36 ?_
    refine g_top (y := nI (22 + 5 * wrK nb)) (by show nI 22 + nI 5 * nI _ = _; rw [pk_mul, nI_add]) ?_
    refine g_istore X dX0_writes_37 (Nat.le_of_ble_eq_true rfl) ?_
    refine g_aload_n X dX0_writes_39 rfl ?_
    refine g_iload X dX0_writes_40 rfl ?_
    refine g_aload_n X dX0_writes_42 rfl ?_
    refine g_iconst (v := 0) X dX0_writes_43 rfl ?_
    refine g_iald (j := 0) X dX0_writes_44 (rdi ho (q1) (hq)) rfl (by decide) (by decide) ?_
    refine g_top (y := wr1 (S.1 q1) nb 0) (by rw [si_s]) ?_
    refine g_iast X ho (q1) (j := 22 + 5 * wrK nb) dX0_writes_45 rfl (hq) rfl (by omega) (by decide) ?_
    refine g_aload_n X dX0_writes_46 rfl ?_
    refine g_iload X dX0_writes_47 rfl ?_
    refine g_iconst (v := 1) X dX0_writes_49 rfl ?_
    refine g_iadd X dX0_writes_50 ?_
    refine g_iload_n X dX0_writes_51 rfl ?_
    refine g_iast X ho (q1) (j := 22 + 5 * wrK nb + 1) dX0_writes_52 rfl (hq) (by show nI _ + nI 1 = _; rw [nI_add]) (by omega) (by decide) ?_
    refine g_aload_n X dX0_writes_53 rfl ?_
    refine g_iload X dX0_writes_54 rfl ?_
    refine g_iconst (v := 2) X dX0_writes_56 rfl ?_
    refine g_iadd X dX0_writes_57 ?_
    refine g_iload_n X dX0_writes_58 rfl ?_
    refine g_iast X ho (q1) (j := 22 + 5 * wrK nb + 2) dX0_writes_59 rfl (hq) (by show nI _ + nI 2 = _; rw [nI_add]) (by omega) (by decide) ?_
    refine g_aload_n X dX0_writes_60 rfl ?_
    refine g_iload X dX0_writes_61 rfl ?_
    refine g_iconst (v := 3) X dX0_writes_63 rfl ?_
    refine g_iadd X dX0_writes_64 ?_
    refine g_aload_n X dX0_writes_65 rfl ?_
    refine g_bipush (v := 11) X dX0_writes_66 rfl ?_
    refine g_iload_n X dX0_writes_68 rfl ?_
    refine g_iadd X dX0_writes_69 ?_
    refine g_iald (j := 11 + i) X dX0_writes_70 (rdi ho (q1) (hq)) (by rw [hx]; show nI 11 + nI i = _; rw [nI_add]) (by omega) (by decide) ?_
    refine g_top (y := wr1 (S.1 q1) nb (11 + i)) (by rw [si_s, upd_n (by omega)]; rw [si_s, upd_n (by omega)]; rw [si_s, upd_n (by omega)]; rw [si_s]) ?_
    refine g_iast X ho (q1) (j := 22 + 5 * wrK nb + 3) dX0_writes_71 rfl (hq) (by show nI _ + nI 3 = _; rw [nI_add]) (by omega) (by decide) ?_
    refine g_aload_n X dX0_writes_72 rfl ?_
    refine g_iload X dX0_writes_73 rfl ?_
    refine g_iconst (v := 4) X dX0_writes_75 rfl ?_
    refine g_iadd X dX0_writes_76 ?_
    refine g_iload_n X dX0_writes_77 rfl ?_
    refine g_if_eq (tgt := 85) X dX0_writes_78 rfl (fun c78 => ?_) (fun c78 => ?_)
    · refine g_iconst (v := 0) X dX0_writes_85 rfl ?_
      refine g_iast X ho (q1) (j := 22 + 5 * wrK nb + 4) dX0_writes_86 rfl (hq) (by show nI _ + nI 4 = _; rw [nI_add]) (by omega) (by decide) ?_
      refine g_aload_n X dX0_writes_87 rfl ?_
      refine g_bipush (v := 21) X dX0_writes_88 rfl ?_
      refine g_dup2_11 X dX0_writes_90 rfl rfl ?_
      refine g_iald (j := 21) X dX0_writes_91 (rdi ho (q1) (hq)) rfl (by decide) (by decide) ?_
      refine g_top (y := nI (wrK nb)) (by rw [si_s, upd_n (by omega)]; rw [si_s, upd_n (by omega)]; rw [si_s, upd_n (by omega)]; rw [si_s, upd_n (by omega)]; rw [si_s, upd_n (by omega)]; rw [si_s]; exact hk21) ?_
      refine g_iconst (v := 1) X dX0_writes_92 rfl ?_
      refine g_iadd X dX0_writes_93 ?_
      refine g_iast X ho (q1) (j := 21) dX0_writes_94 rfl (hq) rfl (by decide) (by decide) ?_
      refine g_eq (S2 := gk_si S q1 (wrC (S.1 q1) nb x y z (wr1 (S.1 q1) nb (11 + i)))) (by unfold wrC; rw [if_pos c78, si_si, si_si, si_si, si_si, si_si, si_si, si_s, si_s, si_s, si_s, si_s, si_s, nI_1]) ?_
      exact g_vret X hr dX0_writes_95 (Nat.le_of_ble_eq_true rfl) (Nat.le_of_ble_eq_true rfl) (⟨rfl, rfl⟩)
    · refine g_iconst (v := 1) X dX0_writes_81 rfl ?_
      refine g_goto (tgt := 86) X dX0_writes_82 rfl ?_
      refine g_iast X ho (q1) (j := 22 + 5 * wrK nb + 4) dX0_writes_86 rfl (hq) (by show nI _ + nI 4 = _; rw [nI_add]) (by omega) (by decide) ?_
      refine g_aload_n X dX0_writes_87 rfl ?_
      refine g_bipush (v := 21) X dX0_writes_88 rfl ?_
      refine g_dup2_11 X dX0_writes_90 rfl rfl ?_
      refine g_iald (j := 21) X dX0_writes_91 (rdi ho (q1) (hq)) rfl (by decide) (by decide) ?_
      refine g_top (y := nI (wrK nb)) (by rw [si_s, upd_n (by omega)]; rw [si_s, upd_n (by omega)]; rw [si_s, upd_n (by omega)]; rw [si_s, upd_n (by omega)]; rw [si_s, upd_n (by omega)]; rw [si_s]; exact hk21) ?_
      refine g_iconst (v := 1) X dX0_writes_92 rfl ?_
      refine g_iadd X dX0_writes_93 ?_
      refine g_iast X ho (q1) (j := 21) dX0_writes_94 rfl (hq) rfl (by decide) (by decide) ?_
      refine g_eq (S2 := gk_si S q1 (wrC (S.1 q1) nb x y z (wr1 (S.1 q1) nb (11 + i)))) (by unfold wrC; rw [if_neg c78, si_si, si_si, si_si, si_si, si_si, si_si, si_s, si_s, si_s, si_s, si_s, si_s, nI_1]) ?_
      exact g_vret X hr dX0_writes_95 (Nat.le_of_ble_eq_true rfl) (Nat.le_of_ble_eq_true rfl) (⟨rfl, rfl⟩)
