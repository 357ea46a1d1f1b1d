def shM (A : Nat → Int32) (i : Nat) : Nat → Int32 := itr (fun k A => upd A (1346 + k) (A (1346 + k + 1))) i A
theorem shM_s {A : Nat → Int32} {i : Nat} : shM A (i + 1) = upd (shM A i) (1346 + i) (shM A i (1346 + i + 1)) := rfl
theorem shM_lo {A : Nat → Int32} {j : Nat} (h : j < 1346) : ∀ i, shM A i j = A j
  | 0 => rfl
  | i + 1 => by rw [shM_s, upd_n (by omega)]; exact shM_lo h i
def wm1 (A : Nat → Int32) (nb : Nat) : Nat → Int32 := if nb = 20 then upd (shM A 19) 8 (nI 19) else A
theorem wm1_t {A : Nat → Int32} {nb : Nat} (h : nb = 20) : wm1 A nb = upd (shM A 19) 8 (nI 19) := if_pos h
theorem wm1_f {A : Nat → Int32} {nb : Nat} (h : ¬ nb = 20) : wm1 A nb = A := if_neg h
theorem wm1_8 {A : Nat → Int32} {nb : Nat} (h : A 8 = nI nb) : wm1 A nb 8 = nI (wrK nb) := by
  unfold wm1 wrK
  split
  · exact upd_s
  · exact h
def wmC (A : Nat → Int32) (nb f : Nat) (x cl z : Int32) : Nat → Int32 := upd (upd (wm1 A nb) (1346 + wrK nb) ((((wm1 A nb 5 * 5 + x) * 9 + cl + 1) * 5 + wm1 A nb (17 + 2 * f)) * 2 + (if z = 0 then 0 else 1))) 8 (nI (wrK nb + 1))
set_option maxHeartbeats 600000 in
theorem k_X2_write {l : Launch} {E : gk_E} (ho : E.2.2.2.2 = true) {S : gk_S} {x : Int32} {z : Int32} {nb f : Nat} (hb : S.1 400 8 = nI nb) (hb2 : nb ≤ 20) (hx : x = nI f) (hf : f < 5) : gk_T l E yX2_write cX2_write 4 (none) 1 21 0 0 [.ref (E.2.2.1 3), .int x, .int z] S (fun r S' => r = none ∧ S' = if S.1 201 25 = 0 then S else gk_si S 400 (wmC (S.1 400) nb f x (S.1 408 f) z)) := by
  refine gk_T.of [some (.ref (E.2.2.1 3)), some (.int x), some (.int z), none] (by decide) (Nat.le_of_ble_eq_true rfl) (le_1 rfl (le_1 rfl (le_1 rfl (le_p le_n)))) ?_
  intro p_ e_ R_ s_ m_ args_ below_ meth_ c_ hR X hr hin
  subst hR
  refine g_aload_n X dX2_write_0 rfl ?_
  refine g_get (C := RX2) (T := TX2) (N := 35) X 25 in_X2 dX2_write_1 q1430 (rd3 ho) rfl (Nat.le_of_ble_eq_true rfl) (fun _ h9 => h9) rfl ?_
  refine g_if_ne (tgt := 8) X dX2_write_4 rfl (fun c4 => ?_) (fun c4 => ?_)
  · refine g_aload_n X dX2_write_8 rfl ?_
    refine g_get (C := RX2) (T := TX2) (N := 35) X 0 in_X2 dX2_write_9 q1405 (rd3 ho) rfl (Nat.le_of_ble_eq_true rfl) (fun _ h9 => h9) rfl ?_
    refine g_bipush (v := 8) X dX2_write_12 rfl ?_
    refine g_iald (j := 8) X dX2_write_14 (rdi ho (400) (rfl)) rfl (by decide) (by decide) ?_
    rw [hb]
    refine g_bipush (v := 20) X dX2_write_15 rfl ?_
    refine g_icmp_ne (tgt := 67) X dX2_write_17 rfl (fun c17 => ?_) (fun c17 => ?_)
    · refine g_eq (S2 := gk_si S 400 (wm1 (S.1 400) nb)) (by rw [wm1_f (fun z => c17 (by rw [z]; rfl)), si_id]) ?_
      have hk8 := wm1_8 hb
      have hk := wrK_lt hb2
      refine g_aload_n X dX2_write_67 rfl ?_
      refine g_get (C := RX2) (T := TX2) (N := 35) X 0 in_X2 dX2_write_68 q1405 (rd3 ho) rfl (Nat.le_of_ble_eq_true rfl) (fun _ h9 => h9) rfl ?_
      refine g_sipush (v := 1346) X dX2_write_71 rfl ?_
      refine g_aload_n X dX2_write_74 rfl ?_
      refine g_get (C := RX2) (T := TX2) (N := 35) X 0 in_X2 dX2_write_75 q1405 (rd3 ho) rfl (Nat.le_of_ble_eq_true rfl) (fun _ h9 => h9) rfl ?_
      refine g_bipush (v := 8) X dX2_write_78 rfl ?_
      refine g_iald (j := 8) X dX2_write_80 (rdi ho (400) (rfl)) rfl (by decide) (by decide) ?_
      refine g_top (y := nI (wrK nb)) (by rw [si_s]; exact hk8) ?_
      refine g_iadd X dX2_write_81 ?_
      refine g_top (y := nI (1346 + wrK nb)) (by show nI 1346 + nI _ = _; rw [nI_add]) ?_
      refine g_aload_n X dX2_write_82 rfl ?_
      refine g_get (C := RX2) (T := TX2) (N := 35) X 0 in_X2 dX2_write_83 q1405 (rd3 ho) rfl (Nat.le_of_ble_eq_true rfl) (fun _ h9 => h9) rfl ?_
      refine g_iconst (v := 5) X dX2_write_86 rfl ?_
      refine g_iald (j := 5) X dX2_write_87 (rdi ho (400) (rfl)) rfl (by decide) (by decide) ?_
      refine g_top (y := (wm1 (S.1 400) nb) 5) (by rw [si_s]) ?_
      refine g_iconst (v := 5) X dX2_write_88 rfl ?_
      refine g_imul X dX2_write_89 ?_
      refine g_iload_n X dX2_write_90 rfl ?_
      refine g_iadd X dX2_write_91 ?_
      refine g_bipush (v := 9) X dX2_write_92 rfl ?_
      refine g_imul X dX2_write_94 ?_
      refine g_aload_n X dX2_write_95 rfl ?_
      refine g_get (C := RX2) (T := TX2) (N := 35) X 27 in_X2 dX2_write_96 q1432 (rd3 ho) rfl (Nat.le_of_ble_eq_true rfl) (fun _ h9 => h9) rfl ?_
      refine g_iload_n X dX2_write_99 rfl ?_
      refine g_iald (j := f) X dX2_write_100 (rdi ho (408) (rfl)) hx hf (by decide) ?_
      refine g_iadd X dX2_write_101 ?_
      refine g_iconst (v := 1) X dX2_write_102 rfl ?_
      refine g_iadd X dX2_write_103 ?_
      refine g_iconst (v := 5) X dX2_write_104 rfl ?_
      refine g_imul X dX2_write_105 ?_
      refine g_aload_n X dX2_write_106 rfl ?_
      refine g_iload_n X dX2_write_107 rfl ?_
      refine g_callV (C := RX2) (T := TX2) (N := 35) X (k_X2_fieldOf ho (S := gk_si S 400 _) hx hf) (lw_V q1841 q1843 qs113 q139 q1844) hd_X2_fieldOf dX2_write_108 (rd3 ho) rfl rfl ⟨Nat.le_of_ble_eq_true rfl, Nat.le_of_ble_eq_true rfl⟩ ⟨Nat.le_of_ble_eq_true rfl, Nat.le_of_ble_eq_true rfl⟩ (Nat.le_of_ble_eq_true rfl) ?_
      rintro _ S1 ⟨rfl, hS1⟩
      obtain rfl := hS1.symm
      refine g_top (y := (wm1 (S.1 400) nb) (17 + 2 * f)) (by rw [si_s]) ?_
      refine g_iadd X dX2_write_111 ?_
      refine g_iconst (v := 2) X dX2_write_112 rfl ?_
      refine g_imul X dX2_write_113 ?_
      refine g_iload_n X dX2_write_114 rfl ?_
      refine g_if_eq (tgt := 122) X dX2_write_115 rfl (fun c115 => ?_) (fun c115 => ?_)
      · refine g_iconst (v := 0) X dX2_write_122 rfl ?_
        refine g_iadd X dX2_write_123 ?_
        refine g_iast X ho (400) (j := 1346 + wrK nb) dX2_write_124 rfl (rfl) rfl (by omega) (by decide) ?_
        refine g_aload_n X dX2_write_125 rfl ?_
        refine g_get (C := RX2) (T := TX2) (N := 35) X 0 in_X2 dX2_write_126 q1405 (rd3 ho) rfl (Nat.le_of_ble_eq_true rfl) (fun _ h9 => h9) rfl ?_
        refine g_bipush (v := 8) X dX2_write_129 rfl ?_
        refine g_dup2_11 X dX2_write_131 rfl rfl ?_
        refine g_iald (j := 8) X dX2_write_132 (rdi ho (400) (rfl)) rfl (by decide) (by decide) ?_
        refine g_top (y := nI (wrK nb)) (by rw [si_s, upd_n (by omega), si_s]; exact hk8) ?_
        refine g_iconst (v := 1) X dX2_write_133 rfl ?_
        refine g_iadd X dX2_write_134 ?_
        refine g_iast X ho (400) (j := 8) dX2_write_135 rfl (rfl) rfl (by decide) (by decide) ?_
        refine g_eq (S2 := gk_si S 400 (wmC (S.1 400) nb f x (S.1 408 f) z)) (by unfold wmC; rw [if_pos c115, si_si, si_si, si_s, si_s, nI_1]; rfl) ?_
        exact g_vret X hr dX2_write_136 (Nat.le_of_ble_eq_true rfl) (Nat.le_of_ble_eq_true rfl) (⟨rfl, by rw [if_neg c4]⟩)
      · refine g_iconst (v := 1) X dX2_write_118 rfl ?_
        refine g_goto (tgt := 123) X dX2_write_119 rfl ?_
        refine g_iadd X dX2_write_123 ?_
        refine g_iast X ho (400) (j := 1346 + wrK nb) dX2_write_124 rfl (rfl) rfl (by omega) (by decide) ?_
        refine g_aload_n X dX2_write_125 rfl ?_
        refine g_get (C := RX2) (T := TX2) (N := 35) X 0 in_X2 dX2_write_126 q1405 (rd3 ho) rfl (Nat.le_of_ble_eq_true rfl) (fun _ h9 => h9) rfl ?_
        refine g_bipush (v := 8) X dX2_write_129 rfl ?_
        refine g_dup2_11 X dX2_write_131 rfl rfl ?_
        refine g_iald (j := 8) X dX2_write_132 (rdi ho (400) (rfl)) rfl (by decide) (by decide) ?_
        refine g_top (y := nI (wrK nb)) (by rw [si_s, upd_n (by omega), si_s]; exact hk8) ?_
        refine g_iconst (v := 1) X dX2_write_133 rfl ?_
        refine g_iadd X dX2_write_134 ?_
        refine g_iast X ho (400) (j := 8) dX2_write_135 rfl (rfl) rfl (by decide) (by decide) ?_
        refine g_eq (S2 := gk_si S 400 (wmC (S.1 400) nb f x (S.1 408 f) z)) (by unfold wmC; rw [if_neg c115, si_si, si_si, si_s, si_s, nI_1]; rfl) ?_
        exact g_vret X hr dX2_write_136 (Nat.le_of_ble_eq_true rfl) (Nat.le_of_ble_eq_true rfl) (⟨rfl, by rw [if_neg c4]⟩)
    · have hnb : nb = 20 := (nI_eq (by omega) (by decide)).mp c17
      refine g_iconst (v := 1) X dX2_write_20 rfl ?_
      refine g_istore_n X dX2_write_21 (Nat.le_of_ble_eq_true rfl) ?_
      refine g_loop (σ := Nat) (fun (i : Nat) => gk_si S 400 (shM (S.1 400) i)) (fun (i : Nat) => ([some (.ref (E.2.2.1 3)), some (.int x), some (.int z), some (.int (nI (1 + i)))] : List (Option Value))) (fun (i : Nat) => i ≤ 19) (fun (i : Nat) => 19 - i) (0) ?_ (by exact si_id.symm) (le_1 rfl (le_1 rfl (le_1 rfl (le_1 rfl le_n)))) ?_
      · omega
      intro i hI ih
      try dsimp only at hI ih ⊢
      refine g_iload_n X dX2_write_22 rfl ?_
      refine g_bipush (v := 20) X dX2_write_23 rfl ?_
      refine g_icmp_ge (tgt := 56) X dX2_write_25 rfl (fun c25 => ?_) (fun c25 => ?_)
      · have hi : i = 19 := by
          have := out_of (n := 20) (by omega) (by omega) c25
          omega
        subst hi
        refine g_aload_n X dX2_write_56 rfl ?_
        refine g_get (C := RX2) (T := TX2) (N := 35) X 0 in_X2 dX2_write_57 q1405 (rd3 ho) rfl (Nat.le_of_ble_eq_true rfl) (fun _ h9 => h9) rfl ?_
        refine g_bipush (v := 8) X dX2_write_60 rfl ?_
        refine g_dup2_11 X dX2_write_62 rfl rfl ?_
        refine g_iald (j := 8) X dX2_write_63 (rdi ho (400) (rfl)) rfl (by decide) (by decide) ?_
        refine g_top (y := nI 20) (by rw [si_s, shM_lo (by omega)]; exact hb.trans (by rw [hnb])) ?_
        refine g_iconst (v := 1) X dX2_write_64 rfl ?_
        refine g_isub X dX2_write_65 ?_
        refine g_iast X ho (400) (j := 8) dX2_write_66 rfl (rfl) rfl (by decide) (by decide) ?_
        refine g_eq (S2 := gk_si S 400 (wm1 (S.1 400) nb)) (by rw [wm1_t hnb, si_si, si_s]; rfl) ?_
        have hk8 := wm1_8 hb
        have hk := wrK_lt hb2
        refine g_aload_n X dX2_write_67 rfl ?_
        refine g_get (C := RX2) (T := TX2) (N := 35) X 0 in_X2 dX2_write_68 q1405 (rd3 ho) rfl (Nat.le_of_ble_eq_true rfl) (fun _ h9 => h9) rfl ?_
        refine g_sipush (v := 1346) X dX2_write_71 rfl ?_
        refine g_aload_n X dX2_write_74 rfl ?_
        refine g_get (C := RX2) (T := TX2) (N := 35) X 0 in_X2 dX2_write_75 q1405 (rd3 ho) rfl (Nat.le_of_ble_eq_true rfl) (fun _ h9 => h9) rfl ?_
        refine g_bipush (v := 8) X dX2_write_78 rfl ?_
        refine g_iald (j := 8) X dX2_write_80 (rdi ho (400) (rfl)) rfl (by decide) (by decide) ?_
        refine g_top (y := nI (wrK nb)) (by rw [si_s]; exact hk8) ?_
        refine g_iadd X dX2_write_81 ?_
        refine g_top (y := nI (1346 + wrK nb)) (by show nI 1346 + nI _ = _; rw [nI_add]) ?_
        refine g_aload_n X dX2_write_82 rfl ?_
        refine g_get (C := RX2) (T := TX2) (N := 35) X 0 in_X2 dX2_write_83 q1405 (rd3 ho) rfl (Nat.le_of_ble_eq_true rfl) (fun _ h9 => h9) rfl ?_
        refine g_iconst (v := 5) X dX2_write_86 rfl ?_
        refine g_iald (j := 5) X dX2_write_87 (rdi ho (400) (rfl)) rfl (by decide) (by decide) ?_
        refine g_top (y := (wm1 (S.1 400) nb) 5) (by rw [si_s]) ?_
        refine g_iconst (v := 5) X dX2_write_88 rfl ?_
        refine g_imul X dX2_write_89 ?_
        refine g_iload_n X dX2_write_90 rfl ?_
        refine g_iadd X dX2_write_91 ?_
        refine g_bipush (v := 9) X dX2_write_92 rfl ?_
        refine g_imul X dX2_write_94 ?_
        refine g_aload_n X dX2_write_95 rfl ?_
        refine g_get (C := RX2) (T := TX2) (N := 35) X 27 in_X2 dX2_write_96 q1432 (rd3 ho) rfl (Nat.le_of_ble_eq_true rfl) (fun _ h9 => h9) rfl ?_
        refine g_iload_n X dX2_write_99 rfl ?_
        refine g_iald (j := f) X dX2_write_100 (rdi ho (408) (rfl)) hx hf (by decide) ?_
        refine g_iadd X dX2_write_101 ?_
        refine g_iconst (v := 1) X dX2_write_102 rfl ?_
        refine g_iadd X dX2_write_103 ?_
        refine g_iconst (v := 5) X dX2_write_104 rfl ?_
        refine g_imul X dX2_write_105 ?_
        refine g_aload_n X dX2_write_106 rfl ?_
        refine g_iload_n X dX2_write_107 rfl ?_
        refine g_callV (C := RX2) (T := TX2) (N := 35) X (k_X2_fieldOf ho (S := gk_si S 400 _) hx hf) (lw_V q1841 q1843 qs113 q139 q1844) hd_X2_fieldOf dX2_write_108 (rd3 ho) rfl rfl ⟨Nat.le_of_ble_eq_true rfl, Nat.le_of_ble_eq_true rfl⟩ ⟨Nat.le_of_ble_eq_true rfl, Nat.le_of_ble_eq_true rfl⟩ (Nat.le_of_ble_eq_true rfl) ?_
        rintro _ S1 ⟨rfl, hS1⟩
        obtain rfl := hS1.symm
        refine g_top (y := (wm1 (S.1 400) nb) (17 + 2 * f)) (by rw [si_s]) ?_
        refine g_iadd X dX2_write_111 ?_
        refine g_iconst (v := 2) X dX2_write_112 rfl ?_
        refine g_imul X dX2_write_113 ?_
        refine g_iload_n X dX2_write_114 rfl ?_
        refine g_if_eq (tgt := 122) X dX2_write_115 rfl (fun c115 => ?_) (fun c115 => ?_)
        · refine g_iconst (v := 0) X dX2_write_122 rfl ?_
          refine g_iadd X dX2_write_123 ?_
          refine g_iast X ho (400) (j := 1346 + wrK nb) dX2_write_124 rfl (rfl) rfl (by omega) (by decide) ?_
          refine g_aload_n X dX2_write_125 rfl ?_
          refine g_get (C := RX2) (T := TX2) (N := 35) X 0 in_X2 dX2_write_126 q1405 (rd3 ho) rfl (Nat.le_of_ble_eq_true rfl) (fun _ h9 => h9) rfl ?_
          refine g_bipush (v := 8) X dX2_write_129 rfl ?_
          refine g_dup2_11 X dX2_write_131 rfl rfl ?_
          refine g_iald (j := 8) X dX2_write_132 (rdi ho (400) (rfl)) rfl (by decide) (by decide) ?_
          refine g_top (y := nI (wrK nb)) (by rw [si_s, upd_n (by omega), si_s]; exact hk8) ?_
          refine g_iconst (v := 1) X dX2_write_133 rfl ?_
          refine g_iadd X dX2_write_134 ?_
          refine g_iast X ho (400) (j := 8) dX2_write_135 rfl (rfl) rfl (by decide) (by decide) ?_
          refine g_eq (S2 := gk_si S 400 (wmC (S.1 400) nb f x (S.1 408 f) z)) (by unfold wmC; rw [if_pos c115, si_si, si_si, si_s, si_s, nI_1]; rfl) ?_
          exact g_vret X hr dX2_write_136 (Nat.le_of_ble_eq_true rfl) (Nat.le_of_ble_eq_true rfl) (⟨rfl, by rw [if_neg c4]⟩)
        · refine g_iconst (v := 1) X dX2_write_118 rfl ?_
          refine g_goto (tgt := 123) X dX2_write_119 rfl ?_
          refine g_iadd X dX2_write_123 ?_
          refine g_iast X ho (400) (j := 1346 + wrK nb) dX2_write_124 rfl (rfl) rfl (by omega) (by decide) ?_
          refine g_aload_n X dX2_write_125 rfl ?_
          refine g_get (C := RX2) (T := TX2) (N := 35) X 0 in_X2 dX2_write_126 q1405 (rd3 ho) rfl (Nat.le_of_ble_eq_true rfl) (fun _ h9 => h9) rfl ?_
          refine g_bipush (v := 8) X dX2_write_129 rfl ?_
          refine g_dup2_11 X dX2_write_131 rfl rfl ?_
          refine g_iald (j := 8) X dX2_write_132 (rdi ho (400) (rfl)) rfl (by decide) (by decide) ?_
          refine g_top (y := nI (wrK nb)) (by rw [si_s, upd_n (by omega), si_s]; exact hk8) ?_
          refine g_iconst (v := 1) X dX2_write_133 rfl ?_
          refine g_iadd X dX2_write_134 ?_
          refine g_iast X ho (400) (j := 8) dX2_write_135 rfl (rfl) rfl (by decide) (by decide) ?_
          refine g_eq (S2 := gk_si S 400 (wmC (S.1 400) nb f x (S.1 408 f) z)) (by unfold wmC; rw [if_neg c115, si_si, si_si, si_s, si_s, nI_1]; rfl) ?_
          exact g_vret X hr dX2_write_136 (Nat.le_of_ble_eq_true rfl) (Nat.le_of_ble_eq_true rfl) (⟨rfl, by rw [if_neg c4]⟩)
      · have hi : 1 + i < 20 := in_of (n := 20) (by omega) (by omega) c25
        refine g_aload_n X dX2_write_28 rfl ?_
        refine g_get (C := RX2) (T := TX2) (N := 35) X 0 in_X2 dX2_write_29 q1405 (rd3 ho) rfl (Nat.le_of_ble_eq_true rfl) (fun _ h9 => h9) rfl ?_
        refine g_sipush (v := 1346) X dX2_write_32 rfl ?_
        refine g_iload_n X dX2_write_35 rfl ?_
        refine g_iadd X dX2_write_36 ?_
        refine g_iconst (v := 1) X dX2_write_37 rfl ?_
        refine g_isub X dX2_write_38 ?_
        refine g_aload_n X dX2_write_39 rfl ?_
        refine g_get (C := RX2) (T := TX2) (N := 35) X 0 in_X2 dX2_write_40 q1405 (rd3 ho) rfl (Nat.le_of_ble_eq_true rfl) (fun _ h9 => h9) rfl ?_
        refine g_sipush (v := 1346) X dX2_write_43 rfl ?_
        refine g_iload_n X dX2_write_46 rfl ?_
        refine g_iadd X dX2_write_47 ?_
        refine g_iald (j := 1346 + (1 + i)) X dX2_write_48 (rdi ho (400) (rfl)) (by show nI 1346 + nI (1 + i) = _; rw [nI_add]) (by omega) (by decide) ?_
        refine g_iast X ho (400) (j := 1346 + i) dX2_write_49 rfl (rfl) (by show nI 1346 + nI (1 + i) - 1 = _; rw [nI_add, show 1346 + (1 + i) = (1346 + i) + 1 by omega, nI_pred]) (by omega) (by decide) ?_
        refine g_eq (S2 := gk_si S 400 (shM (S.1 400) (i + 1))) (by rw [si_si, si_s, shM_s]; congr 2; rw [show 1346 + (1 + i) = 1346 + i + 1 by omega]) ?_
        refine g_iinc (v := 1) X dX2_write_50 rfl rfl (Nat.le_of_ble_eq_true rfl) ?_
        refine g_goto (tgt := 22) X dX2_write_53 rfl ?_
        refine g_sub (le_1 rfl (le_1 rfl (le_1 rfl (le_1 (ei (by rw [nI_1]; rfl)) le_n)))) (ih (i + 1) ?_ ?_)
        · try dsimp only
          omega
        · try dsimp only
          omega
  · exact g_vret X hr dX2_write_7 (Nat.le_of_ble_eq_true rfl) (Nat.le_of_ble_eq_true rfl) (⟨rfl, by rw [if_pos c4]⟩)
