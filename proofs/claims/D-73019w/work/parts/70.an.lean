theorem rf_rdC {a : Nat → Int32} {c i : Nat} {x y : Int32} (hc : c < 8) : (if a (3 + c) = 0 then upd (upd a 1 x) (3 + c) y else upd a 1 x) (16 + i) = a (16 + i) := by
  split
  · rw [upd_n (by omega), upd_n (by omega)]
  · rw [upd_n (by omega)]
set_option maxHeartbeats 600000 in
theorem k_X0_isRefuted_11 {l : Launch} {E : gk_E} (ho : E.2.2.2.2 = true) {S : gk_S} {x : Int32} {a n v i : Nat} {f : Nat → Int32} (hu : RU E S a n f) (hv : S.1 11 1 = nI v) (hv2 : v < 30859) (hx : x = nI i) (hi : i < 5) : gk_T l E yX0_isRefuted cX0_isRefuted 4 ((some .boolean)) 5 103 0 0 [.ref (E.2.2.1 0), .ref (E.2.2.1 11), .int x] S (fun r S' => r = some (.int (bP ((rfC n f v i (S.1 11)).2 = true))) ∧ S' = gk_si (gk_si S 11 (rfC n f v i (S.1 11)).1) 302 (upd (S.1 302) i (rfL n v))) := by
  refine gk_T.of [some (.ref (E.2.2.1 0)), some (.ref (E.2.2.1 11)), some (.int x), none] (by decide) (Nat.le_of_ble_eq_true rfl) (le_1 rfl (le_1 rfl (le_1 rfl (le_p le_n)))) ?_
  intro p_ e_ R_ s_ m_ args_ below_ meth_ c_ hR X hr hin
  subst hR
  have hn8 : n ≤ 8 := hu.1
  refine g_aload_n X dX0_isRefuted_0 rfl ?_
  refine g_get (C := RX0) (T := TX0) (N := 13) X 7 in_X0 dX0_isRefuted_1 q248 (rd0 ho) rfl (Nat.le_of_ble_eq_true rfl) (fun _ h9 => h9) rfl ?_
  refine g_iload_n X dX0_isRefuted_4 rfl ?_
  refine g_aload_n X dX0_isRefuted_5 rfl ?_
  refine g_callV (C := RX0) (T := TX0) (N := 13) X (k_X0_claims ho hu) (lw_V q1015 q1017 qs27 q135 q1018) hd_X0_claims dX0_isRefuted_6 (rd0 ho) rfl rfl ⟨Nat.le_of_ble_eq_true rfl, Nat.le_of_ble_eq_true rfl⟩ ⟨Nat.le_of_ble_eq_true rfl, Nat.le_of_ble_eq_true rfl⟩ (Nat.le_of_ble_eq_true rfl) ?_
  rintro _ S1 ⟨rfl, hS1⟩
  obtain rfl := hS1.symm
  refine g_if_ne (tgt := 16) X dX0_isRefuted_9 rfl (fun c9 => ?_) (fun c9 => ?_)
  · have hn : ¬ n = 0 := fun z => c9 (by rw [z]; rfl)
    have hc : v % n < n := Nat.mod_lt _ (by omega)
    have hc8 : v % n < 8 := by omega
    refine g_aload_n X dX0_isRefuted_16 rfl ?_
    refine g_aload_n X dX0_isRefuted_17 rfl ?_
    refine g_callV (C := RX0) (T := TX0) (N := 13) X (k_X0_claims ho hu) (lw_V q1015 q1017 qs27 q135 q1018) hd_X0_claims dX0_isRefuted_18 (rd0 ho) rfl rfl ⟨Nat.le_of_ble_eq_true rfl, Nat.le_of_ble_eq_true rfl⟩ ⟨Nat.le_of_ble_eq_true rfl, Nat.le_of_ble_eq_true rfl⟩ (Nat.le_of_ble_eq_true rfl) ?_
    rintro _ S1 ⟨rfl, hS1⟩
    obtain rfl := hS1.symm
    refine g_callS X (k_X0_drawn ho rfl (fun z => hn ((nI_eq (b := 0) (by omega) (by decide)).mp z))) (lw_S q1025 q1026 q135 q1027) hd_X0_drawn dX0_isRefuted_21 rfl ⟨Nat.le_of_ble_eq_true rfl, Nat.le_of_ble_eq_true rfl⟩ ⟨Nat.le_of_ble_eq_true rfl, Nat.le_of_ble_eq_true rfl⟩ (Nat.le_of_ble_eq_true rfl) ?_
    rintro _ S1 ⟨rfl, hS1⟩
    obtain rfl := hS1.symm
    refine g_top (y := nI (v % n)) (by rw [hv]; exact dw_r hv2 (by omega) (by omega)) ?_
    rw [hv, dw_C hv2]
    refine g_top (y := rfL n v) (by unfold rfL; rw [if_neg hn]) ?_
    refine g_iast X ho (302) (j := i) dX0_isRefuted_24 rfl (rfl) hx hi (by decide) ?_
    refine g_aload_n X dX0_isRefuted_25 rfl ?_
    refine g_get (C := RX0) (T := TX0) (N := 13) X 7 in_X0 dX0_isRefuted_26 q248 (rd0 ho) rfl (Nat.le_of_ble_eq_true rfl) (fun _ h9 => h9) rfl ?_
    refine g_iload_n X dX0_isRefuted_29 rfl ?_
    refine g_iald (j := i) X dX0_isRefuted_30 (rdi ho (302) (rfl)) hx hi (by decide) ?_
    refine g_top (y := nI (v % n)) (by rw [si_s, upd_s]; unfold rfL; rw [if_neg hn]) ?_
    refine g_istore_n X dX0_isRefuted_31 (Nat.le_of_ble_eq_true rfl) ?_
    refine g_iload_n X dX0_isRefuted_32 rfl ?_
    refine g_iconst (v := (-1)) X dX0_isRefuted_33 rfl ?_
    refine g_icmp_eq (tgt := 47) X dX0_isRefuted_34 rfl (fun c34 => ?_) (fun c34 => ?_)
    · refine g_iconst (v := 0) X dX0_isRefuted_47 rfl ?_
      refine g_zret X hr dX0_isRefuted_48 ?_ (Nat.le_of_ble_eq_true rfl) (Nat.le_of_ble_eq_true rfl) ?_
      · first | rfl | exact nb_bP
      · exact absurd c34 (nI_ne_m1 (by omega))
    · refine g_aload_n X dX0_isRefuted_37 rfl ?_
      refine g_iconst (v := 2) X dX0_isRefuted_38 rfl ?_
      refine g_iald (j := 2) X dX0_isRefuted_39 (rdi ho (11) (rfl)) rfl (by decide) (by decide) ?_
      refine g_iload_n X dX0_isRefuted_40 rfl ?_
      refine g_callS X (k_X0_has ho) (lw_S q1028 q1029 q135 q1030) hd_X0_has dX0_isRefuted_41 rfl ⟨Nat.le_of_ble_eq_true rfl, Nat.le_of_ble_eq_true rfl⟩ ⟨Nat.le_of_ble_eq_true rfl, Nat.le_of_ble_eq_true rfl⟩ (Nat.le_of_ble_eq_true rfl) ?_
      rintro _ S1 ⟨rfl, hS1⟩
      obtain rfl := hS1.symm
      refine g_ifp_eq (tgt := 49) X dX0_isRefuted_44 rfl (fun c44 => ?_) (fun c44 => ?_)
      · refine g_aload_n X dX0_isRefuted_49 rfl ?_
        refine g_iconst (v := 3) X dX0_isRefuted_50 rfl ?_
        refine g_iload_n X dX0_isRefuted_51 rfl ?_
        refine g_iadd X dX0_isRefuted_52 ?_
        refine g_iald (j := 3 + v % n) X dX0_isRefuted_53 (rdi ho (11) (rfl)) (by show nI 3 + nI _ = _; rw [nI_add]) (by omega) (by decide) ?_
        refine g_top (y := (S.1 11) (3 + v % n)) (by show (upd (S.1 11) 1 (nI (dwN v))) (3 + v % n) = _; exact upd_n (by omega)) ?_
        refine g_if_ne (tgt := 77) X dX0_isRefuted_54 rfl (fun c54 => ?_) (fun c54 => ?_)
        · refine g_aload_n X dX0_isRefuted_77 rfl ?_
          refine g_iconst (v := 3) X dX0_isRefuted_78 rfl ?_
          refine g_iload_n X dX0_isRefuted_79 rfl ?_
          refine g_iadd X dX0_isRefuted_80 ?_
          refine g_iald (j := 3 + v % n) X dX0_isRefuted_81 (rdi ho (11) (rfl)) (by show nI 3 + nI _ = _; rw [nI_add]) (by omega) (by decide) ?_
          refine g_top (y := (S.1 11) (3 + v % n)) (by show (upd (S.1 11) 1 (nI (dwN v))) (3 + v % n) = _; exact upd_n (by omega)) ?_
          refine g_if_ne (tgt := 95) X dX0_isRefuted_82 rfl (fun c82 => ?_) (fun c82 => ?_)
          · refine g_eq (S2 := gk_si (gk_si S 11 (if (S.1 11) (3 + v % n) = 0 then upd (upd (S.1 11) 1 (nI (dwN v))) (3 + v % n) ((S.1 11) 0 + 3) else (upd (S.1 11) 1 (nI (dwN v))))) 302 (upd (S.1 302) i (rfL n v))) (by rw [if_neg c82]; rfl) ?_
            refine g_aload_n X dX0_isRefuted_95 rfl ?_
            refine g_bipush (v := 16) X dX0_isRefuted_96 rfl ?_
            refine g_iload_n X dX0_isRefuted_98 rfl ?_
            refine g_iadd X dX0_isRefuted_99 ?_
            refine g_sipush (v := 9999) X dX0_isRefuted_100 rfl ?_
            refine g_aload_n X dX0_isRefuted_103 rfl ?_
            refine g_bipush (v := 16) X dX0_isRefuted_104 rfl ?_
            refine g_iload_n X dX0_isRefuted_106 rfl ?_
            refine g_iadd X dX0_isRefuted_107 ?_
            refine g_iald (j := 16 + i) X dX0_isRefuted_108 (rdi ho (11) (rfl)) (by rw [hx]; show nI 16 + nI i = _; rw [nI_add]) (by omega) (by decide) ?_
            refine g_top (y := (S.1 11) (16 + i)) (by show (if (S.1 11) (3 + v % n) = 0 then upd (upd (S.1 11) 1 (nI (dwN v))) (3 + v % n) ((S.1 11) 0 + 3) else (upd (S.1 11) 1 (nI (dwN v)))) (16 + i) = _; exact rf_rdC hc8) ?_
            refine g_iconst (v := 1) X dX0_isRefuted_109 rfl ?_
            refine g_iadd X dX0_isRefuted_110 ?_
            refine g_mmin X dX0_isRefuted_111 q1048 q477 q149 q478 (Nat.le_of_ble_eq_true rfl) (Nat.le_of_ble_eq_true rfl) ⟨Nat.le_of_ble_eq_true rfl, Nat.le_of_ble_eq_true rfl⟩ ?_
            refine g_iast X ho (11) (j := 16 + i) dX0_isRefuted_114 rfl (rfl) (by rw [hx]; show nI 16 + nI i = _; rw [nI_add]) (by omega) (by decide) ?_
            refine g_eq (S2 := gk_si (gk_si S 11 (rfC n f v i (S.1 11)).1) 302 (upd (S.1 302) i (rfL n v))) (by rw [si_co (i := 302) (by decide), si_si, rfC_3 (f := f) (i := i) (R := (S.1 11)) hn c44 (fun z => c54 z.1)]; rfl) ?_
            refine g_iconst (v := 1) X dX0_isRefuted_115 rfl ?_
            refine g_zret X hr dX0_isRefuted_116 ?_ (Nat.le_of_ble_eq_true rfl) (Nat.le_of_ble_eq_true rfl) ?_
            · first | rfl | exact nb_bP
            · exact ⟨by rw [rfC_3 (f := f) (i := i) (R := (S.1 11)) hn c44 (fun z => c54 z.1)]; rfl, rfl⟩
          · refine g_aload_n X dX0_isRefuted_85 rfl ?_
            refine g_iconst (v := 3) X dX0_isRefuted_86 rfl ?_
            refine g_iload_n X dX0_isRefuted_87 rfl ?_
            refine g_iadd X dX0_isRefuted_88 ?_
            refine g_aload_n X dX0_isRefuted_89 rfl ?_
            refine g_iconst (v := 0) X dX0_isRefuted_90 rfl ?_
            refine g_iald (j := 0) X dX0_isRefuted_91 (rdi ho (11) (rfl)) rfl (by decide) (by decide) ?_
            refine g_iconst (v := 3) X dX0_isRefuted_92 rfl ?_
            refine g_iadd X dX0_isRefuted_93 ?_
            refine g_iast X ho (11) (j := 3 + v % n) dX0_isRefuted_94 rfl (rfl) (by show nI 3 + nI _ = _; rw [nI_add]) (by omega) (by decide) ?_
            refine g_eq (S2 := gk_si (gk_si S 11 (if (S.1 11) (3 + v % n) = 0 then upd (upd (S.1 11) 1 (nI (dwN v))) (3 + v % n) ((S.1 11) 0 + 3) else (upd (S.1 11) 1 (nI (dwN v))))) 302 (upd (S.1 302) i (rfL n v))) (by rw [si_co (i := 302) (by decide), si_si, if_pos c82]; rfl) ?_
            refine g_aload_n X dX0_isRefuted_95 rfl ?_
            refine g_bipush (v := 16) X dX0_isRefuted_96 rfl ?_
            refine g_iload_n X dX0_isRefuted_98 rfl ?_
            refine g_iadd X dX0_isRefuted_99 ?_
            refine g_sipush (v := 9999) X dX0_isRefuted_100 rfl ?_
            refine g_aload_n X dX0_isRefuted_103 rfl ?_
            refine g_bipush (v := 16) X dX0_isRefuted_104 rfl ?_
            refine g_iload_n X dX0_isRefuted_106 rfl ?_
            refine g_iadd X dX0_isRefuted_107 ?_
            refine g_iald (j := 16 + i) X dX0_isRefuted_108 (rdi ho (11) (rfl)) (by rw [hx]; show nI 16 + nI i = _; rw [nI_add]) (by omega) (by decide) ?_
            refine g_top (y := (S.1 11) (16 + i)) (by show (if (S.1 11) (3 + v % n) = 0 then upd (upd (S.1 11) 1 (nI (dwN v))) (3 + v % n) ((S.1 11) 0 + 3) else (upd (S.1 11) 1 (nI (dwN v)))) (16 + i) = _; exact rf_rdC hc8) ?_
            refine g_iconst (v := 1) X dX0_isRefuted_109 rfl ?_
            refine g_iadd X dX0_isRefuted_110 ?_
            refine g_mmin X dX0_isRefuted_111 q1048 q477 q149 q478 (Nat.le_of_ble_eq_true rfl) (Nat.le_of_ble_eq_true rfl) ⟨Nat.le_of_ble_eq_true rfl, Nat.le_of_ble_eq_true rfl⟩ ?_
            refine g_iast X ho (11) (j := 16 + i) dX0_isRefuted_114 rfl (rfl) (by rw [hx]; show nI 16 + nI i = _; rw [nI_add]) (by omega) (by decide) ?_
            refine g_eq (S2 := gk_si (gk_si S 11 (rfC n f v i (S.1 11)).1) 302 (upd (S.1 302) i (rfL n v))) (by rw [si_co (i := 302) (by decide), si_si, rfC_3 (f := f) (i := i) (R := (S.1 11)) hn c44 (fun z => c54 z.1)]; rfl) ?_
            refine g_iconst (v := 1) X dX0_isRefuted_115 rfl ?_
            refine g_zret X hr dX0_isRefuted_116 ?_ (Nat.le_of_ble_eq_true rfl) (Nat.le_of_ble_eq_true rfl) ?_
            · first | rfl | exact nb_bP
            · exact ⟨by rw [rfC_3 (f := f) (i := i) (R := (S.1 11)) hn c44 (fun z => c54 z.1)]; rfl, rfl⟩
        · refine g_aload_n X dX0_isRefuted_57 rfl ?_
          refine g_aload_n X dX0_isRefuted_58 rfl ?_
          refine g_iload_n X dX0_isRefuted_59 rfl ?_
          refine g_callV (C := RX0) (T := TX0) (N := 13) X (k_X0_mayHold ho (S := gk_si (gk_si S 11 _) 302 _) rfl hu) (lw_V q1031 q1033 qs29 q135 q1034) hd_X0_mayHold dX0_isRefuted_60 (rd0 ho) rfl rfl ⟨Nat.le_of_ble_eq_true rfl, Nat.le_of_ble_eq_true rfl⟩ ⟨Nat.le_of_ble_eq_true rfl, Nat.le_of_ble_eq_true rfl⟩ (Nat.le_of_ble_eq_true rfl) ?_
          rintro _ S1 ⟨rfl, hS1⟩
          obtain rfl := hS1.symm
          refine g_ifp_eq (tgt := 77) X dX0_isRefuted_63 rfl (fun c63 => ?_) (fun c63 => ?_)
          · refine g_aload_n X dX0_isRefuted_77 rfl ?_
            refine g_iconst (v := 3) X dX0_isRefuted_78 rfl ?_
            refine g_iload_n X dX0_isRefuted_79 rfl ?_
            refine g_iadd X dX0_isRefuted_80 ?_
            refine g_iald (j := 3 + v % n) X dX0_isRefuted_81 (rdi ho (11) (rfl)) (by show nI 3 + nI _ = _; rw [nI_add]) (by omega) (by decide) ?_
            refine g_top (y := (S.1 11) (3 + v % n)) (by show (upd (S.1 11) 1 (nI (dwN v))) (3 + v % n) = _; exact upd_n (by omega)) ?_
            refine g_if_ne (tgt := 95) X dX0_isRefuted_82 rfl (fun c82 => ?_) (fun c82 => ?_)
            · refine g_eq (S2 := gk_si (gk_si S 11 (if (S.1 11) (3 + v % n) = 0 then upd (upd (S.1 11) 1 (nI (dwN v))) (3 + v % n) ((S.1 11) 0 + 3) else (upd (S.1 11) 1 (nI (dwN v))))) 302 (upd (S.1 302) i (rfL n v))) (by rw [if_neg c82]; rfl) ?_
              refine g_aload_n X dX0_isRefuted_95 rfl ?_
              refine g_bipush (v := 16) X dX0_isRefuted_96 rfl ?_
              refine g_iload_n X dX0_isRefuted_98 rfl ?_
              refine g_iadd X dX0_isRefuted_99 ?_
              refine g_sipush (v := 9999) X dX0_isRefuted_100 rfl ?_
              refine g_aload_n X dX0_isRefuted_103 rfl ?_
              refine g_bipush (v := 16) X dX0_isRefuted_104 rfl ?_
              refine g_iload_n X dX0_isRefuted_106 rfl ?_
              refine g_iadd X dX0_isRefuted_107 ?_
              refine g_iald (j := 16 + i) X dX0_isRefuted_108 (rdi ho (11) (rfl)) (by rw [hx]; show nI 16 + nI i = _; rw [nI_add]) (by omega) (by decide) ?_
              refine g_top (y := (S.1 11) (16 + i)) (by show (if (S.1 11) (3 + v % n) = 0 then upd (upd (S.1 11) 1 (nI (dwN v))) (3 + v % n) ((S.1 11) 0 + 3) else (upd (S.1 11) 1 (nI (dwN v)))) (16 + i) = _; exact rf_rdC hc8) ?_
              refine g_iconst (v := 1) X dX0_isRefuted_109 rfl ?_
              refine g_iadd X dX0_isRefuted_110 ?_
              refine g_mmin X dX0_isRefuted_111 q1048 q477 q149 q478 (Nat.le_of_ble_eq_true rfl) (Nat.le_of_ble_eq_true rfl) ⟨Nat.le_of_ble_eq_true rfl, Nat.le_of_ble_eq_true rfl⟩ ?_
              refine g_iast X ho (11) (j := 16 + i) dX0_isRefuted_114 rfl (rfl) (by rw [hx]; show nI 16 + nI i = _; rw [nI_add]) (by omega) (by decide) ?_
              refine g_eq (S2 := gk_si (gk_si S 11 (rfC n f v i (S.1 11)).1) 302 (upd (S.1 302) i (rfL n v))) (by rw [si_co (i := 302) (by decide), si_si, rfC_3 (f := f) (i := i) (R := (S.1 11)) hn c44 (fun z => c63 z.2)]; rfl) ?_
              refine g_iconst (v := 1) X dX0_isRefuted_115 rfl ?_
              refine g_zret X hr dX0_isRefuted_116 ?_ (Nat.le_of_ble_eq_true rfl) (Nat.le_of_ble_eq_true rfl) ?_
              · first | rfl | exact nb_bP
              · exact ⟨by rw [rfC_3 (f := f) (i := i) (R := (S.1 11)) hn c44 (fun z => c63 z.2)]; rfl, rfl⟩
            · refine g_aload_n X dX0_isRefuted_85 rfl ?_
              refine g_iconst (v := 3) X dX0_isRefuted_86 rfl ?_
              refine g_iload_n X dX0_isRefuted_87 rfl ?_
              refine g_iadd X dX0_isRefuted_88 ?_
              refine g_aload_n X dX0_isRefuted_89 rfl ?_
              refine g_iconst (v := 0) X dX0_isRefuted_90 rfl ?_
              refine g_iald (j := 0) X dX0_isRefuted_91 (rdi ho (11) (rfl)) rfl (by decide) (by decide) ?_
              refine g_iconst (v := 3) X dX0_isRefuted_92 rfl ?_
              refine g_iadd X dX0_isRefuted_93 ?_
              refine g_iast X ho (11) (j := 3 + v % n) dX0_isRefuted_94 rfl (rfl) (by show nI 3 + nI _ = _; rw [nI_add]) (by omega) (by decide) ?_
              refine g_eq (S2 := gk_si (gk_si S 11 (if (S.1 11) (3 + v % n) = 0 then upd (upd (S.1 11) 1 (nI (dwN v))) (3 + v % n) ((S.1 11) 0 + 3) else (upd (S.1 11) 1 (nI (dwN v))))) 302 (upd (S.1 302) i (rfL n v))) (by rw [si_co (i := 302) (by decide), si_si, if_pos c82]; rfl) ?_
              refine g_aload_n X dX0_isRefuted_95 rfl ?_
              refine g_bipush (v := 16) X dX0_isRefuted_96 rfl ?_
              refine g_iload_n X dX0_isRefuted_98 rfl ?_
              refine g_iadd X dX0_isRefuted_99 ?_
              refine g_sipush (v := 9999) X dX0_isRefuted_100 rfl ?_
              refine g_aload_n X dX0_isRefuted_103 rfl ?_
              refine g_bipush (v := 16) X dX0_isRefuted_104 rfl ?_
              refine g_iload_n X dX0_isRefuted_106 rfl ?_
              refine g_iadd X dX0_isRefuted_107 ?_
              refine g_iald (j := 16 + i) X dX0_isRefuted_108 (rdi ho (11) (rfl)) (by rw [hx]; show nI 16 + nI i = _; rw [nI_add]) (by omega) (by decide) ?_
              refine g_top (y := (S.1 11) (16 + i)) (by show (if (S.1 11) (3 + v % n) = 0 then upd (upd (S.1 11) 1 (nI (dwN v))) (3 + v % n) ((S.1 11) 0 + 3) else (upd (S.1 11) 1 (nI (dwN v)))) (16 + i) = _; exact rf_rdC hc8) ?_
              refine g_iconst (v := 1) X dX0_isRefuted_109 rfl ?_
              refine g_iadd X dX0_isRefuted_110 ?_
              refine g_mmin X dX0_isRefuted_111 q1048 q477 q149 q478 (Nat.le_of_ble_eq_true rfl) (Nat.le_of_ble_eq_true rfl) ⟨Nat.le_of_ble_eq_true rfl, Nat.le_of_ble_eq_true rfl⟩ ?_
              refine g_iast X ho (11) (j := 16 + i) dX0_isRefuted_114 rfl (rfl) (by rw [hx]; show nI 16 + nI i = _; rw [nI_add]) (by omega) (by decide) ?_
              refine g_eq (S2 := gk_si (gk_si S 11 (rfC n f v i (S.1 11)).1) 302 (upd (S.1 302) i (rfL n v))) (by rw [si_co (i := 302) (by decide), si_si, rfC_3 (f := f) (i := i) (R := (S.1 11)) hn c44 (fun z => c63 z.2)]; rfl) ?_
              refine g_iconst (v := 1) X dX0_isRefuted_115 rfl ?_
              refine g_zret X hr dX0_isRefuted_116 ?_ (Nat.le_of_ble_eq_true rfl) (Nat.le_of_ble_eq_true rfl) ?_
              · first | rfl | exact nb_bP
              · exact ⟨by rw [rfC_3 (f := f) (i := i) (R := (S.1 11)) hn c44 (fun z => c63 z.2)]; rfl, rfl⟩
          · refine g_aload_n X dX0_isRefuted_66 rfl ?_
            refine g_iconst (v := 2) X dX0_isRefuted_67 rfl ?_
            refine g_dup2_11 X dX0_isRefuted_68 rfl rfl ?_
            refine g_iald (j := 2) X dX0_isRefuted_69 (rdi ho (11) (rfl)) rfl (by decide) (by decide) ?_
            refine g_iconst (v := 1) X dX0_isRefuted_70 rfl ?_
            refine g_iload_n X dX0_isRefuted_71 rfl ?_
            refine g_ishl X dX0_isRefuted_72 ?_
            refine g_ior X dX0_isRefuted_73 ?_
            refine g_iast X ho (11) (j := 2) dX0_isRefuted_74 rfl (rfl) rfl (by decide) (by decide) ?_
            refine g_eq (S2 := gk_si (gk_si S 11 (rfC n f v i (S.1 11)).1) 302 (upd (S.1 302) i (rfL n v))) (by rw [si_co (i := 302) (by decide), si_si, rfC_2 (f := f) (i := i) (R := (S.1 11)) hn c44 ⟨c54, c63⟩]; rfl) ?_
            refine g_iconst (v := 0) X dX0_isRefuted_75 rfl ?_
            refine g_zret X hr dX0_isRefuted_76 ?_ (Nat.le_of_ble_eq_true rfl) (Nat.le_of_ble_eq_true rfl) ?_
            · first | rfl | exact nb_bP
            · exact ⟨by rw [rfC_2 (f := f) (i := i) (R := (S.1 11)) hn c44 ⟨c54, c63⟩]; rfl, rfl⟩
      · refine g_iconst (v := 0) X dX0_isRefuted_47 rfl ?_
        refine g_zret X hr dX0_isRefuted_48 ?_ (Nat.le_of_ble_eq_true rfl) (Nat.le_of_ble_eq_true rfl) ?_
        · first | rfl | exact nb_bP
        · exact ⟨by rw [rfC_1 (f := f) (i := i) (R := (S.1 11)) hn c44]; rfl, by rw [rfC_1 (f := f) (i := i) (R := (S.1 11)) hn c44]; rfl⟩
  · have hn : n = 0 := (nI_eq (b := 0) (by omega) (by decide)).mp c9
    refine g_iconst (v := (-1)) X dX0_isRefuted_12 rfl ?_
    refine g_goto (tgt := 24) X dX0_isRefuted_13 rfl ?_
    refine g_top (y := rfL n v) (by unfold rfL; rw [if_pos hn]) ?_
    refine g_iast X ho (302) (j := i) dX0_isRefuted_24 rfl (rfl) hx hi (by decide) ?_
    refine g_aload_n X dX0_isRefuted_25 rfl ?_
    refine g_get (C := RX0) (T := TX0) (N := 13) X 7 in_X0 dX0_isRefuted_26 q248 (rd0 ho) rfl (Nat.le_of_ble_eq_true rfl) (fun _ h9 => h9) rfl ?_
    refine g_iload_n X dX0_isRefuted_29 rfl ?_
    refine g_iald (j := i) X dX0_isRefuted_30 (rdi ho (302) (rfl)) hx hi (by decide) ?_
    skip
    refine g_top (y := -1) (by rw [si_s, upd_s]; unfold rfL; rw [if_pos hn]) ?_
    refine g_istore_n X dX0_isRefuted_31 (Nat.le_of_ble_eq_true rfl) ?_
    refine g_iload_n X dX0_isRefuted_32 rfl ?_
    refine g_iconst (v := (-1)) X dX0_isRefuted_33 rfl ?_
    refine g_icmp_eq (tgt := 47) X dX0_isRefuted_34 rfl (fun c34 => ?_) (fun c34 => absurd rfl c34)
    refine g_iconst (v := 0) X dX0_isRefuted_47 rfl ?_
    refine g_zret X hr dX0_isRefuted_48 ?_ (Nat.le_of_ble_eq_true rfl) (Nat.le_of_ble_eq_true rfl) ?_
    · rfl
    · exact ⟨by rw [rfC_0 hn]; rfl, by rw [rfC_0 hn, si_id]⟩
set_option maxHeartbeats 600000 in
theorem k_X0_isRefuted_304 {l : Launch} {E : gk_E} (ho : E.2.2.2.2 = true) {S : gk_S} {x : Int32} {a n v i : Nat} {f : Nat → Int32} (hu : RU E S a n f) (hv : S.1 304 1 = nI v) (hv2 : v < 30859) (hx : x = nI i) (hi : i < 5) : gk_T l E yX0_isRefuted cX0_isRefuted 4 ((some .boolean)) 5 103 0 0 [.ref (E.2.2.1 0), .ref (E.2.2.1 304), .int x] S (fun r S' => r = some (.int (bP ((rfC n f v i (S.1 304)).2 = true))) ∧ S' = gk_si (gk_si S 304 (rfC n f v i (S.1 304)).1) 302 (upd (S.1 302) i (rfL n v))) := by
  refine gk_T.of [some (.ref (E.2.2.1 0)), some (.ref (E.2.2.1 304)), some (.int x), none] (by decide) (Nat.le_of_ble_eq_true rfl) (le_1 rfl (le_1 rfl (le_1 rfl (le_p le_n)))) ?_
  intro p_ e_ R_ s_ m_ args_ below_ meth_ c_ hR X hr hin
  subst hR
  have hn8 : n ≤ 8 := hu.1
  refine g_aload_n X dX0_isRefuted_0 rfl ?_
  refine g_get (C := RX0) (T := TX0) (N := 13) X 7 in_X0 dX0_isRefuted_1 q248 (rd0 ho) rfl (Nat.le_of_ble_eq_true rfl) (fun _ h9 => h9) rfl ?_
  refine g_iload_n X dX0_isRefuted_4 rfl ?_
  refine g_aload_n X dX0_isRefuted_5 rfl ?_
  refine g_callV (C := RX0) (T := TX0) (N := 13) X (k_X0_claims ho hu) (lw_V q1015 q1017 qs27 q135 q1018) hd_X0_claims dX0_isRefuted_6 (rd0 ho) rfl rfl ⟨Nat.le_of_ble_eq_true rfl, Nat.le_of_ble_eq_true rfl⟩ ⟨Nat.le_of_ble_eq_true rfl, Nat.le_of_ble_eq_true rfl⟩ (Nat.le_of_ble_eq_true rfl) ?_
  rintro _ S1 ⟨rfl, hS1⟩
  obtain rfl := hS1.symm
  refine g_if_ne (tgt := 16) X dX0_isRefuted_9 rfl (fun c9 => ?_) (fun c9 => ?_)
  · have hn : ¬ n = 0 := fun z => c9 (by rw [z]; rfl)
    have hc : v % n < n := Nat.mod_lt _ (by omega)
    have hc8 : v % n < 8 := by omega
    refine g_aload_n X dX0_isRefuted_16 rfl ?_
    refine g_aload_n X dX0_isRefuted_17 rfl ?_
    refine g_callV (C := RX0) (T := TX0) (N := 13) X (k_X0_claims ho hu) (lw_V q1015 q1017 qs27 q135 q1018) hd_X0_claims dX0_isRefuted_18 (rd0 ho) rfl rfl ⟨Nat.le_of_ble_eq_true rfl, Nat.le_of_ble_eq_true rfl⟩ ⟨Nat.le_of_ble_eq_true rfl, Nat.le_of_ble_eq_true rfl⟩ (Nat.le_of_ble_eq_true rfl) ?_
    rintro _ S1 ⟨rfl, hS1⟩
    obtain rfl := hS1.symm
    refine g_callS X (k_X0_drawn ho rfl (fun z => hn ((nI_eq (b := 0) (by omega) (by decide)).mp z))) (lw_S q1025 q1026 q135 q1027) hd_X0_drawn dX0_isRefuted_21 rfl ⟨Nat.le_of_ble_eq_true rfl, Nat.le_of_ble_eq_true rfl⟩ ⟨Nat.le_of_ble_eq_true rfl, Nat.le_of_ble_eq_true rfl⟩ (Nat.le_of_ble_eq_true rfl) ?_
    rintro _ S1 ⟨rfl, hS1⟩
    obtain rfl := hS1.symm
    refine g_top (y := nI (v % n)) (by rw [hv]; exact dw_r hv2 (by omega) (by omega)) ?_
    rw [hv, dw_C hv2]
    refine g_top (y := rfL n v) (by unfold rfL; rw [if_neg hn]) ?_
    refine g_iast X ho (302) (j := i) dX0_isRefuted_24 rfl (rfl) hx hi (by decide) ?_
    refine g_aload_n X dX0_isRefuted_25 rfl ?_
    refine g_get (C := RX0) (T := TX0) (N := 13) X 7 in_X0 dX0_isRefuted_26 q248 (rd0 ho) rfl (Nat.le_of_ble_eq_true rfl) (fun _ h9 => h9) rfl ?_
    refine g_iload_n X dX0_isRefuted_29 rfl ?_
    refine g_iald (j := i) X dX0_isRefuted_30 (rdi ho (302) (rfl)) hx hi (by decide) ?_
    refine g_top (y := nI (v % n)) (by rw [si_s, upd_s]; unfold rfL; rw [if_neg hn]) ?_
    refine g_istore_n X dX0_isRefuted_31 (Nat.le_of_ble_eq_true rfl) ?_
    refine g_iload_n X dX0_isRefuted_32 rfl ?_
    refine g_iconst (v := (-1)) X dX0_isRefuted_33 rfl ?_
    refine g_icmp_eq (tgt := 47) X dX0_isRefuted_34 rfl (fun c34 => ?_) (fun c34 => ?_)
    · refine g_iconst (v := 0) X dX0_isRefuted_47 rfl ?_
      refine g_zret X hr dX0_isRefuted_48 ?_ (Nat.le_of_ble_eq_true rfl) (Nat.le_of_ble_eq_true rfl) ?_
      · first | rfl | exact nb_bP
      · exact absurd c34 (nI_ne_m1 (by omega))
    · refine g_aload_n X dX0_isRefuted_37 rfl ?_
      refine g_iconst (v := 2) X dX0_isRefuted_38 rfl ?_
      refine g_iald (j := 2) X dX0_isRefuted_39 (rdi ho (304) (rfl)) rfl (by decide) (by decide) ?_
      refine g_iload_n X dX0_isRefuted_40 rfl ?_
      refine g_callS X (k_X0_has ho) (lw_S q1028 q1029 q135 q1030) hd_X0_has dX0_isRefuted_41 rfl ⟨Nat.le_of_ble_eq_true rfl, Nat.le_of_ble_eq_true rfl⟩ ⟨Nat.le_of_ble_eq_true rfl, Nat.le_of_ble_eq_true rfl⟩ (Nat.le_of_ble_eq_true rfl) ?_
      rintro _ S1 ⟨rfl, hS1⟩
      obtain rfl := hS1.symm
      refine g_ifp_eq (tgt := 49) X dX0_isRefuted_44 rfl (fun c44 => ?_) (fun c44 => ?_)
      · refine g_aload_n X dX0_isRefuted_49 rfl ?_
        refine g_iconst (v := 3) X dX0_isRefuted_50 rfl ?_
        refine g_iload_n X dX0_isRefuted_51 rfl ?_
        refine g_iadd X dX0_isRefuted_52 ?_
        refine g_iald (j := 3 + v % n) X dX0_isRefuted_53 (rdi ho (304) (rfl)) (by show nI 3 + nI _ = _; rw [nI_add]) (by omega) (by decide) ?_
        refine g_top (y := (S.1 304) (3 + v % n)) (by show (upd (S.1 304) 1 (nI (dwN v))) (3 + v % n) = _; exact upd_n (by omega)) ?_
        refine g_if_ne (tgt := 77) X dX0_isRefuted_54 rfl (fun c54 => ?_) (fun c54 => ?_)
        · refine g_aload_n X dX0_isRefuted_77 rfl ?_
          refine g_iconst (v := 3) X dX0_isRefuted_78 rfl ?_
          refine g_iload_n X dX0_isRefuted_79 rfl ?_
          refine g_iadd X dX0_isRefuted_80 ?_
          refine g_iald (j := 3 + v % n) X dX0_isRefuted_81 (rdi ho (304) (rfl)) (by show nI 3 + nI _ = _; rw [nI_add]) (by omega) (by decide) ?_
          refine g_top (y := (S.1 304) (3 + v % n)) (by show (upd (S.1 304) 1 (nI (dwN v))) (3 + v % n) = _; exact upd_n (by omega)) ?_
          refine g_if_ne (tgt := 95) X dX0_isRefuted_82 rfl (fun c82 => ?_) (fun c82 => ?_)
          · refine g_eq (S2 := gk_si (gk_si S 304 (if (S.1 304) (3 + v % n) = 0 then upd (upd (S.1 304) 1 (nI (dwN v))) (3 + v % n) ((S.1 304) 0 + 3) else (upd (S.1 304) 1 (nI (dwN v))))) 302 (upd (S.1 302) i (rfL n v))) (by rw [if_neg c82]; rfl) ?_
            refine g_aload_n X dX0_isRefuted_95 rfl ?_
            refine g_bipush (v := 16) X dX0_isRefuted_96 rfl ?_
            refine g_iload_n X dX0_isRefuted_98 rfl ?_
            refine g_iadd X dX0_isRefuted_99 ?_
            refine g_sipush (v := 9999) X dX0_isRefuted_100 rfl ?_
            refine g_aload_n X dX0_isRefuted_103 rfl ?_
            refine g_bipush (v := 16) X dX0_isRefuted_104 rfl ?_
            refine g_iload_n X dX0_isRefuted_106 rfl ?_
            refine g_iadd X dX0_isRefuted_107 ?_
            refine g_iald (j := 16 + i) X dX0_isRefuted_108 (rdi ho (304) (rfl)) (by rw [hx]; show nI 16 + nI i = _; rw [nI_add]) (by omega) (by decide) ?_
            refine g_top (y := (S.1 304) (16 + i)) (by show (if (S.1 304) (3 + v % n) = 0 then upd (upd (S.1 304) 1 (nI (dwN v))) (3 + v % n) ((S.1 304) 0 + 3) else (upd (S.1 304) 1 (nI (dwN v)))) (16 + i) = _; exact rf_rdC hc8) ?_
            refine g_iconst (v := 1) X dX0_isRefuted_109 rfl ?_
            refine g_iadd X dX0_isRefuted_110 ?_
            refine g_mmin X dX0_isRefuted_111 q1048 q477 q149 q478 (Nat.le_of_ble_eq_true rfl) (Nat.le_of_ble_eq_true rfl) ⟨Nat.le_of_ble_eq_true rfl, Nat.le_of_ble_eq_true rfl⟩ ?_
            refine g_iast X ho (304) (j := 16 + i) dX0_isRefuted_114 rfl (rfl) (by rw [hx]; show nI 16 + nI i = _; rw [nI_add]) (by omega) (by decide) ?_
            refine g_eq (S2 := gk_si (gk_si S 304 (rfC n f v i (S.1 304)).1) 302 (upd (S.1 302) i (rfL n v))) (by rw [si_co (i := 302) (by decide), si_si, rfC_3 (f := f) (i := i) (R := (S.1 304)) hn c44 (fun z => c54 z.1)]; rfl) ?_
            refine g_iconst (v := 1) X dX0_isRefuted_115 rfl ?_
            refine g_zret X hr dX0_isRefuted_116 ?_ (Nat.le_of_ble_eq_true rfl) (Nat.le_of_ble_eq_true rfl) ?_
            · first | rfl | exact nb_bP
            · exact ⟨by rw [rfC_3 (f := f) (i := i) (R := (S.1 304)) hn c44 (fun z => c54 z.1)]; rfl, rfl⟩
          · refine g_aload_n X dX0_isRefuted_85 rfl ?_
            refine g_iconst (v := 3) X dX0_isRefuted_86 rfl ?_
            refine g_iload_n X dX0_isRefuted_87 rfl ?_
            refine g_iadd X dX0_isRefuted_88 ?_
            refine g_aload_n X dX0_isRefuted_89 rfl ?_
            refine g_iconst (v := 0) X dX0_isRefuted_90 rfl ?_
            refine g_iald (j := 0) X dX0_isRefuted_91 (rdi ho (304) (rfl)) rfl (by decide) (by decide) ?_
            refine g_iconst (v := 3) X dX0_isRefuted_92 rfl ?_
            refine g_iadd X dX0_isRefuted_93 ?_
            refine g_iast X ho (304) (j := 3 + v % n) dX0_isRefuted_94 rfl (rfl) (by show nI 3 + nI _ = _; rw [nI_add]) (by omega) (by decide) ?_
            refine g_eq (S2 := gk_si (gk_si S 304 (if (S.1 304) (3 + v % n) = 0 then upd (upd (S.1 304) 1 (nI (dwN v))) (3 + v % n) ((S.1 304) 0 + 3) else (upd (S.1 304) 1 (nI (dwN v))))) 302 (upd (S.1 302) i (rfL n v))) (by rw [si_co (i := 302) (by decide), si_si, if_pos c82]; rfl) ?_
            refine g_aload_n X dX0_isRefuted_95 rfl ?_
            refine g_bipush (v := 16) X dX0_isRefuted_96 rfl ?_
            refine g_iload_n X dX0_isRefuted_98 rfl ?_
            refine g_iadd X dX0_isRefuted_99 ?_
            refine g_sipush (v := 9999) X dX0_isRefuted_100 rfl ?_
            refine g_aload_n X dX0_isRefuted_103 rfl ?_
            refine g_bipush (v := 16) X dX0_isRefuted_104 rfl ?_
            refine g_iload_n X dX0_isRefuted_106 rfl ?_
            refine g_iadd X dX0_isRefuted_107 ?_
            refine g_iald (j := 16 + i) X dX0_isRefuted_108 (rdi ho (304) (rfl)) (by rw [hx]; show nI 16 + nI i = _; rw [nI_add]) (by omega) (by decide) ?_
            refine g_top (y := (S.1 304) (16 + i)) (by show (if (S.1 304) (3 + v % n) = 0 then upd (upd (S.1 304) 1 (nI (dwN v))) (3 + v % n) ((S.1 304) 0 + 3) else (upd (S.1 304) 1 (nI (dwN v)))) (16 + i) = _; exact rf_rdC hc8) ?_
            refine g_iconst (v := 1) X dX0_isRefuted_109 rfl ?_
            refine g_iadd X dX0_isRefuted_110 ?_
            refine g_mmin X dX0_isRefuted_111 q1048 q477 q149 q478 (Nat.le_of_ble_eq_true rfl) (Nat.le_of_ble_eq_true rfl) ⟨Nat.le_of_ble_eq_true rfl, Nat.le_of_ble_eq_true rfl⟩ ?_
            refine g_iast X ho (304) (j := 16 + i) dX0_isRefuted_114 rfl (rfl) (by rw [hx]; show nI 16 + nI i = _; rw [nI_add]) (by omega) (by decide) ?_
            refine g_eq (S2 := gk_si (gk_si S 304 (rfC n f v i (S.1 304)).1) 302 (upd (S.1 302) i (rfL n v))) (by rw [si_co (i := 302) (by decide), si_si, rfC_3 (f := f) (i := i) (R := (S.1 304)) hn c44 (fun z => c54 z.1)]; rfl) ?_
            refine g_iconst (v := 1) X dX0_isRefuted_115 rfl ?_
            refine g_zret X hr dX0_isRefuted_116 ?_ (Nat.le_of_ble_eq_true rfl) (Nat.le_of_ble_eq_true rfl) ?_
            · first | rfl | exact nb_bP
            · exact ⟨by rw [rfC_3 (f := f) (i := i) (R := (S.1 304)) hn c44 (fun z => c54 z.1)]; rfl, rfl⟩
        · refine g_aload_n X dX0_isRefuted_57 rfl ?_
          refine g_aload_n X dX0_isRefuted_58 rfl ?_
          refine g_iload_n X dX0_isRefuted_59 rfl ?_
          refine g_callV (C := RX0) (T := TX0) (N := 13) X (k_X0_mayHold ho (S := gk_si (gk_si S 304 _) 302 _) rfl hu) (lw_V q1031 q1033 qs29 q135 q1034) hd_X0_mayHold dX0_isRefuted_60 (rd0 ho) rfl rfl ⟨Nat.le_of_ble_eq_true rfl, Nat.le_of_ble_eq_true rfl⟩ ⟨Nat.le_of_ble_eq_true rfl, Nat.le_of_ble_eq_true rfl⟩ (Nat.le_of_ble_eq_true rfl) ?_
          rintro _ S1 ⟨rfl, hS1⟩
          obtain rfl := hS1.symm
          refine g_ifp_eq (tgt := 77) X dX0_isRefuted_63 rfl (fun c63 => ?_) (fun c63 => ?_)
          · refine g_aload_n X dX0_isRefuted_77 rfl ?_
            refine g_iconst (v := 3) X dX0_isRefuted_78 rfl ?_
            refine g_iload_n X dX0_isRefuted_79 rfl ?_
            refine g_iadd X dX0_isRefuted_80 ?_
            refine g_iald (j := 3 + v % n) X dX0_isRefuted_81 (rdi ho (304) (rfl)) (by show nI 3 + nI _ = _; rw [nI_add]) (by omega) (by decide) ?_
            refine g_top (y := (S.1 304) (3 + v % n)) (by show (upd (S.1 304) 1 (nI (dwN v))) (3 + v % n) = _; exact upd_n (by omega)) ?_
            refine g_if_ne (tgt := 95) X dX0_isRefuted_82 rfl (fun c82 => ?_) (fun c82 => ?_)
            · refine g_eq (S2 := gk_si (gk_si S 304 (if (S.1 304) (3 + v % n) = 0 then upd (upd (S.1 304) 1 (nI (dwN v))) (3 + v % n) ((S.1 304) 0 + 3) else (upd (S.1 304) 1 (nI (dwN v))))) 302 (upd (S.1 302) i (rfL n v))) (by rw [if_neg c82]; rfl) ?_
              refine g_aload_n X dX0_isRefuted_95 rfl ?_
              refine g_bipush (v := 16) X dX0_isRefuted_96 rfl ?_
              refine g_iload_n X dX0_isRefuted_98 rfl ?_
              refine g_iadd X dX0_isRefuted_99 ?_
              refine g_sipush (v := 9999) X dX0_isRefuted_100 rfl ?_
              refine g_aload_n X dX0_isRefuted_103 rfl ?_
              refine g_bipush (v := 16) X dX0_isRefuted_104 rfl ?_
              refine g_iload_n X dX0_isRefuted_106 rfl ?_
              refine g_iadd X dX0_isRefuted_107 ?_
              refine g_iald (j := 16 + i) X dX0_isRefuted_108 (rdi ho (304) (rfl)) (by rw [hx]; show nI 16 + nI i = _; rw [nI_add]) (by omega) (by decide) ?_
              refine g_top (y := (S.1 304) (16 + i)) (by show (if (S.1 304) (3 + v % n) = 0 then upd (upd (S.1 304) 1 (nI (dwN v))) (3 + v % n) ((S.1 304) 0 + 3) else (upd (S.1 304) 1 (nI (dwN v)))) (16 + i) = _; exact rf_rdC hc8) ?_
              refine g_iconst (v := 1) X dX0_isRefuted_109 rfl ?_
              refine g_iadd X dX0_isRefuted_110 ?_
              refine g_mmin X dX0_isRefuted_111 q1048 q477 q149 q478 (Nat.le_of_ble_eq_true rfl) (Nat.le_of_ble_eq_true rfl) ⟨Nat.le_of_ble_eq_true rfl, Nat.le_of_ble_eq_true rfl⟩ ?_
              refine g_iast X ho (304) (j := 16 + i) dX0_isRefuted_114 rfl (rfl) (by rw [hx]; show nI 16 + nI i = _; rw [nI_add]) (by omega) (by decide) ?_
              refine g_eq (S2 := gk_si (gk_si S 304 (rfC n f v i (S.1 304)).1) 302 (upd (S.1 302) i (rfL n v))) (by rw [si_co (i := 302) (by decide), si_si, rfC_3 (f := f) (i := i) (R := (S.1 304)) hn c44 (fun z => c63 z.2)]; rfl) ?_
              refine g_iconst (v := 1) X dX0_isRefuted_115 rfl ?_
              refine g_zret X hr dX0_isRefuted_116 ?_ (Nat.le_of_ble_eq_true rfl) (Nat.le_of_ble_eq_true rfl) ?_
              · first | rfl | exact nb_bP
              · exact ⟨by rw [rfC_3 (f := f) (i := i) (R := (S.1 304)) hn c44 (fun z => c63 z.2)]; rfl, rfl⟩
            · refine g_aload_n X dX0_isRefuted_85 rfl ?_
              refine g_iconst (v := 3) X dX0_isRefuted_86 rfl ?_
              refine g_iload_n X dX0_isRefuted_87 rfl ?_
              refine g_iadd X dX0_isRefuted_88 ?_
              refine g_aload_n X dX0_isRefuted_89 rfl ?_
              refine g_iconst (v := 0) X dX0_isRefuted_90 rfl ?_
              refine g_iald (j := 0) X dX0_isRefuted_91 (rdi ho (304) (rfl)) rfl (by decide) (by decide) ?_
              refine g_iconst (v := 3) X dX0_isRefuted_92 rfl ?_
              refine g_iadd X dX0_isRefuted_93 ?_
              refine g_iast X ho (304) (j := 3 + v % n) dX0_isRefuted_94 rfl (rfl) (by show nI 3 + nI _ = _; rw [nI_add]) (by omega) (by decide) ?_
              refine g_eq (S2 := gk_si (gk_si S 304 (if (S.1 304) (3 + v % n) = 0 then upd (upd (S.1 304) 1 (nI (dwN v))) (3 + v % n) ((S.1 304) 0 + 3) else (upd (S.1 304) 1 (nI (dwN v))))) 302 (upd (S.1 302) i (rfL n v))) (by rw [si_co (i := 302) (by decide), si_si, if_pos c82]; rfl) ?_
              refine g_aload_n X dX0_isRefuted_95 rfl ?_
              refine g_bipush (v := 16) X dX0_isRefuted_96 rfl ?_
              refine g_iload_n X dX0_isRefuted_98 rfl ?_
              refine g_iadd X dX0_isRefuted_99 ?_
              refine g_sipush (v := 9999) X dX0_isRefuted_100 rfl ?_
              refine g_aload_n X dX0_isRefuted_103 rfl ?_
              refine g_bipush (v := 16) X dX0_isRefuted_104 rfl ?_
              refine g_iload_n X dX0_isRefuted_106 rfl ?_
              refine g_iadd X dX0_isRefuted_107 ?_
              refine g_iald (j := 16 + i) X dX0_isRefuted_108 (rdi ho (304) (rfl)) (by rw [hx]; show nI 16 + nI i = _; rw [nI_add]) (by omega) (by decide) ?_
              refine g_top (y := (S.1 304) (16 + i)) (by show (if (S.1 304) (3 + v % n) = 0 then upd (upd (S.1 304) 1 (nI (dwN v))) (3 + v % n) ((S.1 304) 0 + 3) else (upd (S.1 304) 1 (nI (dwN v)))) (16 + i) = _; exact rf_rdC hc8) ?_
              refine g_iconst (v := 1) X dX0_isRefuted_109 rfl ?_
              refine g_iadd X dX0_isRefuted_110 ?_
              refine g_mmin X dX0_isRefuted_111 q1048 q477 q149 q478 (Nat.le_of_ble_eq_true rfl) (Nat.le_of_ble_eq_true rfl) ⟨Nat.le_of_ble_eq_true rfl, Nat.le_of_ble_eq_true rfl⟩ ?_
              refine g_iast X ho (304) (j := 16 + i) dX0_isRefuted_114 rfl (rfl) (by rw [hx]; show nI 16 + nI i = _; rw [nI_add]) (by omega) (by decide) ?_
              refine g_eq (S2 := gk_si (gk_si S 304 (rfC n f v i (S.1 304)).1) 302 (upd (S.1 302) i (rfL n v))) (by rw [si_co (i := 302) (by decide), si_si, rfC_3 (f := f) (i := i) (R := (S.1 304)) hn c44 (fun z => c63 z.2)]; rfl) ?_
              refine g_iconst (v := 1) X dX0_isRefuted_115 rfl ?_
              refine g_zret X hr dX0_isRefuted_116 ?_ (Nat.le_of_ble_eq_true rfl) (Nat.le_of_ble_eq_true rfl) ?_
              · first | rfl | exact nb_bP
              · exact ⟨by rw [rfC_3 (f := f) (i := i) (R := (S.1 304)) hn c44 (fun z => c63 z.2)]; rfl, rfl⟩
          · refine g_aload_n X dX0_isRefuted_66 rfl ?_
            refine g_iconst (v := 2) X dX0_isRefuted_67 rfl ?_
            refine g_dup2_11 X dX0_isRefuted_68 rfl rfl ?_
            refine g_iald (j := 2) X dX0_isRefuted_69 (rdi ho (304) (rfl)) rfl (by decide) (by decide) ?_
            refine g_iconst (v := 1) X dX0_isRefuted_70 rfl ?_
            refine g_iload_n X dX0_isRefuted_71 rfl ?_
            refine g_ishl X dX0_isRefuted_72 ?_
            refine g_ior X dX0_isRefuted_73 ?_
            refine g_iast X ho (304) (j := 2) dX0_isRefuted_74 rfl (rfl) rfl (by decide) (by decide) ?_
            refine g_eq (S2 := gk_si (gk_si S 304 (rfC n f v i (S.1 304)).1) 302 (upd (S.1 302) i (rfL n v))) (by rw [si_co (i := 302) (by decide), si_si, rfC_2 (f := f) (i := i) (R := (S.1 304)) hn c44 ⟨c54, c63⟩]; rfl) ?_
            refine g_iconst (v := 0) X dX0_isRefuted_75 rfl ?_
            refine g_zret X hr dX0_isRefuted_76 ?_ (Nat.le_of_ble_eq_true rfl) (Nat.le_of_ble_eq_true rfl) ?_
            · first | rfl | exact nb_bP
            · exact ⟨by rw [rfC_2 (f := f) (i := i) (R := (S.1 304)) hn c44 ⟨c54, c63⟩]; rfl, rfl⟩
      · refine g_iconst (v := 0) X dX0_isRefuted_47 rfl ?_
        refine g_zret X hr dX0_isRefuted_48 ?_ (Nat.le_of_ble_eq_true rfl) (Nat.le_of_ble_eq_true rfl) ?_
        · first | rfl | exact nb_bP
        · exact ⟨by rw [rfC_1 (f := f) (i := i) (R := (S.1 304)) hn c44]; rfl, by rw [rfC_1 (f := f) (i := i) (R := (S.1 304)) hn c44]; rfl⟩
  · have hn : n = 0 := (nI_eq (b := 0) (by omega) (by decide)).mp c9
    refine g_iconst (v := (-1)) X dX0_isRefuted_12 rfl ?_
    refine g_goto (tgt := 24) X dX0_isRefuted_13 rfl ?_
    refine g_top (y := rfL n v) (by unfold rfL; rw [if_pos hn]) ?_
    refine g_iast X ho (302) (j := i) dX0_isRefuted_24 rfl (rfl) hx hi (by decide) ?_
    refine g_aload_n X dX0_isRefuted_25 rfl ?_
    refine g_get (C := RX0) (T := TX0) (N := 13) X 7 in_X0 dX0_isRefuted_26 q248 (rd0 ho) rfl (Nat.le_of_ble_eq_true rfl) (fun _ h9 => h9) rfl ?_
    refine g_iload_n X dX0_isRefuted_29 rfl ?_
    refine g_iald (j := i) X dX0_isRefuted_30 (rdi ho (302) (rfl)) hx hi (by decide) ?_
    skip
    refine g_top (y := -1) (by rw [si_s, upd_s]; unfold rfL; rw [if_pos hn]) ?_
    refine g_istore_n X dX0_isRefuted_31 (Nat.le_of_ble_eq_true rfl) ?_
    refine g_iload_n X dX0_isRefuted_32 rfl ?_
    refine g_iconst (v := (-1)) X dX0_isRefuted_33 rfl ?_
    refine g_icmp_eq (tgt := 47) X dX0_isRefuted_34 rfl (fun c34 => ?_) (fun c34 => absurd rfl c34)
    refine g_iconst (v := 0) X dX0_isRefuted_47 rfl ?_
    refine g_zret X hr dX0_isRefuted_48 ?_ (Nat.le_of_ble_eq_true rfl) (Nat.le_of_ble_eq_true rfl) ?_
    · rfl
    · exact ⟨by rw [rfC_0 hn]; rfl, by rw [rfC_0 hn, si_id]⟩
