set_option maxHeartbeats 2000000 in
theorem k_X0_passes_11 {l : Launch} {E : gk_E} (ho : E.2.2.2.2 = true) {S : gk_S}  {a n nf v nb : Nat} {g : Nat → Int32} {W : Option mnB} {ic : Nat → Nat} (hu : RU E S a n g) (h0 : S.1 10 0 = nI nf) (h1 : nf ≤ 5) (hv : S.1 11 1 = nI v) (hv2 : v < 30859) (hb : S.1 11 21 = nI nb) (hb2 : nb ≤ 20) (hw : wtO E ic S.2.2.2 a W) (hic : icA S ic) : gk_T l E yX0_passes cX0_passes 8 ((some .int)) 252 8051 0 0 [.ref (E.2.2.1 0), .ref (E.2.2.1 11)] S (fun r S' => ∃ F : Nat → Int32, r = some (.int (psB S 11 n nf v g).2.2.2.2.2.2) ∧ S' = gk_p4 S 11 (psR S 11 n nf v nb g W) (psB S 11 n nf v g).2.2.1 (psB S 11 n nf v g).2.2.2.1 F ∧ offC F (S.1 301)) := by
  have hn8 : n ≤ 8 := hu.1
  have hok : ∀ {i : Nat}, i ≤ nf → bOK nf i (clC (S.1 11) 8) (bCs n g (clC (S.1 11) 8, v, S.1 302, S.1 303, 0, nf, 0) i) := fun {i} hi => bCs_ok hn8 h1 ((clC_n (by omega)).trans ((upd_n (by decide)).trans hv)) hv2 hi
  refine gk_T.of [some (.ref (E.2.2.1 0)), some (.ref (E.2.2.1 11)), none, none, none, none, none, none] (by decide) (Nat.le_of_ble_eq_true rfl) (le_1 rfl (le_1 rfl (le_p (le_p (le_p (le_p (le_p (le_p le_n)))))))) ?_
  intro p_ e_ R_ s_ m_ args_ below_ meth_ c_ hR X hr hin
  subst hR
  refine g_iconst (v := 0) X dX0_passes_0 rfl ?_
  refine g_istore_n X dX0_passes_1 (Nat.le_of_ble_eq_true rfl) ?_
  refine g_iconst (v := 0) X dX0_passes_2 rfl ?_
  refine g_istore_n X dX0_passes_3 (Nat.le_of_ble_eq_true rfl) ?_
  refine g_aload_n X dX0_passes_4 rfl ?_
  refine g_callV (C := RX0) (T := TX0) (N := 13) X (k_X0_farmers ho) (lw_V q287 q289 qs0 q135 q290) hd_X0_farmers dX0_passes_5 (rd0 ho) rfl rfl ⟨Nat.le_of_ble_eq_true rfl, Nat.le_of_ble_eq_true rfl⟩ ⟨Nat.le_of_ble_eq_true rfl, Nat.le_of_ble_eq_true rfl⟩ (Nat.le_of_ble_eq_true rfl) ?_
  rintro _ S1 ⟨rfl, hS1⟩
  obtain rfl := hS1.symm
  refine g_top (y := nI nf) h0 ?_
  refine g_istore X dX0_passes_8 (Nat.le_of_ble_eq_true rfl) ?_
  refine g_aload_n X dX0_passes_10 rfl ?_
  refine g_iconst (v := 2) X dX0_passes_11 rfl ?_
  refine g_iconst (v := 0) X dX0_passes_12 rfl ?_
  refine g_iast X ho (11) (j := 2) dX0_passes_13 rfl (rfl) rfl (by decide) (by decide) ?_
  refine g_iconst (v := 0) X dX0_passes_14 rfl ?_
  refine g_istore X dX0_passes_15 (Nat.le_of_ble_eq_true rfl) ?_
  refine g_loop (σ := Nat) (fun (i : Nat) => gk_si S 11 (clC (S.1 11) i)) (fun (i : Nat) => ([some (.ref (E.2.2.1 0)), some (.ref (E.2.2.1 11)), some (.int 0), some (.int 0), some (.int (nI nf)), some (.int (nI i)), none, none] : List (Option Value))) (fun (i : Nat) => i ≤ 8) (fun (i : Nat) => 8 - i) (0) ?_ (rfl) (le_1 rfl (le_1 rfl (le_1 rfl (le_1 rfl (le_1 rfl (le_1 rfl (le_0 (le_0 le_n)))))))) ?_
  · exact Nat.zero_le _
  intro i hI ih
  try dsimp only at hI ih ⊢
  refine g_iload X dX0_passes_17 rfl ?_
  refine g_bipush (v := 8) X dX0_passes_19 rfl ?_
  refine g_icmp_ge (tgt := 49) X dX0_passes_21 rfl (fun c21 => ?_) (fun c21 => ?_)
  · obtain rfl : i = 8 := Nat.le_antisymm hI ((nI_leI (by decide) (by omega)).mp c21)
    refine g_iconst (v := 0) X dX0_passes_49 rfl ?_
    refine g_istore X dX0_passes_50 (Nat.le_of_ble_eq_true rfl) ?_
    refine g_loop (σ := Nat) (fun (i : Nat) => gk_p4 S 11 ((bCs n g (clC (S.1 11) 8, v, S.1 302, S.1 303, 0, nf, 0) i).1) ((bCs n g (clC (S.1 11) 8, v, S.1 302, S.1 303, 0, nf, 0) i).2.2.1) ((bCs n g (clC (S.1 11) 8, v, S.1 302, S.1 303, 0, nf, 0) i).2.2.2.1) (S.1 301)) (fun (i : Nat) => ([some (.ref (E.2.2.1 0)), some (.ref (E.2.2.1 11)), some (.int (bCs n g (clC (S.1 11) 8, v, S.1 302, S.1 303, 0, nf, 0) i).2.2.2.2.2.2), some (.int (nI (bCs n g (clC (S.1 11) 8, v, S.1 302, S.1 303, 0, nf, 0) i).2.2.2.2.1)), some (.int (nI (bCs n g (clC (S.1 11) 8, v, S.1 302, S.1 303, 0, nf, 0) i).2.2.2.2.2.1)), some (.int (nI i)), none, none] : List (Option Value))) (fun (i : Nat) => i ≤ nf) (fun (i : Nat) => nf - i) (0) ?_ ((p4_B rfl rfl)) (le_1 rfl (le_1 rfl (le_1 p4_B2 (le_1 p4_B3 (le_1 p4_B4 (le_1 rfl (le_0 (le_0 le_n)))))))) ?_
    · exact Nat.zero_le _
    intro i hI ih
    try dsimp only at hI ih ⊢
    refine g_iload X dX0_passes_52 rfl ?_
    refine g_aload_n X dX0_passes_54 rfl ?_
    refine g_callV (C := RX0) (T := TX0) (N := 13) X (k_X0_farmers ho) (lw_V q287 q289 qs0 q135 q290) hd_X0_farmers dX0_passes_55 (rd0 ho) rfl rfl ⟨Nat.le_of_ble_eq_true rfl, Nat.le_of_ble_eq_true rfl⟩ ⟨Nat.le_of_ble_eq_true rfl, Nat.le_of_ble_eq_true rfl⟩ (Nat.le_of_ble_eq_true rfl) ?_
    rintro _ S1 ⟨rfl, hS1⟩
    obtain rfl := hS1.symm
    refine g_top (y := nI nf) h0 ?_
    refine g_icmp_ge (tgt := 110) X dX0_passes_58 rfl (fun c58 => ?_) (fun c58 => ?_)
    · obtain rfl : nf = i := Nat.le_antisymm ((nI_leI (by omega) (by omega)).mp c58) hI
      obtain ⟨k1, k2, k3, k4, k5, k6, k7⟩ := hok hI
      have hln : ∀ k, k < nf → ∃ f, f < nf ∧ (psB S 11 n nf v g).2.2.2.1 k = nI f := fun k hk => k5 k (by omega)
      have hc0 : cOK (psB S 11 n nf v g).1 ((psB S 11 n nf v g).1, 31, nb) := ⟨k6.trans ((clC_n (by omega)).trans ((upd_n (by decide)).trans hb)), hb2, rfl, rfl⟩
      refine g_bipush (v := 31) X dX0_passes_110 rfl ?_
      refine g_istore X dX0_passes_112 (Nat.le_of_ble_eq_true rfl) ?_
      refine g_iconst (v := 0) X dX0_passes_114 rfl ?_
      refine g_istore X dX0_passes_115 (Nat.le_of_ble_eq_true rfl) ?_
      refine g_loop (σ := Nat × (Nat → Int32)) (fun (q : Nat × (Nat → Int32)) => match q with | (k, F) => gk_p4 S 11 ((cCs (vlC S 11 n (psB S 11 n nf v g).1 W) (psB S 11 n nf v g).2.2.1 (psB S 11 n nf v g).2.2.2.1 (psB S 11 n nf v g).2.2.2.2.2.2 ((psB S 11 n nf v g).1, 31, nb) k).1) ((psB S 11 n nf v g).2.2.1) ((psB S 11 n nf v g).2.2.2.1) (F)) (fun (q : Nat × (Nat → Int32)) => match q with | (k, F) => ([some (.ref (E.2.2.1 0)), some (.ref (E.2.2.1 11)), some (.int (psB S 11 n nf v g).2.2.2.2.2.2), none, none, some (.int (cCs (vlC S 11 n (psB S 11 n nf v g).1 W) (psB S 11 n nf v g).2.2.1 (psB S 11 n nf v g).2.2.2.1 (psB S 11 n nf v g).2.2.2.2.2.2 ((psB S 11 n nf v g).1, 31, nb) k).2.1), some (.int (nI k)), none] : List (Option Value))) (fun (q : Nat × (Nat → Int32)) => match q with | (k, F) => k ≤ nf ∧ offC F (S.1 301)) (fun (q : Nat × (Nat → Int32)) => match q with | (k, F) => nf - k) ((0, S.1 301)) ?_ (p4_C) (le_1 rfl (le_1 rfl (le_1 rfl (le_0 (le_0 (le_1 p4_C5 (le_1 rfl (le_0 le_n)))))))) ?_
      · exact ⟨Nat.zero_le _, fun _ _ => rfl⟩
      rintro ⟨k, F⟩ hI ih
      try dsimp only at hI ih ⊢
      obtain ⟨hI1, hI2⟩ := hI
      refine g_iload X dX0_passes_117 rfl ?_
      refine g_aload_n X dX0_passes_119 rfl ?_
      refine g_callV (C := RX0) (T := TX0) (N := 13) X (k_X0_farmers ho) (lw_V q287 q289 qs0 q135 q290) hd_X0_farmers dX0_passes_120 (rd0 ho) rfl rfl ⟨Nat.le_of_ble_eq_true rfl, Nat.le_of_ble_eq_true rfl⟩ ⟨Nat.le_of_ble_eq_true rfl, Nat.le_of_ble_eq_true rfl⟩ (Nat.le_of_ble_eq_true rfl) ?_
      rintro _ S1 ⟨rfl, hS1⟩
      obtain rfl := hS1.symm
      refine g_top (y := nI nf) h0 ?_
      refine g_icmp_ge (tgt := 192) X dX0_passes_123 rfl (fun c123 => ?_) (fun c123 => ?_)
      · obtain rfl : nf = k := Nat.le_antisymm ((nI_leI (by omega) (by omega)).mp c123) hI1
        refine g_aload_n X dX0_passes_192 rfl ?_
        refine g_iconst (v := 0) X dX0_passes_193 rfl ?_
        refine g_dup2_11 X dX0_passes_194 rfl rfl ?_
        refine g_iald (j := 0) X dX0_passes_195 (rdi ho (11) (rfl)) rfl (by decide) (by decide) ?_
        refine g_iconst (v := 1) X dX0_passes_196 rfl ?_
        refine g_iadd X dX0_passes_197 ?_
        refine g_iast X ho (11) (j := 0) dX0_passes_198 rfl (rfl) rfl (by decide) (by decide) ?_
        refine g_iload_n X dX0_passes_199 rfl ?_
        exact g_iret X hr dX0_passes_200 (Nat.le_of_ble_eq_true rfl) (Nat.le_of_ble_eq_true rfl) (⟨F, rfl, by rw [p4_q]; rfl, hI2⟩)
      · have hkn : k < nf := (nI_ltI (by omega) (by omega)).mp (Int32.not_le.mp c123)
        obtain ⟨f, hfn, hlf⟩ := hln k hkn
        obtain ⟨o1, o2, o3, o4⟩ := cCs_ok (V := vlC S 11 n (psB S 11 n nf v g).1 W) (sy := (psB S 11 n nf v g).2.2.1) (ln := (psB S 11 n nf v g).2.2.2.1) (lost := (psB S 11 n nf v g).2.2.2.2.2.2) (i := k) hc0 (fun z hz => (hln z (by omega)).imp fun f hf => ⟨by omega, hf.2⟩)
        refine g_aload_n X dX0_passes_126 rfl ?_
        refine g_get (C := RX0) (T := TX0) (N := 13) X 8 in_X0 dX0_passes_127 q249 (rd0 ho) rfl (Nat.le_of_ble_eq_true rfl) (fun _ h9 => h9) rfl ?_
        refine g_iload X dX0_passes_130 rfl ?_
        refine g_iald (j := k) X dX0_passes_132 (rdi ho (303) (rfl)) rfl (by omega) (by decide) ?_
        refine g_top (y := nI f) hlf ?_
        refine g_istore X dX0_passes_133 (Nat.le_of_ble_eq_true rfl) ?_
        refine g_aload_n X dX0_passes_135 rfl ?_
        refine g_bipush (v := 11) X dX0_passes_136 rfl ?_
        refine g_iload X dX0_passes_138 rfl ?_
        refine g_iadd X dX0_passes_140 ?_
        refine g_aload_n X dX0_passes_141 rfl ?_
        refine g_aload_n X dX0_passes_142 rfl ?_
        refine g_iload X dX0_passes_143 rfl ?_
        refine g_iload X dX0_passes_145 rfl ?_
        refine g_callV (C := RX0) (T := TX0) (N := 13) X (k_X0_bestOf_11 ho (S := gk_p4 S 11 ((cCs (vlC S 11 n (psB S 11 n nf v g).1 W) (psB S 11 n nf v g).2.2.1 (psB S 11 n nf v g).2.2.2.1 (psB S 11 n nf v g).2.2.2.2.2.2 ((psB S 11 n nf v g).1, 31, nb) k).1) ((psB S 11 n nf v g).2.2.1) ((psB S 11 n nf v g).2.2.2.1) (F)) hu rfl (by omega) hw hic) (lw_V q1049 q1051 qs33 q135 q1052) hd_X0_bestOf dX0_passes_147 (rd0 ho) rfl rfl ⟨Nat.le_of_ble_eq_true rfl, Nat.le_of_ble_eq_true rfl⟩ ⟨Nat.le_of_ble_eq_true rfl, Nat.le_of_ble_eq_true rfl⟩ (Nat.le_of_ble_eq_true rfl) ?_
        rintro _ S1 ⟨F1, rfl, hS1, hF1⟩
        obtain rfl := hS1.symm
        have hF2 : offC F1 (S.1 301) := fun z hz => (hF1 z hz).trans (hI2 z hz)
        refine g_top (y := cB (vlC S 11 n (psB S 11 n nf v g).1 W) f (cCs (vlC S 11 n (psB S 11 n nf v g).1 W) (psB S 11 n nf v g).2.2.1 (psB S 11 n nf v g).2.2.2.1 (psB S 11 n nf v g).2.2.2.2.2.2 ((psB S 11 n nf v g).1, 31, nb) k).2.1) (bo_c (by decide) (fun z _ => congrArg (wvC W) (nmC_c hI2 o3 o4 rfl rfl (by simp only [gk_p4, si_n (show 20 + f ≠ 301 by omega), si_n (show 20 + f ≠ 302 by omega), si_n (show 20 + f ≠ 303 by omega), si_n (show 20 + f ≠ 11 by omega)])))) ?_
        refine g_iast X ho (11) (j := 11 + f) dX0_passes_150 rfl (rfl) (by show nI 11 + nI f = _; rw [nI_add]) (by omega) (by decide) ?_
        refine g_eq (S2 := gk_p4 S 11 ((upd (cCs (vlC S 11 n (psB S 11 n nf v g).1 W) (psB S 11 n nf v g).2.2.1 (psB S 11 n nf v g).2.2.2.1 (psB S 11 n nf v g).2.2.2.2.2.2 ((psB S 11 n nf v g).1, 31, nb) k).1 (11 + f) (cB (vlC S 11 n (psB S 11 n nf v g).1 W) f (cCs (vlC S 11 n (psB S 11 n nf v g).1 W) (psB S 11 n nf v g).2.2.1 (psB S 11 n nf v g).2.2.2.1 (psB S 11 n nf v g).2.2.2.2.2.2 ((psB S 11 n nf v g).1, 31, nb) k).2.1))) ((psB S 11 n nf v g).2.2.1) ((psB S 11 n nf v g).2.2.2.1) (F1)) (by rw [p4_f (by decide), p4_q]; rfl) ?_
        refine g_iload X dX0_passes_151 rfl ?_
        refine g_iconst (v := 1) X dX0_passes_153 rfl ?_
        refine g_aload_n X dX0_passes_154 rfl ?_
        refine g_bipush (v := 11) X dX0_passes_155 rfl ?_
        refine g_iload X dX0_passes_157 rfl ?_
        refine g_iadd X dX0_passes_159 ?_
        refine g_iald (j := 11 + f) X dX0_passes_160 (rdi ho (11) (rfl)) (by show nI 11 + nI f = _; rw [nI_add]) (by omega) (by decide) ?_
        refine g_top (y := cB (vlC S 11 n (psB S 11 n nf v g).1 W) f (cCs (vlC S 11 n (psB S 11 n nf v g).1 W) (psB S 11 n nf v g).2.2.1 (psB S 11 n nf v g).2.2.2.1 (psB S 11 n nf v g).2.2.2.2.2.2 ((psB S 11 n nf v g).1, 31, nb) k).2.1) upd_s ?_
        refine g_ishl X dX0_passes_161 ?_
        refine g_iconst (v := (-1)) X dX0_passes_162 rfl ?_
        refine g_ixor X dX0_passes_163 ?_
        refine g_iand X dX0_passes_164 ?_
        refine g_istore X dX0_passes_165 (Nat.le_of_ble_eq_true rfl) ?_
        refine g_aload_n X dX0_passes_167 rfl ?_
        refine g_iload X dX0_passes_168 rfl ?_
        refine g_aload_n X dX0_passes_170 rfl ?_
        refine g_get (C := RX0) (T := TX0) (N := 13) X 7 in_X0 dX0_passes_171 q248 (rd0 ho) rfl (Nat.le_of_ble_eq_true rfl) (fun _ h9 => h9) rfl ?_
        refine g_iload X dX0_passes_174 rfl ?_
        refine g_iald (j := f) X dX0_passes_176 (rdi ho (302) (rfl)) rfl (by omega) (by decide) ?_
        refine g_iload_n X dX0_passes_177 rfl ?_
        refine g_iload X dX0_passes_178 rfl ?_
        refine g_callS X (k_X0_has ho) (lw_S q1028 q1029 q135 q1030) hd_X0_has dX0_passes_180 rfl ⟨Nat.le_of_ble_eq_true rfl, Nat.le_of_ble_eq_true rfl⟩ ⟨Nat.le_of_ble_eq_true rfl, Nat.le_of_ble_eq_true rfl⟩ (Nat.le_of_ble_eq_true rfl) ?_
        rintro _ S1 ⟨rfl, hS1⟩
        obtain rfl := hS1.symm
        refine g_callS X (k_X0_writes ho (S := gk_p4 S 11 ((upd (cCs (vlC S 11 n (psB S 11 n nf v g).1 W) (psB S 11 n nf v g).2.2.1 (psB S 11 n nf v g).2.2.2.1 (psB S 11 n nf v g).2.2.2.2.2.2 ((psB S 11 n nf v g).1, 31, nb) k).1 (11 + f) (cB (vlC S 11 n (psB S 11 n nf v g).1 W) f (cCs (vlC S 11 n (psB S 11 n nf v g).1 W) (psB S 11 n nf v g).2.2.1 (psB S 11 n nf v g).2.2.2.1 (psB S 11 n nf v g).2.2.2.2.2.2 ((psB S 11 n nf v g).1, 31, nb) k).2.1))) ((psB S 11 n nf v g).2.2.1) ((psB S 11 n nf v g).2.2.2.1) (F1)) rfl (by show upd _ _ _ 21 = _; rw [upd_n (by omega)]; exact o1) o2 rfl (by omega)) (lw_S q1064 q1065 q135 q1066) hd_X0_writes dX0_passes_183 rfl ⟨Nat.le_of_ble_eq_true rfl, Nat.le_of_ble_eq_true rfl⟩ ⟨Nat.le_of_ble_eq_true rfl, Nat.le_of_ble_eq_true rfl⟩ (Nat.le_of_ble_eq_true rfl) ?_
        rintro _ S1 ⟨rfl, hS1⟩
        obtain rfl := hS1.symm
        refine g_iinc (v := 1) X dX0_passes_186 rfl rfl (Nat.le_of_ble_eq_true rfl) ?_
        refine g_goto (tgt := 117) X dX0_passes_189 rfl ?_
        refine g_eq (S2 := gk_p4 S 11 ((cCs (vlC S 11 n (psB S 11 n nf v g).1 W) (psB S 11 n nf v g).2.2.1 (psB S 11 n nf v g).2.2.2.1 (psB S 11 n nf v g).2.2.2.2.2.2 ((psB S 11 n nf v g).1, 31, nb) (k + 1)).1) ((psB S 11 n nf v g).2.2.1) ((psB S 11 n nf v g).2.2.2.1) (F1)) (by rw [p4_q, cCs_s hlf (by omega)]; rfl) ?_
        refine g_sub (le_1 rfl (le_1 rfl (le_1 rfl (le_0 (le_0 (le_1 (congrArg (fun z => some (Value.int z)) (by rw [cCs_s hlf (by omega)]; rfl)) (le_1 e_1 (le_0 le_n)))))))) (ih (k + 1, F1) ?_ ?_)
        · exact ⟨by omega, hF2⟩
        · show nf - (k + 1) < nf - k; omega
    · have hin : i < nf := (nI_ltI (by omega) (by omega)).mp (Int32.not_le.mp c58)
      obtain ⟨k1, k2, k3, k4, k5, k6, k7⟩ := hok hI
      refine g_aload_n X dX0_passes_61 rfl ?_
      refine g_aload_n X dX0_passes_62 rfl ?_
      refine g_iload X dX0_passes_63 rfl ?_
      refine g_callV (C := RX0) (T := TX0) (N := 13) X (k_X0_isRefuted_11 ho (S := gk_p4 S 11 ((bCs n g (clC (S.1 11) 8, v, S.1 302, S.1 303, 0, nf, 0) i).1) ((bCs n g (clC (S.1 11) 8, v, S.1 302, S.1 303, 0, nf, 0) i).2.2.1) ((bCs n g (clC (S.1 11) 8, v, S.1 302, S.1 303, 0, nf, 0) i).2.2.2.1) (S.1 301)) hu k1 k2 rfl (by omega)) (lw_V q1011 q1013 qs26 q135 q1014) hd_X0_isRefuted dX0_passes_65 (rd0 ho) rfl rfl ⟨Nat.le_of_ble_eq_true rfl, Nat.le_of_ble_eq_true rfl⟩ ⟨Nat.le_of_ble_eq_true rfl, Nat.le_of_ble_eq_true rfl⟩ (Nat.le_of_ble_eq_true rfl) ?_
      rintro _ S1 ⟨rfl, hS1⟩
      obtain rfl := hS1.symm
      refine g_eq (S2 := gk_p4 S 11 ((rfC n g (bCs n g (clC (S.1 11) 8, v, S.1 302, S.1 303, 0, nf, 0) i).2.1 i (bCs n g (clC (S.1 11) 8, v, S.1 302, S.1 303, 0, nf, 0) i).1).1) (upd (bCs n g (clC (S.1 11) 8, v, S.1 302, S.1 303, 0, nf, 0) i).2.2.1 i (rfL n (bCs n g (clC (S.1 11) 8, v, S.1 302, S.1 303, 0, nf, 0) i).2.1)) ((bCs n g (clC (S.1 11) 8, v, S.1 302, S.1 303, 0, nf, 0) i).2.2.2.1) (S.1 301)) (by rw [p4_q, p4_s (by decide)]; rfl) ?_
      refine g_ifp_eq (tgt := 93) X dX0_passes_68 rfl (fun c68 => ?_) (fun c68 => ?_)
      · refine g_aload_n X dX0_passes_93 rfl ?_
        refine g_get (C := RX0) (T := TX0) (N := 13) X 8 in_X0 dX0_passes_94 q249 (rd0 ho) rfl (Nat.le_of_ble_eq_true rfl) (fun _ h9 => h9) rfl ?_
        refine g_iload_n X dX0_passes_97 rfl ?_
        refine g_iload X dX0_passes_98 rfl ?_
        refine g_iast X ho (303) (j := (bCs n g (clC (S.1 11) 8, v, S.1 302, S.1 303, 0, nf, 0) i).2.2.2.2.1) dX0_passes_100 rfl (rfl) rfl (by omega) (by decide) ?_
        refine g_iinc (v := 1) X dX0_passes_101 rfl rfl (Nat.le_of_ble_eq_true rfl) ?_
        refine g_iinc (v := 1) X dX0_passes_104 rfl rfl (Nat.le_of_ble_eq_true rfl) ?_
        refine g_goto (tgt := 52) X dX0_passes_107 rfl ?_
        refine g_eq (S2 := gk_p4 S 11 ((bCs n g (clC (S.1 11) 8, v, S.1 302, S.1 303, 0, nf, 0) (i + 1)).1) ((bCs n g (clC (S.1 11) 8, v, S.1 302, S.1 303, 0, nf, 0) (i + 1)).2.2.1) ((bCs n g (clC (S.1 11) 8, v, S.1 302, S.1 303, 0, nf, 0) (i + 1)).2.2.2.1) (S.1 301)) (by rw [p4_l (by decide), bCs_f c68]; rfl) ?_
        refine g_sub (le_1 rfl (le_1 rfl (le_1 (congrArg (fun z => some (Value.int z)) (by rw [bCs_f c68])) (le_1 (congrArg (fun z => some (Value.int z)) ((nI_1 _).trans (by rw [bCs_f c68]))) (le_1 (congrArg (fun z => some (Value.int z)) (by rw [bCs_f c68])) (le_1 e_1 (le_0 (le_0 le_n)))))))) (ih (i + 1) ?_ ?_)
        · try dsimp only
          omega
        · try dsimp only
          omega
      · have hw1 : (bCs n g (clC (S.1 11) 8, v, S.1 302, S.1 303, 0, nf, 0) i).2.2.2.2.2.1 - 1 + 1 = (bCs n g (clC (S.1 11) 8, v, S.1 302, S.1 303, 0, nf, 0) i).2.2.2.2.2.1 := by omega
        have hwp : nI (bCs n g (clC (S.1 11) 8, v, S.1 302, S.1 303, 0, nf, 0) i).2.2.2.2.2.1 + (-1) = nI ((bCs n g (clC (S.1 11) 8, v, S.1 302, S.1 303, 0, nf, 0) i).2.2.2.2.2.1 - 1) := by
          have e := nI_p1 (n := (bCs n g (clC (S.1 11) 8, v, S.1 302, S.1 303, 0, nf, 0) i).2.2.2.2.2.1 - 1)
          rwa [hw1] at e
        refine g_iinc (v := (-1)) X dX0_passes_71 rfl rfl (Nat.le_of_ble_eq_true rfl) ?_
        refine g_aload_n X dX0_passes_74 rfl ?_
        refine g_get (C := RX0) (T := TX0) (N := 13) X 8 in_X0 dX0_passes_75 q249 (rd0 ho) rfl (Nat.le_of_ble_eq_true rfl) (fun _ h9 => h9) rfl ?_
        refine g_iload X dX0_passes_78 rfl ?_
        refine g_iload X dX0_passes_80 rfl ?_
        refine g_iast X ho (303) (j := (bCs n g (clC (S.1 11) 8, v, S.1 302, S.1 303, 0, nf, 0) i).2.2.2.2.2.1 - 1) dX0_passes_82 rfl (rfl) hwp (by omega) (by decide) ?_
        refine g_iload_n X dX0_passes_83 rfl ?_
        refine g_iconst (v := 1) X dX0_passes_84 rfl ?_
        refine g_iload X dX0_passes_85 rfl ?_
        refine g_ishl X dX0_passes_87 ?_
        refine g_ior X dX0_passes_88 ?_
        refine g_istore_n X dX0_passes_89 (Nat.le_of_ble_eq_true rfl) ?_
        refine g_goto (tgt := 104) X dX0_passes_90 rfl ?_
        refine g_iinc (v := 1) X dX0_passes_104 rfl rfl (Nat.le_of_ble_eq_true rfl) ?_
        refine g_goto (tgt := 52) X dX0_passes_107 rfl ?_
        refine g_eq (S2 := gk_p4 S 11 ((bCs n g (clC (S.1 11) 8, v, S.1 302, S.1 303, 0, nf, 0) (i + 1)).1) ((bCs n g (clC (S.1 11) 8, v, S.1 302, S.1 303, 0, nf, 0) (i + 1)).2.2.1) ((bCs n g (clC (S.1 11) 8, v, S.1 302, S.1 303, 0, nf, 0) (i + 1)).2.2.2.1) (S.1 301)) (by rw [p4_l (by decide), bCs_t c68]; rfl) ?_
        refine g_sub (le_1 rfl (le_1 rfl (le_1 (congrArg (fun z => some (Value.int z)) (by rw [bCs_t c68])) (le_1 (congrArg (fun z => some (Value.int z)) (by rw [bCs_t c68])) (le_1 (congrArg (fun z => some (Value.int z)) ((hwp).trans (by rw [bCs_t c68]))) (le_1 e_1 (le_0 (le_0 le_n)))))))) (ih (i + 1) ?_ ?_)
        · try dsimp only
          omega
        · try dsimp only
          omega
  · have hi8 : i < 8 := (nI_ltI (by omega) (by decide)).mp (Int32.not_le.mp c21)
    refine g_aload_n X dX0_passes_24 rfl ?_
    refine g_iconst (v := 3) X dX0_passes_25 rfl ?_
    refine g_iload X dX0_passes_26 rfl ?_
    refine g_iadd X dX0_passes_28 ?_
    refine g_iald (j := 3 + i) X dX0_passes_29 (rdi ho (11) (rfl)) (by show nI 3 + nI i = _; rw [nI_add]) (by omega) (by decide) ?_
    refine g_aload_n X dX0_passes_30 rfl ?_
    refine g_iconst (v := 0) X dX0_passes_31 rfl ?_
    refine g_iald (j := 0) X dX0_passes_32 (rdi ho (11) (rfl)) rfl (by decide) (by decide) ?_
    refine g_icmp_gt (tgt := 43) X dX0_passes_33 rfl (fun c33 => ?_) (fun c33 => ?_)
    · refine g_iinc (v := 1) X dX0_passes_43 rfl rfl (Nat.le_of_ble_eq_true rfl) ?_
      refine g_goto (tgt := 17) X dX0_passes_46 rfl ?_
      refine g_eq (S2 := gk_si S 11 (clC (S.1 11) (i + 1))) (by rw [clC_f (Int32.not_le.mpr c33)]) ?_
      refine g_sub (le_1 rfl (le_1 rfl (le_1 rfl (le_1 rfl (le_1 rfl (le_1 e_1 (le_0 (le_0 le_n)))))))) (ih (i + 1) ?_ ?_)
      · try dsimp only
        omega
      · try dsimp only
        omega
    · refine g_aload_n X dX0_passes_36 rfl ?_
      refine g_iconst (v := 3) X dX0_passes_37 rfl ?_
      refine g_iload X dX0_passes_38 rfl ?_
      refine g_iadd X dX0_passes_40 ?_
      refine g_iconst (v := 0) X dX0_passes_41 rfl ?_
      refine g_iast X ho (11) (j := 3 + i) dX0_passes_42 rfl (rfl) (by show nI 3 + nI i = _; rw [nI_add]) (by omega) (by decide) ?_
      refine g_iinc (v := 1) X dX0_passes_43 rfl rfl (Nat.le_of_ble_eq_true rfl) ?_
      refine g_goto (tgt := 17) X dX0_passes_46 rfl ?_
      refine g_eq (S2 := gk_si S 11 (clC (S.1 11) (i + 1))) (by rw [si_si, clC_t (Int32.not_lt.mp c33)]; rfl) ?_
      refine g_sub (le_1 rfl (le_1 rfl (le_1 rfl (le_1 rfl (le_1 rfl (le_1 e_1 (le_0 (le_0 le_n)))))))) (ih (i + 1) ?_ ?_)
      · try dsimp only
        omega
      · try dsimp only
        omega
