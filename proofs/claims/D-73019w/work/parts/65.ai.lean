def hdC (v : Int64) (lo hi : Int32) : Int32 := (if (if v < hi.toInt64 then v else hi.toInt64) < lo.toInt64 then lo.toInt64 else (if v < hi.toInt64 then v else hi.toInt64)).toInt32
def cuM (v : Int64) (lo hi : Int32) : Int32 := if v < lo.toInt64 then lo else if hi.toInt64 < v then hi else v.toInt32
def clM (v : Int64) : Int64 := if (1000000 : Int64) < v then 1000000 else if v < -1000000 then -1000000 else v
set_option maxHeartbeats 600000 in
theorem k_X0_held {l : Launch} {E : gk_E} (ho : E.2.2.2.2 = true) {S : gk_S} {v : Int64} {lo : Int32} {hi : Int32}   : gk_T l E yX0_held cX0_held 4 ((some .int)) 1 23 0 0 [.long v, .int lo, .int hi] S (fun r S' => r = some (.int (hdC v lo hi)) ∧ S' = S) := by
  refine gk_T.of [some (.long v), none, some (.int lo), some (.int hi)] (by decide) (Nat.le_of_ble_eq_true rfl) (fun _ _ h => h) ?_
  intro p_ e_ R_ s_ m_ args_ below_ meth_ c_ hR X hr hin
  subst hR
  refine g_iload_n X dX0_held_0 rfl ?_
  refine g_i2l X dX0_held_1 rfl ?_
  refine g_iload_n X dX0_held_2 rfl ?_
  refine g_i2l X dX0_held_3 rfl ?_
  refine g_lload_n X dX0_held_4 rfl ?_
  refine g_mminl X dX0_held_5 q1062 q941 q149 q942 (Nat.le_of_ble_eq_true rfl) (Nat.le_of_ble_eq_true rfl) ⟨Nat.le_of_ble_eq_true rfl, Nat.le_of_ble_eq_true rfl⟩ ?_
  refine g_mmaxl X dX0_held_8 q1063 q955 q149 q956 (Nat.le_of_ble_eq_true rfl) (Nat.le_of_ble_eq_true rfl) ⟨Nat.le_of_ble_eq_true rfl, Nat.le_of_ble_eq_true rfl⟩ ?_
  refine g_l2i X dX0_held_11 rfl ?_
  exact g_iret X hr dX0_held_12 (Nat.le_of_ble_eq_true rfl) (Nat.le_of_ble_eq_true rfl) (⟨rfl, rfl⟩)
set_option maxHeartbeats 600000 in
theorem k_X2_cut {l : Launch} {E : gk_E} (ho : E.2.2.2.2 = true) {S : gk_S} {v : Int64} {lo : Int32} {hi : Int32}   : gk_T l E yX2_cut cX2_cut 4 ((some .int)) 0 0 0 0 [.long v, .int lo, .int hi] S (fun r S' => r = some (.int (cuM v lo hi)) ∧ S' = S) := by
  refine gk_T.of [some (.long v), none, some (.int lo), some (.int hi)] (by decide) (Nat.le_of_ble_eq_true rfl) (fun _ _ h => h) ?_
  intro p_ e_ R_ s_ m_ args_ below_ meth_ c_ hR X hr hin
  subst hR
  refine g_lload_n X dX2_cut_0 rfl ?_
  refine g_iload_n X dX2_cut_1 rfl ?_
  refine g_i2l X dX2_cut_2 rfl ?_
  refine g_lcmp X dX2_cut_3 ?_
  refine g_if_ge (tgt := 11) X dX2_cut_4 rfl (fun c4 => ?_) (fun c4 => ?_)
  · refine g_lload_n X dX2_cut_11 rfl ?_
    refine g_iload_n X dX2_cut_12 rfl ?_
    refine g_i2l X dX2_cut_13 rfl ?_
    refine g_lcmp X dX2_cut_14 ?_
    refine g_if_le (tgt := 22) X dX2_cut_15 rfl (fun c15 => ?_) (fun c15 => ?_)
    · refine g_lload_n X dX2_cut_22 rfl ?_
      refine g_l2i X dX2_cut_23 rfl ?_
      exact g_iret X hr dX2_cut_24 (Nat.le_of_ble_eq_true rfl) (Nat.le_of_ble_eq_true rfl) (⟨by unfold cuM; rw [if_neg (fun z => Int64.lt_irrefl (Int64.lt_of_lt_of_le z ((lg_cmp_ge _ _).mp c4))), if_neg (fun z => Int64.lt_irrefl (Int64.lt_of_lt_of_le z ((lg_cmp_le _ _).mp c15)))], rfl⟩)
    · refine g_iload_n X dX2_cut_18 rfl ?_
      refine g_goto (tgt := 24) X dX2_cut_19 rfl ?_
      exact g_iret X hr dX2_cut_24 (Nat.le_of_ble_eq_true rfl) (Nat.le_of_ble_eq_true rfl) (⟨by unfold cuM; rw [if_neg (fun z => Int64.lt_irrefl (Int64.lt_of_lt_of_le z ((lg_cmp_ge _ _).mp c4))), if_pos (Int64.not_le.mp (fun z => c15 ((lg_cmp_le _ _).mpr z)))], rfl⟩)
  · refine g_iload_n X dX2_cut_7 rfl ?_
    refine g_goto (tgt := 24) X dX2_cut_8 rfl ?_
    exact g_iret X hr dX2_cut_24 (Nat.le_of_ble_eq_true rfl) (Nat.le_of_ble_eq_true rfl) (⟨by unfold cuM; rw [if_pos (Int64.not_le.mp (fun z => c4 ((lg_cmp_ge _ _).mpr z)))], rfl⟩)
set_option maxHeartbeats 600000 in
theorem k_X2_clip {l : Launch} {E : gk_E} (ho : E.2.2.2.2 = true) {S : gk_S} {v : Int64}   : gk_T l E yX2_clip cX2_clip 2 ((some .long)) 0 0 0 0 [.long v] S (fun r S' => r = some (.long (clM v)) ∧ S' = S) := by
  refine gk_T.of [some (.long v), none] (by decide) (Nat.le_of_ble_eq_true rfl) (fun _ _ h => h) ?_
  intro p_ e_ R_ s_ m_ args_ below_ meth_ c_ hR X hr hin
  subst hR
  refine g_lload_n X dX2_clip_0 rfl ?_
  refine g_ldc2 X dX2_clip_1 q1720 ?_
  refine g_lcmp X dX2_clip_4 ?_
  refine g_if_le (tgt := 14) X dX2_clip_5 rfl (fun c5 => ?_) (fun c5 => ?_)
  · refine g_lload_n X dX2_clip_14 rfl ?_
    refine g_ldc2 X dX2_clip_15 q1721 ?_
    refine g_lcmp X dX2_clip_18 ?_
    refine g_if_ge (tgt := 28) X dX2_clip_19 rfl (fun c19 => ?_) (fun c19 => ?_)
    · refine g_lload_n X dX2_clip_28 rfl ?_
      exact g_lret X hr dX2_clip_29 (Nat.le_of_ble_eq_true rfl) (Nat.le_of_ble_eq_true rfl) (⟨by unfold clM; rw [if_neg (fun z => Int64.lt_irrefl (Int64.lt_of_lt_of_le z ((lg_cmp_le _ _).mp c5))), if_neg (fun z => Int64.lt_irrefl (Int64.lt_of_lt_of_le z ((lg_cmp_ge _ _).mp c19)))], rfl⟩)
    · refine g_ldc2 X dX2_clip_22 q1721 ?_
      refine g_goto (tgt := 29) X dX2_clip_25 rfl ?_
      exact g_lret X hr dX2_clip_29 (Nat.le_of_ble_eq_true rfl) (Nat.le_of_ble_eq_true rfl) (⟨by unfold clM; rw [if_neg (fun z => Int64.lt_irrefl (Int64.lt_of_lt_of_le z ((lg_cmp_le _ _).mp c5))), if_pos (Int64.not_le.mp (fun z => c19 ((lg_cmp_ge _ _).mpr z)))], rfl⟩)
  · refine g_ldc2 X dX2_clip_8 q1720 ?_
    refine g_goto (tgt := 29) X dX2_clip_11 rfl ?_
    exact g_lret X hr dX2_clip_29 (Nat.le_of_ble_eq_true rfl) (Nat.le_of_ble_eq_true rfl) (⟨by unfold clM; rw [if_pos (Int64.not_le.mp (fun z => c5 ((lg_cmp_le _ _).mpr z)))], rfl⟩)
set_option maxHeartbeats 600000 in
theorem k_X2_gapOf {l : Launch} {E : gk_E} (ho : E.2.2.2.2 = true) {S : gk_S} {v : Int64} {w : Int64}   : gk_T l E yX2_gapOf cX2_gapOf 4 ((some .long)) 0 0 0 0 [.long v, .long w] S (fun r S' => r = some (.long (if v < w then w - v else v - w)) ∧ S' = S) := by
  refine gk_T.of [some (.long v), none, some (.long w), none] (by decide) (Nat.le_of_ble_eq_true rfl) (fun _ _ h => h) ?_
  intro p_ e_ R_ s_ m_ args_ below_ meth_ c_ hR X hr hin
  subst hR
  refine g_lload_n X dX2_gapOf_0 rfl ?_
  refine g_lload_n X dX2_gapOf_1 rfl ?_
  refine g_lcmp X dX2_gapOf_2 ?_
  refine g_if_ge (tgt := 12) X dX2_gapOf_3 rfl (fun c3 => ?_) (fun c3 => ?_)
  · refine g_lload_n X dX2_gapOf_12 rfl ?_
    refine g_lload_n X dX2_gapOf_13 rfl ?_
    refine g_lsub X dX2_gapOf_14 ?_
    exact g_lret X hr dX2_gapOf_15 (Nat.le_of_ble_eq_true rfl) (Nat.le_of_ble_eq_true rfl) (⟨by rw [if_neg (fun z => Int64.lt_irrefl (Int64.lt_of_lt_of_le z ((lg_cmp_ge _ _).mp c3)))], rfl⟩)
  · refine g_lload_n X dX2_gapOf_6 rfl ?_
    refine g_lload_n X dX2_gapOf_7 rfl ?_
    refine g_lsub X dX2_gapOf_8 ?_
    refine g_goto (tgt := 15) X dX2_gapOf_9 rfl ?_
    exact g_lret X hr dX2_gapOf_15 (Nat.le_of_ble_eq_true rfl) (Nat.le_of_ble_eq_true rfl) (⟨by rw [if_pos (Int64.not_le.mp (fun z => c3 ((lg_cmp_ge _ _).mpr z)))], rfl⟩)
set_option maxHeartbeats 600000 in
theorem k_X2_joined {l : Launch} {E : gk_E} (ho : E.2.2.2.2 = true) {S : gk_S} {o : Int32} {x : Int32} {y : Int32}   : gk_T l E yX2_joined cX2_joined 3 ((some .boolean)) 0 0 0 0 [.int o, .int x, .int y] S (fun r S' => r = some (.int (if o = 21 then (if x = 0 ∨ y = 0 then 0 else 1) else if x = 0 ∧ y = 0 then 0 else 1)) ∧ S' = S) := by
  refine gk_T.of [some (.int o), some (.int x), some (.int y)] (by decide) (Nat.le_of_ble_eq_true rfl) (fun _ _ h => h) ?_
  intro p_ e_ R_ s_ m_ args_ below_ meth_ c_ hR X hr hin
  subst hR
  refine g_iload_n X dX2_joined_0 rfl ?_
  refine g_bipush (v := 21) X dX2_joined_1 rfl ?_
  refine g_icmp_ne (tgt := 22) X dX2_joined_3 rfl (fun c3 => ?_) (fun c3 => ?_)
  · refine g_iload_n X dX2_joined_22 rfl ?_
    refine g_if_ne (tgt := 30) X dX2_joined_23 rfl (fun c23 => ?_) (fun c23 => ?_)
    · refine g_iconst (v := 1) X dX2_joined_30 rfl ?_
      refine g_goto (tgt := 35) X dX2_joined_31 rfl ?_
      refine g_zret X hr dX2_joined_35 ?_ (Nat.le_of_ble_eq_true rfl) (Nat.le_of_ble_eq_true rfl) ?_
      · first | rfl | exact nb_bP
      · exact ⟨by rw [if_neg c3, if_neg (fun z => c23 z.1)], rfl⟩
    · refine g_iload_n X dX2_joined_26 rfl ?_
      refine g_if_eq (tgt := 34) X dX2_joined_27 rfl (fun c27 => ?_) (fun c27 => ?_)
      · refine g_iconst (v := 0) X dX2_joined_34 rfl ?_
        refine g_zret X hr dX2_joined_35 ?_ (Nat.le_of_ble_eq_true rfl) (Nat.le_of_ble_eq_true rfl) ?_
        · first | rfl | exact nb_bP
        · exact ⟨by rw [if_neg c3, if_pos ⟨c23, c27⟩], rfl⟩
      · refine g_iconst (v := 1) X dX2_joined_30 rfl ?_
        refine g_goto (tgt := 35) X dX2_joined_31 rfl ?_
        refine g_zret X hr dX2_joined_35 ?_ (Nat.le_of_ble_eq_true rfl) (Nat.le_of_ble_eq_true rfl) ?_
        · first | rfl | exact nb_bP
        · exact ⟨by rw [if_neg c3, if_neg (fun z => c27 z.2)], rfl⟩
  · refine g_iload_n X dX2_joined_6 rfl ?_
    refine g_if_eq (tgt := 18) X dX2_joined_7 rfl (fun c7 => ?_) (fun c7 => ?_)
    · refine g_iconst (v := 0) X dX2_joined_18 rfl ?_
      refine g_goto (tgt := 35) X dX2_joined_19 rfl ?_
      refine g_zret X hr dX2_joined_35 ?_ (Nat.le_of_ble_eq_true rfl) (Nat.le_of_ble_eq_true rfl) ?_
      · first | rfl | exact nb_bP
      · exact ⟨by rw [if_pos c3, if_pos (Or.inl c7)], rfl⟩
    · refine g_iload_n X dX2_joined_10 rfl ?_
      refine g_if_eq (tgt := 18) X dX2_joined_11 rfl (fun c11 => ?_) (fun c11 => ?_)
      · refine g_iconst (v := 0) X dX2_joined_18 rfl ?_
        refine g_goto (tgt := 35) X dX2_joined_19 rfl ?_
        refine g_zret X hr dX2_joined_35 ?_ (Nat.le_of_ble_eq_true rfl) (Nat.le_of_ble_eq_true rfl) ?_
        · first | rfl | exact nb_bP
        · exact ⟨by rw [if_pos c3, if_pos (Or.inr c11)], rfl⟩
      · refine g_iconst (v := 1) X dX2_joined_14 rfl ?_
        refine g_goto (tgt := 35) X dX2_joined_15 rfl ?_
        refine g_zret X hr dX2_joined_35 ?_ (Nat.le_of_ble_eq_true rfl) (Nat.le_of_ble_eq_true rfl) ?_
        · first | rfl | exact nb_bP
        · exact ⟨by rw [if_pos c3, if_neg (fun z => z.elim c7 c11)], rfl⟩
set_option maxHeartbeats 600000 in
theorem k_X2_isAsked {l : Launch} {E : gk_E} (ho : E.2.2.2.2 = true) {S : gk_S} {o : Int32} {v : Int64} {w : Int64}   : gk_T l E yX2_isAsked cX2_isAsked 5 ((some .boolean)) 0 0 0 0 [.int o, .long v, .long w] S (fun r S' => r = some (.int (if o = 10 then bP (v < w) else if o = 11 then bP (v ≤ w) else if o = 12 then bP (w < v) else if o = 13 then bP (w ≤ v) else if o = 14 then bP (v = w) else bP (v ≠ w))) ∧ S' = S) := by
  refine gk_T.of [some (.int o), some (.long v), none, some (.long w), none] (by decide) (Nat.le_of_ble_eq_true rfl) (fun _ _ h => h) ?_
  intro p_ e_ R_ s_ m_ args_ below_ meth_ c_ hR X hr hin
  subst hR
  refine g_iload_n X dX2_isAsked_0 rfl ?_
  refine g_bipush (v := 10) X dX2_isAsked_1 rfl ?_
  refine g_icmp_ne (tgt := 20) X dX2_isAsked_3 rfl (fun c3 => ?_) (fun c3 => ?_)
  · refine g_iload_n X dX2_isAsked_20 rfl ?_
    refine g_bipush (v := 11) X dX2_isAsked_21 rfl ?_
    refine g_icmp_ne (tgt := 40) X dX2_isAsked_23 rfl (fun c23 => ?_) (fun c23 => ?_)
    · refine g_iload_n X dX2_isAsked_40 rfl ?_
      refine g_bipush (v := 12) X dX2_isAsked_41 rfl ?_
      refine g_icmp_ne (tgt := 60) X dX2_isAsked_43 rfl (fun c43 => ?_) (fun c43 => ?_)
      · refine g_iload_n X dX2_isAsked_60 rfl ?_
        refine g_bipush (v := 13) X dX2_isAsked_61 rfl ?_
        refine g_icmp_ne (tgt := 80) X dX2_isAsked_63 rfl (fun c63 => ?_) (fun c63 => ?_)
        · refine g_iload_n X dX2_isAsked_80 rfl ?_
          refine g_bipush (v := 14) X dX2_isAsked_81 rfl ?_
          refine g_icmp_ne (tgt := 100) X dX2_isAsked_83 rfl (fun c83 => ?_) (fun c83 => ?_)
          · refine g_lload_n X dX2_isAsked_100 rfl ?_
            refine g_lload_n X dX2_isAsked_101 rfl ?_
            refine g_lcmp X dX2_isAsked_102 ?_
            refine g_if_eq (tgt := 110) X dX2_isAsked_103 rfl (fun c103 => ?_) (fun c103 => ?_)
            · refine g_iconst (v := 0) X dX2_isAsked_110 rfl ?_
              refine g_zret X hr dX2_isAsked_111 ?_ (Nat.le_of_ble_eq_true rfl) (Nat.le_of_ble_eq_true rfl) ?_
              · first | rfl | exact nb_bP
              · exact ⟨by rw [if_neg c3, if_neg c23, if_neg c43, if_neg c63, if_neg c83, bP_f (fun z => z ((lg_cmp_eq _ _).mp c103))], rfl⟩
            · refine g_iconst (v := 1) X dX2_isAsked_106 rfl ?_
              refine g_goto (tgt := 111) X dX2_isAsked_107 rfl ?_
              refine g_zret X hr dX2_isAsked_111 ?_ (Nat.le_of_ble_eq_true rfl) (Nat.le_of_ble_eq_true rfl) ?_
              · first | rfl | exact nb_bP
              · exact ⟨by rw [if_neg c3, if_neg c23, if_neg c43, if_neg c63, if_neg c83, bP_t (show v ≠ w from fun z => c103 ((lg_cmp_eq _ _).mpr z))], rfl⟩
          · refine g_lload_n X dX2_isAsked_86 rfl ?_
            refine g_lload_n X dX2_isAsked_87 rfl ?_
            refine g_lcmp X dX2_isAsked_88 ?_
            refine g_if_ne (tgt := 96) X dX2_isAsked_89 rfl (fun c89 => ?_) (fun c89 => ?_)
            · refine g_iconst (v := 0) X dX2_isAsked_96 rfl ?_
              refine g_goto (tgt := 111) X dX2_isAsked_97 rfl ?_
              refine g_zret X hr dX2_isAsked_111 ?_ (Nat.le_of_ble_eq_true rfl) (Nat.le_of_ble_eq_true rfl) ?_
              · first | rfl | exact nb_bP
              · exact ⟨by rw [if_neg c3, if_neg c23, if_neg c43, if_neg c63, if_pos c83, bP_f (fun z => c89 ((lg_cmp_eq _ _).mpr z))], rfl⟩
            · refine g_iconst (v := 1) X dX2_isAsked_92 rfl ?_
              refine g_goto (tgt := 111) X dX2_isAsked_93 rfl ?_
              refine g_zret X hr dX2_isAsked_111 ?_ (Nat.le_of_ble_eq_true rfl) (Nat.le_of_ble_eq_true rfl) ?_
              · first | rfl | exact nb_bP
              · exact ⟨by rw [if_neg c3, if_neg c23, if_neg c43, if_neg c63, if_pos c83, bP_t ((lg_cmp_eq _ _).mp (by exact c89))], rfl⟩
        · refine g_lload_n X dX2_isAsked_66 rfl ?_
          refine g_lload_n X dX2_isAsked_67 rfl ?_
          refine g_lcmp X dX2_isAsked_68 ?_
          refine g_if_lt (tgt := 76) X dX2_isAsked_69 rfl (fun c69 => ?_) (fun c69 => ?_)
          · refine g_iconst (v := 0) X dX2_isAsked_76 rfl ?_
            refine g_goto (tgt := 111) X dX2_isAsked_77 rfl ?_
            refine g_zret X hr dX2_isAsked_111 ?_ (Nat.le_of_ble_eq_true rfl) (Nat.le_of_ble_eq_true rfl) ?_
            · first | rfl | exact nb_bP
            · exact ⟨by rw [if_neg c3, if_neg c23, if_neg c43, if_pos c63, bP_f (fun z => Int64.lt_irrefl (Int64.lt_of_lt_of_le ((lg_cmp_lt _ _).mp c69) z))], rfl⟩
          · refine g_iconst (v := 1) X dX2_isAsked_72 rfl ?_
            refine g_goto (tgt := 111) X dX2_isAsked_73 rfl ?_
            refine g_zret X hr dX2_isAsked_111 ?_ (Nat.le_of_ble_eq_true rfl) (Nat.le_of_ble_eq_true rfl) ?_
            · first | rfl | exact nb_bP
            · exact ⟨by rw [if_neg c3, if_neg c23, if_neg c43, if_pos c63, bP_t (Int64.not_lt.mp (fun z => c69 ((lg_cmp_lt _ _).mpr z)))], rfl⟩
      · refine g_lload_n X dX2_isAsked_46 rfl ?_
        refine g_lload_n X dX2_isAsked_47 rfl ?_
        refine g_lcmp X dX2_isAsked_48 ?_
        refine g_if_le (tgt := 56) X dX2_isAsked_49 rfl (fun c49 => ?_) (fun c49 => ?_)
        · refine g_iconst (v := 0) X dX2_isAsked_56 rfl ?_
          refine g_goto (tgt := 111) X dX2_isAsked_57 rfl ?_
          refine g_zret X hr dX2_isAsked_111 ?_ (Nat.le_of_ble_eq_true rfl) (Nat.le_of_ble_eq_true rfl) ?_
          · first | rfl | exact nb_bP
          · exact ⟨by rw [if_neg c3, if_neg c23, if_pos c43, bP_f (fun z => Int64.lt_irrefl (Int64.lt_of_lt_of_le z ((lg_cmp_le _ _).mp c49)))], rfl⟩
        · refine g_iconst (v := 1) X dX2_isAsked_52 rfl ?_
          refine g_goto (tgt := 111) X dX2_isAsked_53 rfl ?_
          refine g_zret X hr dX2_isAsked_111 ?_ (Nat.le_of_ble_eq_true rfl) (Nat.le_of_ble_eq_true rfl) ?_
          · first | rfl | exact nb_bP
          · exact ⟨by rw [if_neg c3, if_neg c23, if_pos c43, bP_t (Int64.not_le.mp (fun z => c49 ((lg_cmp_le _ _).mpr z)))], rfl⟩
    · refine g_lload_n X dX2_isAsked_26 rfl ?_
      refine g_lload_n X dX2_isAsked_27 rfl ?_
      refine g_lcmp X dX2_isAsked_28 ?_
      refine g_if_gt (tgt := 36) X dX2_isAsked_29 rfl (fun c29 => ?_) (fun c29 => ?_)
      · refine g_iconst (v := 0) X dX2_isAsked_36 rfl ?_
        refine g_goto (tgt := 111) X dX2_isAsked_37 rfl ?_
        refine g_zret X hr dX2_isAsked_111 ?_ (Nat.le_of_ble_eq_true rfl) (Nat.le_of_ble_eq_true rfl) ?_
        · first | rfl | exact nb_bP
        · exact ⟨by rw [if_neg c3, if_pos c23, bP_f (fun z => Int64.lt_irrefl (Int64.lt_of_lt_of_le ((lg_cmp_gt _ _).mp c29) z))], rfl⟩
      · refine g_iconst (v := 1) X dX2_isAsked_32 rfl ?_
        refine g_goto (tgt := 111) X dX2_isAsked_33 rfl ?_
        refine g_zret X hr dX2_isAsked_111 ?_ (Nat.le_of_ble_eq_true rfl) (Nat.le_of_ble_eq_true rfl) ?_
        · first | rfl | exact nb_bP
        · exact ⟨by rw [if_neg c3, if_pos c23, bP_t (Int64.not_lt.mp (fun z => c29 ((lg_cmp_gt _ _).mpr z)))], rfl⟩
  · refine g_lload_n X dX2_isAsked_6 rfl ?_
    refine g_lload_n X dX2_isAsked_7 rfl ?_
    refine g_lcmp X dX2_isAsked_8 ?_
    refine g_if_ge (tgt := 16) X dX2_isAsked_9 rfl (fun c9 => ?_) (fun c9 => ?_)
    · refine g_iconst (v := 0) X dX2_isAsked_16 rfl ?_
      refine g_goto (tgt := 111) X dX2_isAsked_17 rfl ?_
      refine g_zret X hr dX2_isAsked_111 ?_ (Nat.le_of_ble_eq_true rfl) (Nat.le_of_ble_eq_true rfl) ?_
      · first | rfl | exact nb_bP
      · exact ⟨by rw [if_pos c3, bP_f (fun z => Int64.lt_irrefl (Int64.lt_of_lt_of_le z ((lg_cmp_ge _ _).mp c9)))], rfl⟩
    · refine g_iconst (v := 1) X dX2_isAsked_12 rfl ?_
      refine g_goto (tgt := 111) X dX2_isAsked_13 rfl ?_
      refine g_zret X hr dX2_isAsked_111 ?_ (Nat.le_of_ble_eq_true rfl) (Nat.le_of_ble_eq_true rfl) ?_
      · first | rfl | exact nb_bP
      · exact ⟨by rw [if_pos c3, bP_t (Int64.not_le.mp (fun z => c9 ((lg_cmp_ge _ _).mpr z)))], rfl⟩
/-- the next number drawn -/
def dwN (v : Nat) : Nat := (v * 613 + 487) % 30859
theorem dwN_lt {v : Nat} : dwN v < 30859 := Nat.mod_lt _ (by decide)
theorem dw_C {v : Nat} (hv : v < 30859) : (nI v * 613 + 487) - (nI v * 613 + 487) / 30859 * 30859 = nI (dwN v) := by
  show (nI v * nI 613 + nI 487) - (nI v * nI 613 + nI 487) / nI 30859 * nI 30859 = _
  rw [pk_mul, nI_add, pk_rem (by omega) (by decide) (by decide)]
  rfl
theorem dw_M {v : Nat} (hv : v < 30859) : (((nI v).toInt64 * 613 + 487) - ((nI v).toInt64 * 613 + 487) / 30859 * 30859).toInt32 = nI (dwN v) := by
  rw [nI_l (by omega)]
  show ((lN v * lN 613 + lN 487) - (lN v * lN 613 + lN 487) / lN 30859 * lN 30859).toInt32 = _
  rw [lN_mul, lN_add, pk_lRem (by omega) (by decide) (by decide), lN_i]
  rfl
theorem dw_r {v m : Nat} (hv : v < 30859) (hm : 0 < m) (hm2 : m < 100000) : nI v - nI v / nI m * nI m = nI (v % m) := pk_rem (by omega) hm (by omega)
set_option maxHeartbeats 600000 in
theorem k_X2_anew {l : Launch} {E : gk_E} (ho : E.2.2.2.2 = true) {S : gk_S}  {v : Nat} (hv : S.1 400 6 = nI v) (hv2 : v < 30859) : gk_T l E yX2_anew cX2_anew 1 (none) 0 0 0 0 [.ref (E.2.2.1 3)] S (fun r S' => r = none ∧ S' = gk_si S 400 (upd (S.1 400) 6 (nI (dwN v)))) := by
  refine gk_T.of [some (.ref (E.2.2.1 3))] (by decide) (Nat.le_of_ble_eq_true rfl) (fun _ _ h => h) ?_
  intro p_ e_ R_ s_ m_ args_ below_ meth_ c_ hR X hr hin
  subst hR
  refine g_aload_n X dX2_anew_0 rfl ?_
  refine g_get (C := RX2) (T := TX2) (N := 35) X 0 in_X2 dX2_anew_1 q1405 (rd3 ho) rfl (Nat.le_of_ble_eq_true rfl) (fun _ h9 => h9) rfl ?_
  refine g_bipush (v := 6) X dX2_anew_4 rfl ?_
  refine g_aload_n X dX2_anew_6 rfl ?_
  refine g_get (C := RX2) (T := TX2) (N := 35) X 0 in_X2 dX2_anew_7 q1405 (rd3 ho) rfl (Nat.le_of_ble_eq_true rfl) (fun _ h9 => h9) rfl ?_
  refine g_bipush (v := 6) X dX2_anew_10 rfl ?_
  refine g_iald (j := 6) X dX2_anew_12 (rdi ho (400) (rfl)) rfl (by decide) (by decide) ?_
  rw [hv]
  refine g_i2l X dX2_anew_13 rfl ?_
  refine g_ldc2 X dX2_anew_14 q1816 ?_
  refine g_lmul X dX2_anew_17 ?_
  refine g_ldc2 X dX2_anew_18 q1817 ?_
  refine g_ladd X dX2_anew_21 ?_
  refine g_ldc2 X dX2_anew_22 q1818 ?_
  refine g_lrem X dX2_anew_25 (by decide) ?_
  refine g_l2i X dX2_anew_26 rfl ?_
  rw [dw_M hv2]
  refine g_iast X ho (400) (j := 6) dX2_anew_27 rfl (rfl) rfl (by decide) (by decide) ?_
  exact g_vret X hr dX2_anew_28 (Nat.le_of_ble_eq_true rfl) (Nat.le_of_ble_eq_true rfl) (⟨rfl, rfl⟩)
set_option maxHeartbeats 600000 in
theorem k_X2_drawnBy {l : Launch} {E : gk_E} (ho : E.2.2.2.2 = true) {S : gk_S} {x : Int32} {v m : Nat} (hv : S.1 400 6 = nI v) (hv2 : v < 30859) (hx : x = nI m) (hm : 0 < m) (hm2 : m < 100000) : gk_T l E yX2_drawnBy cX2_drawnBy 3 ((some .int)) 1 20 0 0 [.ref (E.2.2.1 3), .int x] S (fun r S' => r = some (.int (nI (v % m))) ∧ S' = gk_si S 400 (upd (S.1 400) 6 (nI (dwN v)))) := by
  refine gk_T.of [some (.ref (E.2.2.1 3)), some (.int x), none] (by decide) (Nat.le_of_ble_eq_true rfl) (le_1 rfl (le_1 rfl (le_p le_n))) ?_
  intro p_ e_ R_ s_ m_ args_ below_ meth_ c_ hR X hr hin
  subst hR
  refine g_aload_n X dX2_drawnBy_0 rfl ?_
  refine g_get (C := RX2) (T := TX2) (N := 35) X 0 in_X2 dX2_drawnBy_1 q1405 (rd3 ho) rfl (Nat.le_of_ble_eq_true rfl) (fun _ h9 => h9) rfl ?_
  refine g_bipush (v := 6) X dX2_drawnBy_4 rfl ?_
  refine g_iald (j := 6) X dX2_drawnBy_6 (rdi ho (400) (rfl)) rfl (by decide) (by decide) ?_
  rw [hv]
  refine g_iload_n X dX2_drawnBy_7 rfl ?_
  refine g_irem X dX2_drawnBy_8 (by rw [hx]; exact fun z => absurd ((nI_eq (b := 0) (by omega) (by decide)).mp z) (by omega)) ?_
  rw [hx, dw_r hv2 hm hm2]
  refine g_istore_n X dX2_drawnBy_9 (Nat.le_of_ble_eq_true rfl) ?_
  refine g_aload_n X dX2_drawnBy_10 rfl ?_
  refine g_callV (C := RX2) (T := TX2) (N := 35) X (k_X2_anew ho hv hv2) (lw_V q1812 q1814 qs108 q139 q1815) hd_X2_anew dX2_drawnBy_11 (rd3 ho) rfl rfl ⟨Nat.le_of_ble_eq_true rfl, Nat.le_of_ble_eq_true rfl⟩ ⟨Nat.le_of_ble_eq_true rfl, Nat.le_of_ble_eq_true rfl⟩ (Nat.le_of_ble_eq_true rfl) ?_
  rintro _ S1 ⟨rfl, hS1⟩
  obtain rfl := hS1.symm
  refine g_iload_n X dX2_drawnBy_14 rfl ?_
  exact g_iret X hr dX2_drawnBy_15 (Nat.le_of_ble_eq_true rfl) (Nat.le_of_ble_eq_true rfl) (⟨rfl, rfl⟩)
