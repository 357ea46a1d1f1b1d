theorem sl_id {S : gk_S} : gk_sl S 0 (S.2.1 0) = S := by
  unfold gk_sl
  refine Prod.ext rfl (Prod.ext ?_ rfl)
  funext k
  by_cases h : k = 0 <;> simp [va_up, h]
theorem su_0 {S : gk_S} : S = gk_si (gk_sl S 0 (S.2.1 0)) 407 (S.1 407) := by rw [sl_id]; exact si_id.symm
theorem nt_t {x : Int32} {b : Bool} (h : ¬ x = 0) (e : x = bP (b = true)) : b = true := Decidable.byContradiction (fun z => h (e.trans (bP_f z)))
theorem nt_f {x : Int32} {b : Bool} (h : x = 0) (e : x = bP (b = true)) : ¬ b = true := fun z => absurd (h.symm.trans (e.trans (bP_t z))) (by decide)
theorem nt_0 {x : Int32} {b : Bool} (h : ¬ x = 0) (e : x = bP (b = true)) : (0 : Int32) = bP ((!b) = true) := by rw [nt_t h e]; rfl
theorem nt_1 {x : Int32} {b : Bool} (h : x = 0) (e : x = bP (b = true)) : (1 : Int32) = bP ((!b) = true) := by rw [Bool.eq_false_iff.mpr (nt_f h e)]; rfl
theorem ga_rp {A : Nat → Int64} {x y : Int64} {vs : List Int64} (h : rpL A vs) : rpL (vp_updL (vp_updL A vs.length x) vs.length y) (y :: vs) := ⟨if_pos rfl, rpL_up (rpL_up h (Nat.le_refl _)) (Nat.le_refl _)⟩
theorem lwB_up2 {A : Nat → Int64} {n : Nat} {x y : Int64} (h : lwB A) (hx : bdd y = true) : lwB (vp_updL (vp_updL A n x) n y) := by
  unfold lwB vp_updL
  split
  · exact hx
  · exact h
theorem so_l {o n : Nat} (h : o ≤ 22) (hn : n < 100) : nI n < nI o ↔ n < o := nI_ltI (by omega) (by omega)
theorem so_le {o n : Nat} (h : o ≤ 22) (hn : n < 100) : nI n ≤ nI o ↔ n ≤ o := nI_leI (by omega) (by omega)
theorem so_e {o n : Nat} (h : o ≤ 22) (hn : n < 100) : nI o = nI n ↔ o = n := nI_eq (by omega) (by omega)
theorem g_ltop {p : Program} {l : Launch} {e : Env} {R : Room} {s : State} {m : MethodId} {args : Array Value} {below : List Frame} {meth : Method} {c : Code} {Q : State → Prop} {E : gk_E} {nL : Nat} {S : gk_S} {cells slots pc : Nat} {L : List (Option Value)} {rest : List Value} {x y : Int64} (h : x = y) (k : gk_G p l e R s m args below meth c E nL S cells slots Q pc L (.long y :: rest)) : gk_G p l e R s m args below meth c E nL S cells slots Q pc L (.long x :: rest) := by rw [h]; exact k
set_option maxHeartbeats 2000000 in
theorem k_X2_summedUp {l : Launch} {E : gk_E} (ho : E.2.2.2.2 = true) {S : gk_S} {x : Int32} {y : Int32} {v : Nat → Int32} {j k t0 t1 : Nat} {C : List (Nat × Nat)} {fin : mst} (hx : x = nI j) (hj : j < 4) (hy : y = nI k) (hk : k < 24) (h1 : S.1 402 (714 * j + 1 + 4 * k + 1) = nI t0) (h2 : S.1 402 (714 * j + 1 + 4 * k + 2) = nI t1) (hC : t0 + C.length = t1) (ht : t1 ≤ 304) (hcd : cdA (S.1 402) j t0 C) (hrn : rn v C ([], []) = some fin) (hnm : ∀ w, w < 10 → S.1 405 w = nvM v w) (hH : HdA S v) (hlw : lwB (S.2.1 0)) : gk_T l E yX2_summedUp cX2_summedUp 10 ((some .long)) 2 45 0 0 [.ref (E.2.2.1 3), .int x, .int y] S (fun r S' => ∃ (A : Nat → Int64) (B : Nat → Int32), r = some (.long (A 0)) ∧ S' = gk_si (gk_sl S 0 A) 407 B ∧ rpL A fin.1 ∧ rpT B fin.2 ∧ lwB A) := by
  refine gk_T.of [some (.ref (E.2.2.1 3)), some (.int x), some (.int y), none, none, none, none, none, none, none] (by decide) (Nat.le_of_ble_eq_true rfl) (le_1 rfl (le_1 rfl (le_1 rfl (le_p (le_p (le_p (le_p (le_p (le_p (le_p le_n)))))))))) ?_
  intro p_ e_ R_ s_ m_ args_ below_ meth_ c_ hR X hr hin
  subst hR
  refine g_sipush (v := 714) X dX2_summedUp_0 rfl ?_
  refine g_iload_n X dX2_summedUp_3 rfl ?_
  refine g_imul X dX2_summedUp_4 ?_
  refine g_iconst (v := 1) X dX2_summedUp_5 rfl ?_
  refine g_iadd X dX2_summedUp_6 ?_
  refine g_iconst (v := 4) X dX2_summedUp_7 rfl ?_
  refine g_iload_n X dX2_summedUp_8 rfl ?_
  refine g_imul X dX2_summedUp_9 ?_
  refine g_iadd X dX2_summedUp_10 ?_
  refine g_top (y := nI (714 * j + 1 + 4 * k)) (by rw [hx, hy]; show nI 714 * nI j + nI 1 + nI 4 * nI k = _; rw [pk_mul, pk_mul, nI_add, nI_add]) ?_
  refine g_istore_n X dX2_summedUp_11 (Nat.le_of_ble_eq_true rfl) ?_
  refine g_sipush (v := 714) X dX2_summedUp_12 rfl ?_
  refine g_iload_n X dX2_summedUp_15 rfl ?_
  refine g_imul X dX2_summedUp_16 ?_
  refine g_bipush (v := 97) X dX2_summedUp_17 rfl ?_
  refine g_iadd X dX2_summedUp_19 ?_
  refine g_top (y := nI (714 * j + 97)) (by rw [hx]; show nI 714 * nI j + nI 97 = _; rw [pk_mul, nI_add]) ?_
  refine g_istore X dX2_summedUp_20 (Nat.le_of_ble_eq_true rfl) ?_
  refine g_iconst (v := 0) X dX2_summedUp_22 rfl ?_
  refine g_istore X dX2_summedUp_23 (Nat.le_of_ble_eq_true rfl) ?_
  refine g_iconst (v := 0) X dX2_summedUp_25 rfl ?_
  refine g_istore X dX2_summedUp_26 (Nat.le_of_ble_eq_true rfl) ?_
  refine g_aload_n X dX2_summedUp_28 rfl ?_
  refine g_get (C := RX2) (T := TX2) (N := 35) X 2 in_X2 dX2_summedUp_29 q1407 (rd3 ho) rfl (Nat.le_of_ble_eq_true rfl) (fun _ h9 => h9) rfl ?_
  refine g_iload_n X dX2_summedUp_32 rfl ?_
  refine g_iconst (v := 1) X dX2_summedUp_33 rfl ?_
  refine g_iadd X dX2_summedUp_34 ?_
  refine g_iald (j := 714 * j + 1 + 4 * k + 1) X dX2_summedUp_35 (rdi ho (402) (rfl)) (nI_1 _) (by omega) (by decide) ?_
  refine g_top (y := nI t0) h1 ?_
  refine g_istore X dX2_summedUp_36 (Nat.le_of_ble_eq_true rfl) ?_
  refine g_loop (σ := Nat × (List Int64) × (List Bool) × (List (Nat × Nat)) × (Nat → Int64) × (Nat → Int32)) (fun (q : Nat × (List Int64) × (List Bool) × (List (Nat × Nat)) × (Nat → Int64) × (Nat → Int32)) => match q with | (i, vs, ts, D, A, B) => gk_si (gk_sl S 0 A) 407 B) (fun (q : Nat × (List Int64) × (List Bool) × (List (Nat × Nat)) × (Nat → Int64) × (Nat → Int32)) => match q with | (i, vs, ts, D, A, B) => ([some (.ref (E.2.2.1 3)), some (.int x), some (.int y), some (.int (nI (714 * j + 1 + 4 * k))), some (.int (nI (714 * j + 97))), some (.int (nI vs.length)), some (.int (nI ts.length)), some (.int (nI i)), none, none] : List (Option Value))) (fun (q : Nat × (List Int64) × (List Bool) × (List (Nat × Nat)) × (Nat → Int64) × (Nat → Int32)) => match q with | (i, vs, ts, D, A, B) => i + D.length = t1 ∧ vs.length ≤ i ∧ ts.length ≤ i ∧ cdA (S.1 402) j i D ∧ rn v D (vs, ts) = some fin ∧ rpL A vs ∧ rpT B ts ∧ lwB A) (fun (q : Nat × (List Int64) × (List Bool) × (List (Nat × Nat)) × (Nat → Int64) × (Nat → Int32)) => match q with | (i, vs, ts, D, A, B) => t1 - i) ((t0, [], [], C, S.2.1 0, S.1 407)) ?_ (su_0) (le_1 rfl (le_1 rfl (le_1 rfl (le_1 rfl (le_1 rfl (le_1 rfl (le_1 rfl (le_1 rfl (le_0 (le_0 le_n)))))))))) ?_
  · exact ⟨hC, Nat.zero_le _, Nat.zero_le _, hcd, hrn, trivial, trivial, hlw⟩
  rintro ⟨i, vs, ts, D, A, B⟩ hI ih
  try dsimp only at hI ih ⊢
  obtain ⟨hI1, hI2, hI3, hI4, hI5, hI6, hI7, hI8⟩ := hI
  refine g_iload X dX2_summedUp_38 rfl ?_
  refine g_aload_n X dX2_summedUp_40 rfl ?_
  refine g_get (C := RX2) (T := TX2) (N := 35) X 2 in_X2 dX2_summedUp_41 q1407 (rd3 ho) rfl (Nat.le_of_ble_eq_true rfl) (fun _ h9 => h9) rfl ?_
  refine g_iload_n X dX2_summedUp_44 rfl ?_
  refine g_iconst (v := 2) X dX2_summedUp_45 rfl ?_
  refine g_iadd X dX2_summedUp_46 ?_
  refine g_iald (j := 714 * j + 1 + 4 * k + 2) X dX2_summedUp_47 (rdi ho (402) (rfl)) (nI_add _ 2) (by omega) (by decide) ?_
  refine g_top (y := nI t1) h2 ?_
  refine g_icmp_ge (tgt := 417) X dX2_summedUp_48 rfl (fun c48 => ?_) (fun c48 => ?_)
  · have hit : i = t1 := Nat.le_antisymm (by omega) ((nI_leI (by omega) (by omega)).mp c48)
    have hD : D = [] := List.length_eq_zero_iff.mp (by omega)
    subst hD
    obtain rfl : (vs, ts) = fin := Option.some.inj hI5
    refine g_aload_n X dX2_summedUp_417 rfl ?_
    refine g_get (C := RX2) (T := TX2) (N := 35) X 22 in_X2 dX2_summedUp_418 q1427 (rd3 ho) rfl (Nat.le_of_ble_eq_true rfl) (fun _ h9 => h9) rfl ?_
    refine g_iconst (v := 0) X dX2_summedUp_421 rfl ?_
    refine g_lald (j := 0) X dX2_summedUp_422 (rd406 ho) rfl (by decide) (by decide) ?_
    exact g_lret X hr dX2_summedUp_423 (Nat.le_of_ble_eq_true rfl) (Nat.le_of_ble_eq_true rfl) (⟨A, B, rfl, rfl, hI6, hI7, hI8⟩)
  · have hit : i < t1 := (nI_ltI (by omega) (by omega)).mp (Int32.not_le.mp c48)
    obtain ⟨o, w0, D2, hD⟩ : ∃ (o w0 : Nat) (D2 : List (Nat × Nat)), D = (o, w0) :: D2 := by
      cases D with
      | nil => exact absurd hI1 (by simp only [List.length_nil]; omega)
      | cons ow D => exact ⟨ow.1, ow.2, D, rfl⟩
    subst hD
    obtain ⟨ho1, hw1, hcd2⟩ := hI4
    obtain ⟨z0, hst, hrun2⟩ := Option.bind_eq_some_iff.mp hI5
    have ho22 : o ≤ 22 := st_le hst
    dsimp only at ho1 hw1 hst
    have hlen : i + (D2.length + 1) = t1 := hI1
    refine g_aload_n X dX2_summedUp_51 rfl ?_
    refine g_get (C := RX2) (T := TX2) (N := 35) X 2 in_X2 dX2_summedUp_52 q1407 (rd3 ho) rfl (Nat.le_of_ble_eq_true rfl) (fun _ h9 => h9) rfl ?_
    refine g_iload X dX2_summedUp_55 rfl ?_
    refine g_iconst (v := 2) X dX2_summedUp_57 rfl ?_
    refine g_iload X dX2_summedUp_58 rfl ?_
    refine g_imul X dX2_summedUp_60 ?_
    refine g_iadd X dX2_summedUp_61 ?_
    refine g_iald (j := 714 * j + 97 + 2 * i) X dX2_summedUp_62 (rdi ho (402) (rfl)) (by show nI _ + nI 2 * nI i = _; rw [pk_mul, nI_add]) (by omega) (by decide) ?_
    refine g_top (y := nI o) ho1 ?_
    refine g_istore X dX2_summedUp_63 (Nat.le_of_ble_eq_true rfl) ?_
    refine g_aload_n X dX2_summedUp_65 rfl ?_
    refine g_get (C := RX2) (T := TX2) (N := 35) X 2 in_X2 dX2_summedUp_66 q1407 (rd3 ho) rfl (Nat.le_of_ble_eq_true rfl) (fun _ h9 => h9) rfl ?_
    refine g_iload X dX2_summedUp_69 rfl ?_
    refine g_iconst (v := 2) X dX2_summedUp_71 rfl ?_
    refine g_iload X dX2_summedUp_72 rfl ?_
    refine g_imul X dX2_summedUp_74 ?_
    refine g_iadd X dX2_summedUp_75 ?_
    refine g_iconst (v := 1) X dX2_summedUp_76 rfl ?_
    refine g_iadd X dX2_summedUp_77 ?_
    refine g_iald (j := 714 * j + 97 + 2 * i + 1) X dX2_summedUp_78 (rdi ho (402) (rfl)) (by show nI _ + nI 2 * nI i + 1 = _; rw [pk_mul, nI_add, nI_1]) (by omega) (by decide) ?_
    refine g_top (y := nI w0) hw1 ?_
    refine g_istore X dX2_summedUp_79 (Nat.le_of_ble_eq_true rfl) ?_
    refine g_iload X dX2_summedUp_81 rfl ?_
    refine g_iconst (v := 1) X dX2_summedUp_83 rfl ?_
    refine g_icmp_gt (tgt := 119) X dX2_summedUp_84 rfl (fun c84 => ?_) (fun c84 => ?_)
    · refine g_iload X dX2_summedUp_119 rfl ?_
      refine g_iconst (v := 3) X dX2_summedUp_121 rfl ?_
      refine g_icmp_ne (tgt := 160) X dX2_summedUp_122 rfl (fun c122 => ?_) (fun c122 => ?_)
      · have ho1b : ¬ o ≤ 1 := Nat.not_le.mpr ((so_l ho22 (by decide)).mp c84)
        have ho3 : ¬ o = 3 := fun z => c122 (by rw [z]; rfl)
        refine g_iload X dX2_summedUp_160 rfl ?_
        refine g_iconst (v := 5) X dX2_summedUp_162 rfl ?_
        refine g_icmp_eq (tgt := 172) X dX2_summedUp_163 rfl (fun c163 => ?_) (fun c163 => ?_)
        · have ho5 : o = 5 := (so_e ho22 (n := 5) (by decide)).mp c163
          obtain ⟨w, vs2, hq, hz, hbd⟩ := st_5 hst (Or.inl ho5)
          dsimp only at hq
          subst hq
          subst hz
          rw [if_pos ho5] at hbd hrun2
          refine g_aload_n X dX2_summedUp_172 rfl ?_
          refine g_get (C := RX2) (T := TX2) (N := 35) X 22 in_X2 dX2_summedUp_173 q1427 (rd3 ho) rfl (Nat.le_of_ble_eq_true rfl) (fun _ h9 => h9) rfl ?_
          refine g_iload X dX2_summedUp_176 rfl ?_
          refine g_iconst (v := 1) X dX2_summedUp_178 rfl ?_
          refine g_isub X dX2_summedUp_179 ?_
          refine g_iload X dX2_summedUp_180 rfl ?_
          refine g_iconst (v := 5) X dX2_summedUp_182 rfl ?_
          refine g_icmp_ne (tgt := 199) X dX2_summedUp_183 rfl (fun c183 => ?_) (fun c183 => ?_)
          · exact absurd (by rw [ho5]; rfl) c183
          · refine g_aload_n X dX2_summedUp_186 rfl ?_
            refine g_get (C := RX2) (T := TX2) (N := 35) X 22 in_X2 dX2_summedUp_187 q1427 (rd3 ho) rfl (Nat.le_of_ble_eq_true rfl) (fun _ h9 => h9) rfl ?_
            refine g_iload X dX2_summedUp_190 rfl ?_
            refine g_iconst (v := 1) X dX2_summedUp_192 rfl ?_
            refine g_isub X dX2_summedUp_193 ?_
            refine g_lald (j := vs2.length) X dX2_summedUp_194 (rd406 ho) (nI_pred _) (by simp only [List.length_cons] at hI2; omega) (by decide) ?_
            refine g_ltop (y := w) hI6.1 ?_
            refine g_lneg X dX2_summedUp_195 ?_
            refine g_goto (tgt := 212) X dX2_summedUp_196 rfl ?_
            refine g_last X ho (j := vs2.length) dX2_summedUp_212 rfl (nI_pred _) (by simp only [List.length_cons] at hI2; omega) ?_
            refine g_goto (tgt := 411) X dX2_summedUp_213 rfl ?_
            refine g_iinc (v := 1) X dX2_summedUp_411 rfl rfl (Nat.le_of_ble_eq_true rfl) ?_
            refine g_goto (tgt := 38) X dX2_summedUp_414 rfl ?_
            refine g_eq (S2 := gk_si (gk_sl S 0 ((vp_updL A vs2.length (-w)))) 407 (B)) (sl_nf) ?_
            refine g_sub (le_1 rfl (le_1 rfl (le_1 rfl (le_1 rfl (le_1 rfl (le_1 rfl (le_1 rfl (le_1 e_1 (le_0 (le_0 le_n)))))))))) (ih (i + 1, (-w :: vs2), ts, D2, (vp_updL A vs2.length (-w)), B) ?_ ?_)
            · try dsimp only
              exact ⟨by omega, by have := hI2; simp only [List.length_cons] at *; omega, by have := hI3; simp only [List.length_cons] at *; omega, hcd2, hrun2, rpL_ps hI6.2, hI7, lwB_up hI8 hbd⟩
            · show t1 - (i + 1) < t1 - i; omega
        · refine g_iload X dX2_summedUp_166 rfl ?_
          refine g_iconst (v := 2) X dX2_summedUp_168 rfl ?_
          refine g_icmp_ne (tgt := 216) X dX2_summedUp_169 rfl (fun c169 => ?_) (fun c169 => ?_)
          · have ho5 : ¬ o = 5 := fun z => c163 (by rw [z]; rfl)
            have ho2 : ¬ o = 2 := fun z => c169 (by rw [z]; rfl)
            refine g_iload X dX2_summedUp_216 rfl ?_
            refine g_bipush (v := 10) X dX2_summedUp_218 rfl ?_
            refine g_icmp_ge (tgt := 298) X dX2_summedUp_220 rfl (fun c220 => ?_) (fun c220 => ?_)
            · have ho10 : ¬ o < 10 := Nat.not_lt.mpr ((so_le ho22 (by decide)).mp c220)
              refine g_iload X dX2_summedUp_298 rfl ?_
              refine g_bipush (v := 20) X dX2_summedUp_300 rfl ?_
              refine g_icmp_ge (tgt := 342) X dX2_summedUp_302 rfl (fun c302 => ?_) (fun c302 => ?_)
              · have ho20 : ¬ o < 20 := Nat.not_lt.mpr ((so_le ho22 (by decide)).mp c302)
                refine g_iload X dX2_summedUp_342 rfl ?_
                refine g_bipush (v := 20) X dX2_summedUp_344 rfl ?_
                refine g_icmp_ne (tgt := 378) X dX2_summedUp_346 rfl (fun c346 => ?_) (fun c346 => ?_)
                · have ho20b : ¬ o = 20 := fun z => c346 (by rw [z]; rfl)
                  obtain ⟨b2, b, ts2, hq, hz⟩ := st_22 hst ho20 ho20b
                  dsimp only at hq
                  subst hq
                  subst hz
                  refine g_iinc (v := (-1)) X dX2_summedUp_378 rfl rfl (Nat.le_of_ble_eq_true rfl) ?_
                  refine g_aload_n X dX2_summedUp_381 rfl ?_
                  refine g_get (C := RX2) (T := TX2) (N := 35) X 23 in_X2 dX2_summedUp_382 q1428 (rd3 ho) rfl (Nat.le_of_ble_eq_true rfl) (fun _ h9 => h9) rfl ?_
                  refine g_iload X dX2_summedUp_385 rfl ?_
                  refine g_iconst (v := 1) X dX2_summedUp_387 rfl ?_
                  refine g_isub X dX2_summedUp_388 ?_
                  refine g_iload X dX2_summedUp_389 rfl ?_
                  refine g_aload_n X dX2_summedUp_391 rfl ?_
                  refine g_get (C := RX2) (T := TX2) (N := 35) X 23 in_X2 dX2_summedUp_392 q1428 (rd3 ho) rfl (Nat.le_of_ble_eq_true rfl) (fun _ h9 => h9) rfl ?_
                  refine g_iload X dX2_summedUp_395 rfl ?_
                  refine g_iconst (v := 1) X dX2_summedUp_397 rfl ?_
                  refine g_isub X dX2_summedUp_398 ?_
                  refine g_zald (j := ts2.length) X dX2_summedUp_399 (rdi ho (407) (rfl)) nI_p2 (by simp only [List.length_cons] at hI3; omega) (by decide) ?_
                  refine g_top (y := bP (b2 = true)) hI7.2.1 ?_
                  refine g_aload_n X dX2_summedUp_400 rfl ?_
                  refine g_get (C := RX2) (T := TX2) (N := 35) X 23 in_X2 dX2_summedUp_401 q1428 (rd3 ho) rfl (Nat.le_of_ble_eq_true rfl) (fun _ h9 => h9) rfl ?_
                  refine g_iload X dX2_summedUp_404 rfl ?_
                  refine g_zald (j := ts2.length + 1) X dX2_summedUp_406 (rdi ho (407) (rfl)) nI_p1 (by simp only [List.length_cons] at hI3; omega) (by decide) ?_
                  refine g_top (y := bP (b = true)) hI7.1 ?_
                  refine g_callS X (k_X2_joined ho) (lw_S q1728 q1729 q139 q1730) hd_X2_joined dX2_summedUp_407 rfl ⟨Nat.le_of_ble_eq_true rfl, Nat.le_of_ble_eq_true rfl⟩ ⟨Nat.le_of_ble_eq_true rfl, Nat.le_of_ble_eq_true rfl⟩ (Nat.le_of_ble_eq_true rfl) ?_
                  rintro _ S1 ⟨rfl, hS1⟩
                  obtain rfl := hS1.symm
                  refine g_top (y := bP (jnB (nI o) b2 b = true)) jn_v ?_
                  refine g_zast X ho (407) (j := ts2.length) dX2_summedUp_410 rfl (rfl) nI_p2 (by simp only [List.length_cons] at hI3; omega) (by decide) ?_
                  refine g_iinc (v := 1) X dX2_summedUp_411 rfl rfl (Nat.le_of_ble_eq_true rfl) ?_
                  refine g_goto (tgt := 38) X dX2_summedUp_414 rfl ?_
                  refine g_eq (S2 := gk_si (gk_sl S 0 (A)) 407 ((upd B ts2.length (vp_nar .boolean (bP (jnB (nI o) b2 b = true)))))) (by rw [si_si]; rfl) ?_
                  refine g_sub (le_1 rfl (le_1 rfl (le_1 rfl (le_1 rfl (le_1 rfl (le_1 rfl (le_1 (congrArg (fun z => some (Value.int z)) (nI_p1)) (le_1 e_1 (le_0 (le_0 le_n)))))))))) (ih (i + 1, vs, (jnB (nI o) b2 b :: ts2), D2, A, (upd B ts2.length (vp_nar .boolean (bP (jnB (nI o) b2 b = true))))) ?_ ?_)
                  · try dsimp only
                    exact ⟨by omega, by have := hI2; simp only [List.length_cons] at *; omega, by have := hI3; simp only [List.length_cons] at *; omega, hcd2, hrun2, hI6, rpT_ps hI7.2.2 rfl, hI8⟩
                  · show t1 - (i + 1) < t1 - i; omega
                · have ho20b : o = 20 := (so_e ho22 (n := 20) (by decide)).mp c346
                  obtain ⟨b, ts2, hq, hz⟩ := st_20 hst ho20b
                  dsimp only at hq
                  subst hq
                  subst hz
                  refine g_aload_n X dX2_summedUp_349 rfl ?_
                  refine g_get (C := RX2) (T := TX2) (N := 35) X 23 in_X2 dX2_summedUp_350 q1428 (rd3 ho) rfl (Nat.le_of_ble_eq_true rfl) (fun _ h9 => h9) rfl ?_
                  refine g_iload X dX2_summedUp_353 rfl ?_
                  refine g_iconst (v := 1) X dX2_summedUp_355 rfl ?_
                  refine g_isub X dX2_summedUp_356 ?_
                  refine g_aload_n X dX2_summedUp_357 rfl ?_
                  refine g_get (C := RX2) (T := TX2) (N := 35) X 23 in_X2 dX2_summedUp_358 q1428 (rd3 ho) rfl (Nat.le_of_ble_eq_true rfl) (fun _ h9 => h9) rfl ?_
                  refine g_iload X dX2_summedUp_361 rfl ?_
                  refine g_iconst (v := 1) X dX2_summedUp_363 rfl ?_
                  refine g_isub X dX2_summedUp_364 ?_
                  refine g_zald (j := ts2.length) X dX2_summedUp_365 (rdi ho (407) (rfl)) (nI_pred _) (by simp only [List.length_cons] at hI3; omega) (by decide) ?_
                  refine g_if_ne (tgt := 373) X dX2_summedUp_366 rfl (fun c366 => ?_) (fun c366 => ?_)
                  · refine g_iconst (v := 0) X dX2_summedUp_373 rfl ?_
                    refine g_zast X ho (407) (j := ts2.length) dX2_summedUp_374 rfl (rfl) (nI_pred _) (by simp only [List.length_cons] at hI3; omega) (by decide) ?_
                    refine g_goto (tgt := 411) X dX2_summedUp_375 rfl ?_
                    refine g_iinc (v := 1) X dX2_summedUp_411 rfl rfl (Nat.le_of_ble_eq_true rfl) ?_
                    refine g_goto (tgt := 38) X dX2_summedUp_414 rfl ?_
                    refine g_eq (S2 := gk_si (gk_sl S 0 (A)) 407 ((upd B ts2.length (vp_nar .boolean 0)))) (by rw [si_si]; rfl) ?_
                    refine g_sub (le_1 rfl (le_1 rfl (le_1 rfl (le_1 rfl (le_1 rfl (le_1 rfl (le_1 rfl (le_1 e_1 (le_0 (le_0 le_n)))))))))) (ih (i + 1, vs, ((!b) :: ts2), D2, A, (upd B ts2.length (vp_nar .boolean 0))) ?_ ?_)
                    · try dsimp only
                      exact ⟨by omega, by have := hI2; simp only [List.length_cons] at *; omega, by have := hI3; simp only [List.length_cons] at *; omega, hcd2, hrun2, hI6, rpT_ps hI7.2 (nt_0 c366 hI7.1), hI8⟩
                    · show t1 - (i + 1) < t1 - i; omega
                  · refine g_iconst (v := 1) X dX2_summedUp_369 rfl ?_
                    refine g_goto (tgt := 374) X dX2_summedUp_370 rfl ?_
                    refine g_zast X ho (407) (j := ts2.length) dX2_summedUp_374 rfl (rfl) (nI_pred _) (by simp only [List.length_cons] at hI3; omega) (by decide) ?_
                    refine g_goto (tgt := 411) X dX2_summedUp_375 rfl ?_
                    refine g_iinc (v := 1) X dX2_summedUp_411 rfl rfl (Nat.le_of_ble_eq_true rfl) ?_
                    refine g_goto (tgt := 38) X dX2_summedUp_414 rfl ?_
                    refine g_eq (S2 := gk_si (gk_sl S 0 (A)) 407 ((upd B ts2.length (vp_nar .boolean 1)))) (by rw [si_si]; rfl) ?_
                    refine g_sub (le_1 rfl (le_1 rfl (le_1 rfl (le_1 rfl (le_1 rfl (le_1 rfl (le_1 rfl (le_1 e_1 (le_0 (le_0 le_n)))))))))) (ih (i + 1, vs, ((!b) :: ts2), D2, A, (upd B ts2.length (vp_nar .boolean 1))) ?_ ?_)
                    · try dsimp only
                      exact ⟨by omega, by have := hI2; simp only [List.length_cons] at *; omega, by have := hI3; simp only [List.length_cons] at *; omega, hcd2, hrun2, hI6, rpT_ps hI7.2 (nt_1 c366 hI7.1), hI8⟩
                    · show t1 - (i + 1) < t1 - i; omega
              · have ho20 : o < 20 := Nat.not_le.mp (fun z => c302 ((so_le ho22 (by decide)).mpr z))
                obtain ⟨w, z, vs2, hq, hz⟩ := st_15 hst ho10 ho20
                dsimp only at hq
                subst hq
                subst hz
                refine g_iinc (v := (-2)) X dX2_summedUp_305 rfl rfl (Nat.le_of_ble_eq_true rfl) ?_
                refine g_aload_n X dX2_summedUp_308 rfl ?_
                refine g_get (C := RX2) (T := TX2) (N := 35) X 23 in_X2 dX2_summedUp_309 q1428 (rd3 ho) rfl (Nat.le_of_ble_eq_true rfl) (fun _ h9 => h9) rfl ?_
                refine g_iload X dX2_summedUp_312 rfl ?_
                refine g_iload X dX2_summedUp_314 rfl ?_
                refine g_aload_n X dX2_summedUp_316 rfl ?_
                refine g_get (C := RX2) (T := TX2) (N := 35) X 22 in_X2 dX2_summedUp_317 q1427 (rd3 ho) rfl (Nat.le_of_ble_eq_true rfl) (fun _ h9 => h9) rfl ?_
                refine g_iload X dX2_summedUp_320 rfl ?_
                refine g_lald (j := vs2.length) X dX2_summedUp_322 (rd406 ho) nI_p3 (by simp only [List.length_cons] at hI2; omega) (by decide) ?_
                refine g_ltop (y := w) hI6.2.1 ?_
                refine g_aload_n X dX2_summedUp_323 rfl ?_
                refine g_get (C := RX2) (T := TX2) (N := 35) X 22 in_X2 dX2_summedUp_324 q1427 (rd3 ho) rfl (Nat.le_of_ble_eq_true rfl) (fun _ h9 => h9) rfl ?_
                refine g_iload X dX2_summedUp_327 rfl ?_
                refine g_iconst (v := 1) X dX2_summedUp_329 rfl ?_
                refine g_iadd X dX2_summedUp_330 ?_
                refine g_lald (j := vs2.length + 1) X dX2_summedUp_331 (rd406 ho) (by show nI (vs2.length + 2) + -2 + 1 = _; rw [nI_p3, nI_1]) (by simp only [List.length_cons] at hI2; omega) (by decide) ?_
                refine g_ltop (y := z) hI6.1 ?_
                refine g_callS X (k_X2_isAsked ho) (lw_S q1725 q1726 q139 q1727) hd_X2_isAsked dX2_summedUp_332 rfl ⟨Nat.le_of_ble_eq_true rfl, Nat.le_of_ble_eq_true rfl⟩ ⟨Nat.le_of_ble_eq_true rfl, Nat.le_of_ble_eq_true rfl⟩ (Nat.le_of_ble_eq_true rfl) ?_
                rintro _ S1 ⟨rfl, hS1⟩
                obtain rfl := hS1.symm
                refine g_top (y := bP (akB (nI o) w z = true)) ak_v ?_
                refine g_zast X ho (407) (j := ts.length) dX2_summedUp_335 rfl (rfl) rfl (by omega) (by decide) ?_
                refine g_iinc (v := 1) X dX2_summedUp_336 rfl rfl (Nat.le_of_ble_eq_true rfl) ?_
                refine g_goto (tgt := 411) X dX2_summedUp_339 rfl ?_
                refine g_iinc (v := 1) X dX2_summedUp_411 rfl rfl (Nat.le_of_ble_eq_true rfl) ?_
                refine g_goto (tgt := 38) X dX2_summedUp_414 rfl ?_
                refine g_eq (S2 := gk_si (gk_sl S 0 (A)) 407 ((upd B ts.length (vp_nar .boolean (bP (akB (nI o) w z = true)))))) (by rw [si_si]; rfl) ?_
                refine g_sub (le_1 rfl (le_1 rfl (le_1 rfl (le_1 rfl (le_1 rfl (le_1 (congrArg (fun z => some (Value.int z)) (nI_p3)) (le_1 e_1 (le_1 e_1 (le_0 (le_0 le_n)))))))))) (ih (i + 1, vs2, (akB (nI o) w z :: ts), D2, A, (upd B ts.length (vp_nar .boolean (bP (akB (nI o) w z = true))))) ?_ ?_)
                · try dsimp only
                  exact ⟨by omega, by have := hI2; simp only [List.length_cons] at *; omega, by have := hI3; simp only [List.length_cons] at *; omega, hcd2, hrun2, hI6.2.2, rpT_ps hI7 rfl, hI8⟩
                · show t1 - (i + 1) < t1 - i; omega
            · have ho10 : o < 10 := Nat.not_le.mp (fun z => c220 ((so_le ho22 (by decide)).mpr z))
              obtain ⟨w, z, vs2, hq, hz, hbd⟩ := st_9 hst ho1b ho3 ho5 ho2 ho10
              dsimp only at hq
              subst hq
              subst hz
              refine g_iinc (v := (-1)) X dX2_summedUp_223 rfl rfl (Nat.le_of_ble_eq_true rfl) ?_
              refine g_aload_n X dX2_summedUp_226 rfl ?_
              refine g_get (C := RX2) (T := TX2) (N := 35) X 22 in_X2 dX2_summedUp_227 q1427 (rd3 ho) rfl (Nat.le_of_ble_eq_true rfl) (fun _ h9 => h9) rfl ?_
              refine g_iload X dX2_summedUp_230 rfl ?_
              refine g_iconst (v := 1) X dX2_summedUp_232 rfl ?_
              refine g_isub X dX2_summedUp_233 ?_
              refine g_iload X dX2_summedUp_234 rfl ?_
              refine g_iconst (v := 4) X dX2_summedUp_236 rfl ?_
              refine g_icmp_ne (tgt := 245) X dX2_summedUp_237 rfl (fun c237 => ?_) (fun c237 => ?_)
              · have ho4 : ¬ o = 4 := fun z => c237 (by rw [z]; rfl)
                refine g_iload X dX2_summedUp_245 rfl ?_
                refine g_aload_n X dX2_summedUp_247 rfl ?_
                refine g_get (C := RX2) (T := TX2) (N := 35) X 22 in_X2 dX2_summedUp_248 q1427 (rd3 ho) rfl (Nat.le_of_ble_eq_true rfl) (fun _ h9 => h9) rfl ?_
                refine g_iload X dX2_summedUp_251 rfl ?_
                refine g_iconst (v := 1) X dX2_summedUp_253 rfl ?_
                refine g_isub X dX2_summedUp_254 ?_
                refine g_lald (j := vs2.length) X dX2_summedUp_255 (rd406 ho) nI_p2 (by simp only [List.length_cons] at hI2; omega) (by decide) ?_
                refine g_ltop (y := w) hI6.2.1 ?_
                refine g_aload_n X dX2_summedUp_256 rfl ?_
                refine g_get (C := RX2) (T := TX2) (N := 35) X 22 in_X2 dX2_summedUp_257 q1427 (rd3 ho) rfl (Nat.le_of_ble_eq_true rfl) (fun _ h9 => h9) rfl ?_
                refine g_iload X dX2_summedUp_260 rfl ?_
                refine g_lald (j := vs2.length + 1) X dX2_summedUp_262 (rd406 ho) nI_p1 (by simp only [List.length_cons] at hI2; omega) (by decide) ?_
                refine g_ltop (y := z) hI6.1 ?_
                refine g_callS X (k_X2_two ho) (lw_S q1714 q1715 q139 q1716) hd_X2_two dX2_summedUp_263 rfl ⟨Nat.le_of_ble_eq_true rfl, Nat.le_of_ble_eq_true rfl⟩ ⟨Nat.le_of_ble_eq_true rfl, Nat.le_of_ble_eq_true rfl⟩ (Nat.le_of_ble_eq_true rfl) ?_
                rintro _ S1 ⟨rfl, hS1⟩
                obtain rfl := hS1.symm
                refine g_last X ho (j := vs2.length) dX2_summedUp_266 rfl nI_p2 (by simp only [List.length_cons] at hI2; omega) ?_
                refine g_iload X dX2_summedUp_267 rfl ?_
                refine g_iconst (v := 4) X dX2_summedUp_269 rfl ?_
                refine g_icmp_ne (tgt := 411) X dX2_summedUp_270 rfl (fun c270 => ?_) (fun c270 => ?_)
                · refine g_iinc (v := 1) X dX2_summedUp_411 rfl rfl (Nat.le_of_ble_eq_true rfl) ?_
                  refine g_goto (tgt := 38) X dX2_summedUp_414 rfl ?_
                  refine g_eq (S2 := gk_si (gk_sl S 0 ((vp_updL A vs2.length (biM o w z)))) 407 (B)) ((by rw [show biM o w z = twM (nI o) w z from if_neg ho4]; exact sl_nf)) ?_
                  refine g_sub (le_1 rfl (le_1 rfl (le_1 rfl (le_1 rfl (le_1 rfl (le_1 (congrArg (fun z => some (Value.int z)) (nI_p1)) (le_1 rfl (le_1 e_1 (le_0 (le_0 le_n)))))))))) (ih (i + 1, (biM o w z :: vs2), ts, D2, (vp_updL A vs2.length (biM o w z)), B) ?_ ?_)
                  · try dsimp only
                    exact ⟨by omega, by have := hI2; simp only [List.length_cons] at *; omega, by have := hI3; simp only [List.length_cons] at *; omega, hcd2, hrun2, rpL_ps hI6.2.2, hI7, lwB_up hI8 hbd⟩
                  · show t1 - (i + 1) < t1 - i; omega
                · exact absurd ((so_e ho22 (n := 4) (by decide)).mp c270) ho4
              · have ho4 : o = 4 := (so_e ho22 (n := 4) (by decide)).mp c237
                refine g_bipush (v := 7) X dX2_summedUp_240 rfl ?_
                refine g_goto (tgt := 247) X dX2_summedUp_242 rfl ?_
                refine g_aload_n X dX2_summedUp_247 rfl ?_
                refine g_get (C := RX2) (T := TX2) (N := 35) X 22 in_X2 dX2_summedUp_248 q1427 (rd3 ho) rfl (Nat.le_of_ble_eq_true rfl) (fun _ h9 => h9) rfl ?_
                refine g_iload X dX2_summedUp_251 rfl ?_
                refine g_iconst (v := 1) X dX2_summedUp_253 rfl ?_
                refine g_isub X dX2_summedUp_254 ?_
                refine g_lald (j := vs2.length) X dX2_summedUp_255 (rd406 ho) nI_p2 (by simp only [List.length_cons] at hI2; omega) (by decide) ?_
                refine g_ltop (y := w) hI6.2.1 ?_
                refine g_aload_n X dX2_summedUp_256 rfl ?_
                refine g_get (C := RX2) (T := TX2) (N := 35) X 22 in_X2 dX2_summedUp_257 q1427 (rd3 ho) rfl (Nat.le_of_ble_eq_true rfl) (fun _ h9 => h9) rfl ?_
                refine g_iload X dX2_summedUp_260 rfl ?_
                refine g_lald (j := vs2.length + 1) X dX2_summedUp_262 (rd406 ho) nI_p1 (by simp only [List.length_cons] at hI2; omega) (by decide) ?_
                refine g_ltop (y := z) hI6.1 ?_
                refine g_callS X (k_X2_two ho) (lw_S q1714 q1715 q139 q1716) hd_X2_two dX2_summedUp_263 rfl ⟨Nat.le_of_ble_eq_true rfl, Nat.le_of_ble_eq_true rfl⟩ ⟨Nat.le_of_ble_eq_true rfl, Nat.le_of_ble_eq_true rfl⟩ (Nat.le_of_ble_eq_true rfl) ?_
                rintro _ S1 ⟨rfl, hS1⟩
                obtain rfl := hS1.symm
                refine g_last X ho (j := vs2.length) dX2_summedUp_266 rfl nI_p2 (by simp only [List.length_cons] at hI2; omega) ?_
                refine g_iload X dX2_summedUp_267 rfl ?_
                refine g_iconst (v := 4) X dX2_summedUp_269 rfl ?_
                refine g_icmp_ne (tgt := 411) X dX2_summedUp_270 rfl (fun c270 => ?_) (fun c270 => ?_)
                · exact absurd (by rw [ho4]; rfl) c270
                · refine g_aload_n X dX2_summedUp_273 rfl ?_
                  refine g_get (C := RX2) (T := TX2) (N := 35) X 22 in_X2 dX2_summedUp_274 q1427 (rd3 ho) rfl (Nat.le_of_ble_eq_true rfl) (fun _ h9 => h9) rfl ?_
                  refine g_iload X dX2_summedUp_277 rfl ?_
                  refine g_iconst (v := 1) X dX2_summedUp_279 rfl ?_
                  refine g_isub X dX2_summedUp_280 ?_
                  refine g_aload_n X dX2_summedUp_281 rfl ?_
                  refine g_get (C := RX2) (T := TX2) (N := 35) X 22 in_X2 dX2_summedUp_282 q1427 (rd3 ho) rfl (Nat.le_of_ble_eq_true rfl) (fun _ h9 => h9) rfl ?_
                  refine g_iload X dX2_summedUp_285 rfl ?_
                  refine g_iconst (v := 1) X dX2_summedUp_287 rfl ?_
                  refine g_isub X dX2_summedUp_288 ?_
                  refine g_lald (j := vs2.length) X dX2_summedUp_289 (rd406 ho) nI_p2 (by simp only [List.length_cons] at hI2; omega) (by decide) ?_
                  refine g_ltop (y := twM 7 w z) (if_pos rfl) ?_
                  refine g_lconst (v := 0) X dX2_summedUp_290 rfl ?_
                  refine g_callS X (k_X2_gapOf ho) (lw_S q1722 q1723 q139 q1724) hd_X2_gapOf dX2_summedUp_291 rfl ⟨Nat.le_of_ble_eq_true rfl, Nat.le_of_ble_eq_true rfl⟩ ⟨Nat.le_of_ble_eq_true rfl, Nat.le_of_ble_eq_true rfl⟩ (Nat.le_of_ble_eq_true rfl) ?_
                  rintro _ S1 ⟨rfl, hS1⟩
                  obtain rfl := hS1.symm
                  refine g_last X ho (j := vs2.length) dX2_summedUp_294 rfl nI_p2 (by simp only [List.length_cons] at hI2; omega) ?_
                  refine g_goto (tgt := 411) X dX2_summedUp_295 rfl ?_
                  refine g_iinc (v := 1) X dX2_summedUp_411 rfl rfl (Nat.le_of_ble_eq_true rfl) ?_
                  refine g_goto (tgt := 38) X dX2_summedUp_414 rfl ?_
                  refine g_eq (S2 := gk_si (gk_sl S 0 ((vp_updL (vp_updL A vs2.length (twM 7 w z)) vs2.length (biM o w z)))) 407 (B)) ((by rw [show biM o w z = gaM (twM 7 w z) from if_pos ho4, sl_nf, sl_nf]; rfl)) ?_
                  refine g_sub (le_1 rfl (le_1 rfl (le_1 rfl (le_1 rfl (le_1 rfl (le_1 (congrArg (fun z => some (Value.int z)) (nI_p1)) (le_1 rfl (le_1 e_1 (le_0 (le_0 le_n)))))))))) (ih (i + 1, (biM o w z :: vs2), ts, D2, (vp_updL (vp_updL A vs2.length (twM 7 w z)) vs2.length (biM o w z)), B) ?_ ?_)
                  · try dsimp only
                    exact ⟨by omega, by have := hI2; simp only [List.length_cons] at *; omega, by have := hI3; simp only [List.length_cons] at *; omega, hcd2, hrun2, ga_rp hI6.2.2, hI7, lwB_up2 hI8 hbd⟩
                  · show t1 - (i + 1) < t1 - i; omega
          · have ho5 : ¬ o = 5 := fun z => c163 (by rw [z]; rfl)
            have ho2 : o = 2 := (so_e ho22 (n := 2) (by decide)).mp c169
            obtain ⟨w, vs2, hq, hz, hbd⟩ := st_5 hst (Or.inr ho2)
            dsimp only at hq
            subst hq
            subst hz
            rw [if_neg ho5] at hbd hrun2
            refine g_aload_n X dX2_summedUp_172 rfl ?_
            refine g_get (C := RX2) (T := TX2) (N := 35) X 22 in_X2 dX2_summedUp_173 q1427 (rd3 ho) rfl (Nat.le_of_ble_eq_true rfl) (fun _ h9 => h9) rfl ?_
            refine g_iload X dX2_summedUp_176 rfl ?_
            refine g_iconst (v := 1) X dX2_summedUp_178 rfl ?_
            refine g_isub X dX2_summedUp_179 ?_
            refine g_iload X dX2_summedUp_180 rfl ?_
            refine g_iconst (v := 5) X dX2_summedUp_182 rfl ?_
            refine g_icmp_ne (tgt := 199) X dX2_summedUp_183 rfl (fun c183 => ?_) (fun c183 => ?_)
            · refine g_aload_n X dX2_summedUp_199 rfl ?_
              refine g_aload_n X dX2_summedUp_200 rfl ?_
              refine g_get (C := RX2) (T := TX2) (N := 35) X 22 in_X2 dX2_summedUp_201 q1427 (rd3 ho) rfl (Nat.le_of_ble_eq_true rfl) (fun _ h9 => h9) rfl ?_
              refine g_iload X dX2_summedUp_204 rfl ?_
              refine g_iconst (v := 1) X dX2_summedUp_206 rfl ?_
              refine g_isub X dX2_summedUp_207 ?_
              refine g_lald (j := vs2.length) X dX2_summedUp_208 (rd406 ho) (nI_pred _) (by simp only [List.length_cons] at hI2; omega) (by decide) ?_
              refine g_ltop (y := w) hI6.1 ?_
              refine g_callV (C := RX2) (T := TX2) (N := 35) X (k_X2_heldOf ho (S := gk_si (gk_sl S 0 A) 407 B) hH) (lw_V q1703 q1705 qs93 q139 q1706) hd_X2_heldOf dX2_summedUp_209 (rd3 ho) rfl rfl ⟨Nat.le_of_ble_eq_true rfl, Nat.le_of_ble_eq_true rfl⟩ ⟨Nat.le_of_ble_eq_true rfl, Nat.le_of_ble_eq_true rfl⟩ (Nat.le_of_ble_eq_true rfl) ?_
              rintro _ S1 ⟨rfl, hS1⟩
              obtain rfl := hS1.symm
              refine g_last X ho (j := vs2.length) dX2_summedUp_212 rfl (nI_pred _) (by simp only [List.length_cons] at hI2; omega) ?_
              refine g_goto (tgt := 411) X dX2_summedUp_213 rfl ?_
              refine g_iinc (v := 1) X dX2_summedUp_411 rfl rfl (Nat.le_of_ble_eq_true rfl) ?_
              refine g_goto (tgt := 38) X dX2_summedUp_414 rfl ?_
              refine g_eq (S2 := gk_si (gk_sl S 0 ((vp_updL A vs2.length (hdB v w)))) 407 (B)) (sl_nf) ?_
              refine g_sub (le_1 rfl (le_1 rfl (le_1 rfl (le_1 rfl (le_1 rfl (le_1 rfl (le_1 rfl (le_1 e_1 (le_0 (le_0 le_n)))))))))) (ih (i + 1, (hdB v w :: vs2), ts, D2, (vp_updL A vs2.length (hdB v w)), B) ?_ ?_)
              · try dsimp only
                exact ⟨by omega, by have := hI2; simp only [List.length_cons] at *; omega, by have := hI3; simp only [List.length_cons] at *; omega, hcd2, hrun2, rpL_ps hI6.2, hI7, lwB_up hI8 hbd⟩
              · show t1 - (i + 1) < t1 - i; omega
            · exact absurd ((so_e ho22 (n := 5) (by decide)).mp c183) ho5
      · have ho3 : o = 3 := (so_e ho22 (n := 3) (by decide)).mp c122
        obtain ⟨w, z, b, vs2, ts2, hq, hz, hbd⟩ := st_3 hst ho3
        cases hq
        subst hz
        refine g_iinc (v := (-1)) X dX2_summedUp_125 rfl rfl (Nat.le_of_ble_eq_true rfl) ?_
        refine g_iinc (v := (-1)) X dX2_summedUp_128 rfl rfl (Nat.le_of_ble_eq_true rfl) ?_
        refine g_aload_n X dX2_summedUp_131 rfl ?_
        refine g_get (C := RX2) (T := TX2) (N := 35) X 23 in_X2 dX2_summedUp_132 q1428 (rd3 ho) rfl (Nat.le_of_ble_eq_true rfl) (fun _ h9 => h9) rfl ?_
        refine g_iload X dX2_summedUp_135 rfl ?_
        refine g_zald (j := ts2.length) X dX2_summedUp_137 (rdi ho (407) (rfl)) nI_p1 (by simp only [List.length_cons] at hI3; omega) (by decide) ?_
        refine g_if_ne (tgt := 411) X dX2_summedUp_138 rfl (fun c138 => ?_) (fun c138 => ?_)
        · refine g_iinc (v := 1) X dX2_summedUp_411 rfl rfl (Nat.le_of_ble_eq_true rfl) ?_
          refine g_goto (tgt := 38) X dX2_summedUp_414 rfl ?_
          refine g_sub (le_1 rfl (le_1 rfl (le_1 rfl (le_1 rfl (le_1 rfl (le_1 (congrArg (fun z => some (Value.int z)) (nI_p1)) (le_1 (congrArg (fun z => some (Value.int z)) (nI_p1)) (le_1 e_1 (le_0 (le_0 le_n)))))))))) (ih (i + 1, ((if b = true then w else z) :: vs2), ts2, D2, A, B) ?_ ?_)
          · try dsimp only
            exact ⟨by omega, by have := hI2; simp only [List.length_cons] at *; omega, by have := hI3; simp only [List.length_cons] at *; omega, hcd2, hrun2, ⟨by rw [if_pos (nt_t c138 hI7.1)]; exact hI6.2.1, hI6.2.2⟩, hI7.2, hI8⟩
          · show t1 - (i + 1) < t1 - i; omega
        · refine g_aload_n X dX2_summedUp_141 rfl ?_
          refine g_get (C := RX2) (T := TX2) (N := 35) X 22 in_X2 dX2_summedUp_142 q1427 (rd3 ho) rfl (Nat.le_of_ble_eq_true rfl) (fun _ h9 => h9) rfl ?_
          refine g_iload X dX2_summedUp_145 rfl ?_
          refine g_iconst (v := 1) X dX2_summedUp_147 rfl ?_
          refine g_isub X dX2_summedUp_148 ?_
          refine g_aload_n X dX2_summedUp_149 rfl ?_
          refine g_get (C := RX2) (T := TX2) (N := 35) X 22 in_X2 dX2_summedUp_150 q1427 (rd3 ho) rfl (Nat.le_of_ble_eq_true rfl) (fun _ h9 => h9) rfl ?_
          refine g_iload X dX2_summedUp_153 rfl ?_
          refine g_lald (j := vs2.length + 1) X dX2_summedUp_155 (rd406 ho) nI_p1 (by simp only [List.length_cons] at hI2; omega) (by decide) ?_
          refine g_ltop (y := z) hI6.1 ?_
          refine g_last X ho (j := vs2.length) dX2_summedUp_156 rfl nI_p2 (by simp only [List.length_cons] at hI2; omega) ?_
          refine g_goto (tgt := 411) X dX2_summedUp_157 rfl ?_
          refine g_iinc (v := 1) X dX2_summedUp_411 rfl rfl (Nat.le_of_ble_eq_true rfl) ?_
          refine g_goto (tgt := 38) X dX2_summedUp_414 rfl ?_
          refine g_eq (S2 := gk_si (gk_sl S 0 ((vp_updL A vs2.length (z)))) 407 (B)) (sl_nf) ?_
          refine g_sub (le_1 rfl (le_1 rfl (le_1 rfl (le_1 rfl (le_1 rfl (le_1 (congrArg (fun z => some (Value.int z)) (nI_p1)) (le_1 (congrArg (fun z => some (Value.int z)) (nI_p1)) (le_1 e_1 (le_0 (le_0 le_n)))))))))) (ih (i + 1, ((if b = true then w else z) :: vs2), ts2, D2, (vp_updL A vs2.length (z)), B) ?_ ?_)
          · try dsimp only
            exact ⟨by omega, by have := hI2; simp only [List.length_cons] at *; omega, by have := hI3; simp only [List.length_cons] at *; omega, hcd2, hrun2, (by rw [if_neg (nt_f c138 hI7.1)]; exact rpL_ps hI6.2.2), hI7.2, lwB_up hI8 (by rw [if_neg (nt_f c138 hI7.1)] at hbd; exact hbd)⟩
          · show t1 - (i + 1) < t1 - i; omega
    · have ho1b : o ≤ 1 := Nat.not_lt.mp (fun z => c84 ((so_l ho22 (by decide)).mpr z))
      obtain ⟨hz, hbd, hw10⟩ := st_0 hst ho1b
      subst hz
      refine g_aload_n X dX2_summedUp_87 rfl ?_
      refine g_get (C := RX2) (T := TX2) (N := 35) X 22 in_X2 dX2_summedUp_88 q1427 (rd3 ho) rfl (Nat.le_of_ble_eq_true rfl) (fun _ h9 => h9) rfl ?_
      refine g_iload X dX2_summedUp_91 rfl ?_
      refine g_iload X dX2_summedUp_93 rfl ?_
      refine g_if_ne (tgt := 104) X dX2_summedUp_95 rfl (fun c95 => ?_) (fun c95 => ?_)
      · have ho0 : ¬ o = 0 := fun z => c95 (by rw [z]; rfl)
        have hw9 : w0 < 10 := hw10 (by omega)
        rw [if_neg ho0] at hbd hrun2
        refine g_aload_n X dX2_summedUp_104 rfl ?_
        refine g_get (C := RX2) (T := TX2) (N := 35) X 21 in_X2 dX2_summedUp_105 q1426 (rd3 ho) rfl (Nat.le_of_ble_eq_true rfl) (fun _ h9 => h9) rfl ?_
        refine g_iload X dX2_summedUp_108 rfl ?_
        refine g_iald (j := w0) X dX2_summedUp_110 (rdi ho (405) (rfl)) rfl hw9 (by decide) ?_
        refine g_top (y := nvM v w0) (hnm w0 hw9) ?_
        refine g_i2l X dX2_summedUp_111 rfl ?_
        refine g_last X ho (j := vs.length) dX2_summedUp_112 rfl rfl (by omega) ?_
        refine g_iinc (v := 1) X dX2_summedUp_113 rfl rfl (Nat.le_of_ble_eq_true rfl) ?_
        refine g_goto (tgt := 411) X dX2_summedUp_116 rfl ?_
        refine g_iinc (v := 1) X dX2_summedUp_411 rfl rfl (Nat.le_of_ble_eq_true rfl) ?_
        refine g_goto (tgt := 38) X dX2_summedUp_414 rfl ?_
        refine g_eq (S2 := gk_si (gk_sl S 0 ((vp_updL A vs.length ((nvM v w0).toInt64)))) 407 (B)) (sl_nf) ?_
        refine g_sub (le_1 rfl (le_1 rfl (le_1 rfl (le_1 rfl (le_1 rfl (le_1 e_1 (le_1 rfl (le_1 e_1 (le_0 (le_0 le_n)))))))))) (ih (i + 1, ((nvM v w0).toInt64 :: vs), ts, D2, (vp_updL A vs.length ((nvM v w0).toInt64)), B) ?_ ?_)
        · try dsimp only
          exact ⟨by omega, by have := hI2; simp only [List.length_cons] at *; omega, by have := hI3; simp only [List.length_cons] at *; omega, hcd2, hrun2, rpL_ps hI6, hI7, lwB_up hI8 hbd⟩
        · show t1 - (i + 1) < t1 - i; omega
      · have ho0 : o = 0 := (so_e ho22 (n := 0) (by decide)).mp c95
        rw [if_pos ho0] at hbd hrun2
        refine g_iload X dX2_summedUp_98 rfl ?_
        refine g_i2l X dX2_summedUp_100 rfl ?_
        refine g_goto (tgt := 112) X dX2_summedUp_101 rfl ?_
        refine g_last X ho (j := vs.length) dX2_summedUp_112 rfl rfl (by omega) ?_
        refine g_iinc (v := 1) X dX2_summedUp_113 rfl rfl (Nat.le_of_ble_eq_true rfl) ?_
        refine g_goto (tgt := 411) X dX2_summedUp_116 rfl ?_
        refine g_iinc (v := 1) X dX2_summedUp_411 rfl rfl (Nat.le_of_ble_eq_true rfl) ?_
        refine g_goto (tgt := 38) X dX2_summedUp_414 rfl ?_
        refine g_eq (S2 := gk_si (gk_sl S 0 ((vp_updL A vs.length ((nI w0).toInt64)))) 407 (B)) (sl_nf) ?_
        refine g_sub (le_1 rfl (le_1 rfl (le_1 rfl (le_1 rfl (le_1 rfl (le_1 e_1 (le_1 rfl (le_1 e_1 (le_0 (le_0 le_n)))))))))) (ih (i + 1, ((nI w0).toInt64 :: vs), ts, D2, (vp_updL A vs.length ((nI w0).toInt64)), B) ?_ ?_)
        · try dsimp only
          exact ⟨by omega, by have := hI2; simp only [List.length_cons] at *; omega, by have := hI3; simp only [List.length_cons] at *; omega, hcd2, hrun2, rpL_ps hI6, hI7, lwB_up hI8 hbd⟩
        · show t1 - (i + 1) < t1 - i; omega
