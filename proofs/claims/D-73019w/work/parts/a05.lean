/-! A SPRING OF THE TWO IS ONE -/
theorem sy_in {n nf : Nat} {g R sy ln : Nat → Int32} {v : Nat} {lo : Int32} (hn : n ≤ 8) : ∀ {i : Nat}, ∀ f, f < i → ∃ c, c ≤ 8 ∧ (bCs n g (R, v, sy, ln, 0, nf, lo) i).2.2.1 f = nI c - 1
  | i + 1, f, hf => by
    rw [bCs_s]
    unfold bC
    dsimp only
    by_cases e : f = i
    · subst e
      rw [upd_s]
      unfold rfL
      split
      · exact ⟨0, by omega, by decide⟩
      · rename_i h0
        have := Nat.mod_lt (bCs n g (R, v, sy, ln, 0, nf, lo) f).2.1 (show n > 0 by omega)
        exact ⟨(bCs n g (R, v, sy, ln, 0, nf, lo) f).2.1 % n + 1, by omega, by rw [nI_pred]⟩
    · rw [upd_n e]
      exact sy_in hn f (by omega)
theorem bCs_hi {n nf k : Nat} {g R sy ln : Nat → Int32} {v : Nat} {lo : Int32} (hn : n ≤ 8) (hk : 21 ≤ k) : ∀ {i : Nat}, i ≤ 5 → (bCs n g (R, v, sy, ln, 0, nf, lo) i).1 k = R k
  | 0, _ => by rw [bCs_0]
  | i + 1, h => by
    rw [bCs_s]
    unfold bC
    dsimp only
    rw [rfC_n (by omega) hn (by omega)]
    exact bCs_hi hn hk (by omega)
theorem fold_eq {wr : Bool} {sp e : Nat} {V V' : Nat → Nat → Int32} {sy cl : Nat → Int32} {lost z : Int32} (hsp : sp ≤ 9999) (he : e < 2) (hz' : (if z = 0 then (0 : Int32) else 1) = nI e) : ∀ (L : List Nat) (m : Nat) (q q' : pC), (∀ f, f ∈ L → f < 5 ∧ (∀ k, k < 5 → V f k = V' f k) ∧ sy f = cl f ∧ (∃ c, c ≤ 8 ∧ sy f = nI c - 1) ∧ (if bP (hs lost (nI f)) = 0 then (0 : Int32) else 1) = nI e) → pcR wr sp (m + L.length) q q' → pcR wr sp m (L.foldl (fun q f => cC V sy lost f q) q) (L.foldl (fun q f => cM wr V' cl z f q) q')
  | [], _, _, _, _, h => h
  | f :: L, m, q, q', hL, h => by
    obtain ⟨h1, h2, h3, ⟨c, hc, h4⟩, h5⟩ := hL f List.mem_cons_self
    have hs : pcR wr sp (m + L.length + 1) q q' := h
    exact fold_eq hsp he hz' L m _ _ (fun f hf => hL f (List.mem_cons_of_mem _ hf)) (pc_step hs hsp h1 h2 h3 hc h4 he h5 hz')
theorem orL_mem {fl : Nat → Bool} {nf f : Nat} : (f ∈ (List.range nf).filter (fun f => !fl f) → f < nf ∧ fl f = false) ∧ (f ∈ ((List.range nf).filter fl).reverse → f < nf ∧ fl f = true) := by
  constructor
  · intro h
    obtain ⟨h1, h2⟩ := List.mem_filter.mp h
    exact ⟨List.mem_range.mp h1, by simpa using h2⟩
  · intro h
    obtain ⟨h1, h2⟩ := List.mem_filter.mp (List.mem_reverse.mp h)
    exact ⟨List.mem_range.mp h1, h2⟩
/-- the two rows behind a spring; the books, if the model writes -/
def rwR (wr : Bool) (R A : Nat → Int32) : Prop := coR R A ∧ ∃ nb, nb ≤ 20 ∧ R 21 = nI nb ∧ (wr = true → A 8 = nI nb ∧ bkA R A nb)
theorem pass_eq {S : gk_S} {q n nf v nb : Nat} {wr : Bool} {g o A : Nat → Int32} {W : Option mnB} (hq : q = 11 ∨ q = 304) (hW : WOK W) (hn : n ≤ 8) (hf : nf ≤ 5) (hA : rwM A) (hl : ldR S A) (hco : coR (S.1 q) A) (hv : A 6 = nI v) (hv2 : v < 30859) (hb : S.1 q 21 = nI nb) (hb2 : nb ≤ 20) (hbk : wr = true → A 8 = nI nb ∧ bkA (S.1 q) A nb) (h5 : ¬ A 5 = 9999) :
    rwR wr (psR S q n nf v nb g W) (pmA wr o n nf g W A).1 ∧ (psB S q n nf v g).2.2.2.2.2.2 = (pmA wr o n nf g W A).2 := by
  have hA' := hA
  obtain ⟨⟨⟨v', hv2', hv'⟩, ⟨nb', hb2', hb'⟩, hsm⟩, sp, hsp, hsp2⟩ := hA
  have e6 : ix (A 6) = v := by rw [hv, ix_n (by omega)]
  have hR1 : clC (S.1 q) 8 1 = nI v := (clC_n (by omega)).trans ((upd_n (by decide)).trans (hco.2.1.trans hv))
  obtain ⟨b1, b2, b3, b4⟩ := bs_eq (n := n) (g := g) (sy := S.1 302) (ln := S.1 303) (cl := z0) (nf := nf) (v := v) (lo := 0) hn (co_clear hco) (i := nf) hf
  obtain ⟨k1, k2, k3, k4, k5, k6, k7⟩ := bCs_ok (n := n) (g := g) (sy := S.1 302) (ln := S.1 303) (lo := 0) hn hf hR1 hv2 (Nat.le_refl nf)
  have hM : pbA n nf g A = bMs n g (clA A 8, v, z0, 0) nf := by unfold pbA; rw [e6]
  obtain ⟨m1, m2, m3⟩ := bMs_ok (n := n) (g := g) (cl := z0) (bad := 0) hn ((clA_n (by omega)).trans ((upd_n (by decide)).trans hv)) hv2 hf
  rw [← hM] at b1 b2 b3 b4 m1 m2 m3
  have hB : bCs n g (clC (S.1 q) 8, v, S.1 302, S.1 303, 0, nf, 0) nf = psB S q n nf v g := rfl
  have hlost := lost_bt (n := n) (nf := nf) (g := g) (R := clC (S.1 q) 8) (sy := S.1 302) (ln := S.1 303) (v := v) (i := nf) hf
  have hsyc := sy_in (n := n) (nf := nf) (g := g) (R := clC (S.1 q) 8) (sy := S.1 302) (ln := S.1 303) (v := v) (lo := 0) hn (i := nf)
  have hord := ord_all (n := n) (g := g) (sy := S.1 302) (ln := S.1 303) (lo := 0) hn hf hR1 hv2
  rw [hB] at b1 b2 b3 b4 hlost hsyc hord k6 k7
  have hcA : ∀ k, (k < 6 ∨ k = 8 ∨ 27 ≤ k) → clA A 8 k = A k := fun k hk => (clA_n (by omega)).trans (upd_n (by omega))
  have m4 : ∀ k, (k < 6 ∨ k = 8 ∨ 27 ≤ k) → (pbA n nf g A).1 k = A k := fun k hk => (m3 k hk).trans (hcA k hk)
  have hq0 : q ≠ 13 ∧ q ≠ 12 ∧ ∀ f, f < 5 → q ≠ 20 + f := by
    rcases hq with e | e <;> subst e <;> exact ⟨by decide, by decide, fun f hf => by omega⟩
  have hld : ldR (gk_si S q (psB S q n nf v g).1) (pbA n nf g A).1 := by
    obtain ⟨l1, l2, l3, l4⟩ := hl
    refine ⟨fun k hk => ?_, fun f hf => ?_, fun f k hf hk => ?_, fun f k hf hk => ?_⟩
    · rw [si_n (Ne.symm hq0.1), m4 _ (by omega)]
      exact l1 k hk
    · rw [si_n (Ne.symm hq0.2.1), m4 _ (by omega)]
      exact l2 f hf
    · rw [si_n (Ne.symm (hq0.2.2 f hf)), m4 _ (by omega)]
      exact l3 f k hf hk
    · rw [m4 _ (by omega)]
      exact l4 f k hf hk
  have hsmM : smA (pbA n nf g A).1 := fun i hi => by rw [m4 i (by omega)]; exact hsm i hi
  have hV : ∀ f, f < 5 → ∀ k, k < 5 → vlC S q n (psB S q n nf v g).1 W f k = vlA o n (pbA n nf g A).1 W f k := fun f hf k hk => vl_eq hW hn hf hk hld hsmM b1.1 b1.2.2.1
  have hfl : ∀ f, f < nf → (hs (pbA n nf g A).2.2.2 (nI f) ↔ flC n g (clC (S.1 q) 8, v, S.1 302, S.1 303, 0, nf, 0) f = true) := fun f hf => by
    rw [← b3, hlost f (by omega)]
    exact ⟨fun z => z.2, fun z => ⟨hf, z⟩⟩
  have hb0 : (psB S q n nf v g).1 0 = nI sp := by rw [b1.1, m4 5 (by omega)]; exact hsp2
  have h210 : (psB S q n nf v g).1 21 = nI nb := k6.trans ((clC_n (by omega)).trans ((upd_n (by decide)).trans hb))
  have hlen : (orL (flC n g (clC (S.1 q) 8, v, S.1 302, S.1 303, 0, nf, 0)) nf).length = nf := by
    rw [← hord]
    unfold rdL
    rw [List.length_map, List.length_range]
  have hbk0 : wr = true → nb = ix (A 8) ∧ bkA (psB S q n nf v g).1 (pbA n nf g A).1 nb := fun hwr => by
    obtain ⟨z1, z2⟩ := hbk hwr
    refine ⟨by rw [z1, ix_n (by omega)], fun i hi => bkE_c (z2 i hi) (fun w hw => ?_) (m4 _ (by omega))⟩
    exact (bCs_hi hn (by omega) hf).trans ((clC_n (by omega)).trans (upd_n (by omega)))
  have hstart : pcR wr sp (0 + (orL (flC n g (clC (S.1 q) 8, v, S.1 302, S.1 303, 0, nf, 0)) nf).length) ((psB S q n nf v g).1, 31, nb) ((pbA n nf g A).1, 31, ix (A 8)) :=
    ⟨b1, rfl, ⟨31, by decide, rfl, by rw [hlen, Nat.zero_add]; exact Nat.le_trans hf (by decide)⟩, hb2, hbk0, hb0⟩
  have hC : psC S q n nf v nb g W = (orL (flC n g (clC (S.1 q) 8, v, S.1 302, S.1 303, 0, nf, 0)) nf).foldl (fun q2 f => cC (vlC S q n (psB S q n nf v g).1 W) (psB S q n nf v g).2.2.1 (psB S q n nf v g).2.2.2.2.2.2 f q2) ((psB S q n nf v g).1, 31, nb) := by
    unfold psC
    rw [cCs_fold, hord]
  have hD : pdA wr o n nf g W A = ((List.range nf).filter (flC n g (clC (S.1 q) 8, v, S.1 302, S.1 303, 0, nf, 0))).reverse.foldl (fun q2 f => cM wr (vlA o n (pbA n nf g A).1 W) (pbA n nf g A).2.2.1 1 f q2) (((List.range nf).filter (fun f => !flC n g (clC (S.1 q) 8, v, S.1 302, S.1 303, 0, nf, 0) f)).foldl (fun q2 f => cM wr (vlA o n (pbA n nf g A).1 W) (pbA n nf g A).2.2.1 0 f q2) ((pbA n nf g A).1, 31, ix (A 8))) := by
    unfold pdA
    rw [cM2_all hfl, cM1_fold hfl]
  have hzc : ∀ f, f < nf → (if bP (hs (psB S q n nf v g).2.2.2.2.2.2 (nI f)) = 0 then (0 : Int32) else 1) = nI (if flC n g (clC (S.1 q) 8, v, S.1 302, S.1 303, 0, nf, 0) f = true then 1 else 0) := fun f hf2 => by
    have z := hlost f (by omega)
    by_cases c : flC n g (clC (S.1 q) 8, v, S.1 302, S.1 303, 0, nf, 0) f = true
    · rw [bP_t (z.mpr ⟨hf2, c⟩), if_pos c]
      decide
    · rw [bP_f (fun w => c (z.mp w).2), if_neg c]
      decide
  have hfin : pcR wr sp 0 (psC S q n nf v nb g W) (pdA wr o n nf g W A) := by
    rw [hC, hD]
    unfold orL at hstart ⊢
    rw [List.foldl_append]
    rw [List.length_append] at hstart
    refine fold_eq hsp (e := 1) (by decide) (by decide) _ 0 _ _ (fun f hf2 => ?_) (fold_eq hsp (e := 0) (by decide) (by decide) _ _ _ _ (fun f hf2 => ?_) ?_)
    · obtain ⟨z1, z2⟩ := orL_mem.2 hf2
      refine ⟨by omega, hV f (by omega), b4 f z1, hsyc f z1, ?_⟩
      have z3 := hzc f z1
      rw [if_pos z2] at z3
      exact z3
    · obtain ⟨z1, z2⟩ := orL_mem.1 hf2
      refine ⟨by omega, hV f (by omega), b4 f z1, hsyc f z1, ?_⟩
      have z3 := hzc f z1
      rw [z2] at z3
      exact z3.trans (by decide)
    · rw [Nat.zero_add] at hstart ⊢
      rw [Nat.add_comm]
      exact hstart
  obtain ⟨⟨f0, f1, f2, f3, f4, f5⟩, fl1, -, fb, fbk, fs0⟩ := hfin
  have fOK : cOK (psB S q n nf v g).1 (psC S q n nf v nb g W) := by
    have hln : ∀ k, k < nf → ∃ f, f < 5 ∧ (psB S q n nf v g).2.2.2.1 k = nI f := fun k hk => by
      obtain ⟨f, hf2, e⟩ := k5 k (by omega)
      exact ⟨f, by omega, e⟩
    unfold psC
    exact cCs_ok ⟨h210, hb2, rfl, rfl⟩ hln
  refine ⟨⟨⟨?_, ?_, ?_, fun c hc => ?_, fun f hf => ?_, fun f hf => ?_⟩, (psC S q n nf v nb g W).2.2, fb, ?_, fun hwr => ?_⟩, ?_⟩
  · unfold psR pmA
    dsimp only
    rw [upd_s, upd_s, f0]
  · unfold psR pmA
    dsimp only
    rw [upd_n (by decide), upd_n (by decide), f1]
  · unfold psR pmA
    dsimp only
    rw [upd_n (by decide), upd_n (by decide), f2]
  · unfold psR pmA
    dsimp only
    rw [upd_n (by omega), upd_n (by omega), f3 c hc]
  · unfold psR pmA
    dsimp only
    rw [upd_n (by omega), upd_n (by omega), f4 f hf]
  · unfold psR pmA
    dsimp only
    rw [upd_n (by omega), upd_n (by omega)]
    exact f5 f hf
  · unfold psR
    rw [upd_n (by decide)]
    exact fOK.1
  · obtain ⟨z1, z2⟩ := fbk hwr
    have oM : cOM (pbA n nf g A).1 (pdA wr o n nf g W A) := by
      unfold pdA
      exact cM2_ok hf (cM1_ok ⟨by rw [hb', ix_n (by omega)]; exact (m4 8 (by omega)).trans hb', by rw [hb', ix_n (by omega)]; exact hb2', fun _ _ => rfl⟩ hf) (Nat.le_refl _)
    refine ⟨?_, fun i hi => bkE_c (z2 i hi) (fun w hw => ?_) ?_⟩
    · unfold pmA
      dsimp only
      rw [upd_n (by decide), oM.1, ← z1]
    · unfold psR
      rw [upd_n (by omega)]
    · unfold pmA
      dsimp only
      rw [upd_n (by omega)]
  · unfold pmA
    exact b3
