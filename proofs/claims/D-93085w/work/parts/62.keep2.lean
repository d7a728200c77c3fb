/-! INV STAYS under a text written, and one let go -/
theorem Inv.block {s s' : Nat → Int32} {u : Nat} (hu : u < 2) (h : Inv s) (e : ∀ i, ¬ (182 + 125 * u ≤ i ∧ i < 307 + 125 * u) → s' i = s i) (ht : txOK u s') : Inv s' := by
  have ho : ∀ v, v < 2 → ¬ v = u → txOK v s → txOK v s' := fun v hv hn h1 => txOK_congr (fun i a b => e i (by omega)) h1
  have eP : nP s' = nP s := congrArg nv (e 0 (by omega))
  have eT : nT s' = nT s := congrArg nv (e 1 (by omega))
  have eQ : nQ s' = nQ s := congrArg nv (e 2 (by omega))
  have ht2 : ∀ v, v < 2 → txOK v s → txOK v s' := fun v hv h1 => by
    by_cases c : v = u
    · rw [c]; exact ht
    · exact ho v hv c h1
  obtain ⟨⟨a0, a1, a2, a6, a7, a5⟩, ⟨r0, r1, r2, r3, r4⟩, hp, hpq, hth, hto, hq, hqo, hw, htx, htp⟩ := h
  refine ⟨⟨?_, ?_, ?_, ?_, ?_, ?_⟩, ⟨?_, ?_, ?_, ?_, ?_⟩, fun p hp' => ?_, fun p hp' => ?_, fun t ht' => ?_, fun t ht' => ?_, fun k hk => ?_, fun k hk => ?_, fun p t hp' ht' => ?_, ⟨ht2 0 (by decide) htx.1, ht2 1 (by decide) htx.2⟩, fun i hi => ?_⟩
  · rw [e 0 (by omega)]; exact a0
  · rw [e 1 (by omega)]; exact a1
  · rw [e 2 (by omega)]; exact a2
  · rw [e 6 (by omega)]; exact a6
  · rw [e 7 (by omega)]; exact a7
  · rw [e 5 (by omega)]; exact a5
  · rw [e 10 (by omega)]; exact r0
  · rw [e 11 (by omega)]; exact r1
  · rw [e 12 (by omega)]; exact r2
  · rw [e 13 (by omega)]; exact r3
  · rw [e 14 (by omega)]; exact r4
  · rw [e (20 + 4 * p) (by omega), e (20 + 4 * p + 1) (by omega), e (20 + 4 * p + 2) (by omega), e (20 + 4 * p + 3) (by omega)]; exact hp p hp'
  · rw [eP] at hp'
    have h6 : p < 6 := Nat.lt_of_lt_of_le hp' a0.2
    rw [e (20 + 4 * p + 2) (by omega), e (20 + 4 * p + 3) (by omega)]; exact hpq p hp'
  · rw [e (44 + 4 * t) (by omega), e (44 + 4 * t + 1) (by omega), e (44 + 4 * t + 2) (by omega), e (44 + 4 * t + 3) (by omega)]; exact hth t ht'
  · rw [eT] at ht'
    have h12 : t < 12 := Nat.lt_of_lt_of_le ht' a1.2
    rw [eP, e (44 + 4 * t) (by omega)]; exact hto t ht'
  · rw [e (92 + 3 * k) (by omega), e (92 + 3 * k + 1) (by omega), e (92 + 3 * k + 2) (by omega)]; exact hq k hk
  · rw [eQ] at hk
    have h6 : k < 6 := Nat.lt_of_lt_of_le hk a2.2
    rw [eT, e (92 + 3 * k) (by omega), e (92 + 3 * k + 1) (by omega)]; exact hqo k hk
  · rw [eP, eT, e (110 + 12 * p + t) (by omega)]; exact hw p t hp' ht'
  · rw [e (432 + i) (by omega)]; exact htp i hi
theorem cpy_out {s R : Nat → Int32} {b : Nat} : ∀ {n j : Nat}, (j ≤ b ∨ b + n < j) → cpy s R b n j = s j
  | 0, _, _ => rfl
  | n + 1, j, h => by
    show upd (cpy s R b n) (b + 1 + n) (R n) j = s j
    rw [upd_n (by omega)]; exact cpy_out (by omega)
theorem cpy_in {s R : Nat → Int32} {b : Nat} : ∀ {n i : Nat}, i < n → cpy s R b n (b + 1 + i) = R i
  | n + 1, i, h => by
    show upd (cpy s R b n) (b + 1 + n) (R n) (b + 1 + i) = R i
    by_cases c : i = n
    · rw [c, upd_s]
    · rw [upd_n (by omega)]; exact cpy_in (by omega)
theorem txd_shift {u : Nat} {s R : Nat → Int32} {b : Nat} : ∀ {k : Nat}, (∀ i, i < 2 * k → s (b + 1 + i) = R i) → txd u s b k = txd u (fun i => R (i - 1)) 0 k
  | 0, _ => rfl
  | k + 1, h => by
    have e1 := h (2 * k) (by omega)
    have e2 := h (2 * k + 1) (by omega)
    rw [show b + 1 + (2 * k + 1) = b + 2 + 2 * k by omega] at e2
    have f1 : R (0 + 1 + 2 * k - 1) = R (2 * k) := by rw [show 0 + 1 + 2 * k - 1 = 2 * k by omega]
    have f2 : R (0 + 2 + 2 * k - 1) = R (2 * k + 1) := by rw [show 0 + 2 + 2 * k - 1 = 2 * k + 1 by omega]
    unfold txd
    rw [txd_shift (fun i hi => h i (by omega)), e1, e2]
    simp only [f1, f2]
theorem o_text_inv {s : Nat → Int32} (h : Inv s) (E R : Nat → Int32) (x : Int32) : Inv (o_text s E R x).2.1 := by
  unfold o_text
  by_cases c : inB x 0 1 = true
  · rw [if_pos c]
    obtain ⟨u, hu, rfl⟩ := inB_of (n := 1) (by decide) c
    rw [nv_nI (by omega)]
    have h6 : Inv (upd s 6 0) := (h.taped (x := 0) ⟨by decide, by decide⟩).1
    by_cases d : ((prg s R u).1 && decide ((prg s R u).2.1 = nC s)) = true
    · rw [if_pos d]
      rw [Bool.and_eq_true, decide_eq_true_eq] at d
      have hd := prg_dp (u := u) (by omega) s R d.1
      have ho : OKp s (0, 0, 0, R) (prg s R u) := prg_ok
      have hn : (prg s R u).2.2.2.1 ≤ 60 := by
        have o1 := ho.1; have o3 := ho.2.2.1; have o5 := h.ncl
        simp only at o3; omega
      generalize (prg s R u).2 = p at *
      refine Inv.block (s := upd s 6 0) (u := u) (by omega) h6 (fun i hi => ?_) ?_
      · show cpy _ _ _ _ i = _
        rw [cpy_out (by omega), upd_n (by omega)]
      · have e0 : cpy (upd (upd s 6 0) (182 + 125 * u) (nI p.2.2.1)) p.2.2.2 (182 + 125 * u) (2 * p.2.2.1) (182 + 125 * u) = nI p.2.2.1 := by rw [cpy_out (by omega), upd_s]
        unfold txOK
        show rg (cpy _ _ _ _ _) 60 ∧ (0 < nv (cpy _ _ _ _ _) → _)
        simp only [e0]
        rw [nv_nI (by omega)]
        refine ⟨rg_nI hn (by decide), fun _ => ⟨1, Nat.le_refl _, ?_⟩⟩
        rw [txd_shift (R := p.2.2.2) (fun i hi => cpy_in hi)]
        exact hd
    · rw [if_neg d]; exact h6
  · rw [if_neg c]; exact h
theorem o_untell_inv {s : Nat → Int32} (h : Inv s) (E : Nat → Int32) (x : Int32) : Inv (o_untell s E x).2.1 := by
  unfold o_untell
  by_cases c : inB x 0 1 = true
  · rw [if_pos c]
    obtain ⟨u, hu, rfl⟩ := inB_of (n := 1) (by decide) c
    rw [nv_nI (by omega)]
    refine Inv.block (u := u) (by omega) h (fun i hi => upd_n (by omega)) ?_
    unfold txOK
    show rg (upd s (182 + 125 * u) 0 (182 + 125 * u)) 60 ∧ (0 < nv (upd s (182 + 125 * u) 0 (182 + 125 * u)) → _)
    rw [upd_s]
    exact ⟨⟨by decide, by decide⟩, fun z => absurd z (by decide)⟩
  · rw [if_neg c]; exact h
