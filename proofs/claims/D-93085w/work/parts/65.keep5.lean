/-! .. a thing, a pair -/
theorem o_thing_inv {s : Nat → Int32} (h : Inv s) (E : Nat → Int32) (x price : Int32) : Inv (o_thing s E x price).2.1 := by
  unfold o_thing
  split
  case isFalse => exact h
  case isTrue c =>
    split
    · exact h
    · rename_i hn
      have hn12 : nT s < 12 := by have := h.ntl; omega
      rw [Bool.and_eq_true] at c
      obtain ⟨j, hj, rfl⟩ := isP_of h c.1
      have hj6 : j < 6 := Nat.lt_of_lt_of_le hj h.npl
      have k1 := rgB_of (n := 9999) (by decide) c.2
      show Inv (upd (upd (upd (upd (upd s (44 + 4 * nT s) (nI j)) (44 + 4 * nT s + 1) price) (44 + 4 * nT s + 2) 100) (44 + 4 * nT s + 3) 0) 1 (nI (nT s + 1)))
      generalize hN : nT s = N at *
      generalize hS : upd (upd (upd (upd (upd s (44 + 4 * N) (nI j)) (44 + 4 * N + 1) price) (44 + 4 * N + 2) 100) (44 + 4 * N + 3) 0) 1 (nI (N + 1)) = s'
      have e : ∀ i, i ≠ 1 → ¬ (44 + 4 * N ≤ i ∧ i < 48 + 4 * N) → s' i = s i := fun i h0 h1 => by
        rw [← hS, upd_n h0, upd_n (by omega), upd_n (by omega), upd_n (by omega), upd_n (by omega)]
      have v0 : s' 1 = nI (N + 1) := by rw [← hS, upd_s]
      have w0 : s' (44 + 4 * N) = nI j := by rw [← hS, upd_n (by omega), upd_n (by omega), upd_n (by omega), upd_n (by omega), upd_s]
      have w1 : s' (44 + 4 * N + 1) = price := by rw [← hS, upd_n (by omega), upd_n (by omega), upd_n (by omega), upd_s]
      have w2 : s' (44 + 4 * N + 2) = 100 := by rw [← hS, upd_n (by omega), upd_n (by omega), upd_s]
      have w3 : s' (44 + 4 * N + 3) = 0 := by rw [← hS, upd_n (by omega), upd_s]
      have eT : nT s' = N + 1 := by unfold nT; rw [v0, nv_nI (by omega)]
      have eP : nP s' = nP s := congrArg nv (e 0 (by omega) (by omega))
      have eQ : nQ s' = nQ s := congrArg nv (e 2 (by omega) (by omega))
      obtain ⟨⟨a0, a1, a2, a6, a7, a5⟩, ⟨r0, r1, r2, r3, r4⟩, hp, hpq, hth, hto, hq, hqo, hw, htx, htp⟩ := h
      refine ⟨⟨?_, ?_, ?_, ?_, ?_, ?_⟩, ⟨?_, ?_, ?_, ?_, ?_⟩, fun p hp' => ?_, fun p hp' => ?_, fun t ht' => ?_, fun t ht' => ?_, fun k hk => ?_, fun k hk => ?_, fun p t hp' ht' => ?_, ⟨txOK_congr (fun i a b => e i (by omega) (by omega)) htx.1, txOK_congr (fun i a b => e i (by omega) (by omega)) htx.2⟩, fun i hi => ?_⟩
      · rw [e (0) (by omega) (by omega)]; exact a0
      · rw [v0]; exact rg_nI (by omega) (by decide)
      · rw [e (2) (by omega) (by omega)]; exact a2
      · rw [e (6) (by omega) (by omega)]; exact a6
      · rw [e (7) (by omega) (by omega)]; exact a7
      · rw [e (5) (by omega) (by omega)]; exact a5
      · rw [e (10) (by omega) (by omega)]; exact r0
      · rw [e (11) (by omega) (by omega)]; exact r1
      · rw [e (12) (by omega) (by omega)]; exact r2
      · rw [e (13) (by omega) (by omega)]; exact r3
      · rw [e (14) (by omega) (by omega)]; exact r4
      · rw [e (20 + 4 * p) (by omega) (by omega), e (20 + 4 * p + 1) (by omega) (by omega), e (20 + 4 * p + 2) (by omega) (by omega), e (20 + 4 * p + 3) (by omega) (by omega)]; exact hp p hp'
      · rw [eP] at hp'
        have h6 : p < 6 := Nat.lt_of_lt_of_le hp' a0.2
        rw [e (20 + 4 * p + 2) (by omega) (by omega), e (20 + 4 * p + 3) (by omega) (by omega)]; exact hpq p hp'
      · by_cases z : t = N
        · rw [z, w0, w1, w2, w3]; exact ⟨rg_nI (by omega) (by decide), k1, ⟨by decide, by decide⟩, ⟨by decide, by decide⟩⟩
        · rw [e (44 + 4 * t) (by omega) (by omega), e (44 + 4 * t + 1) (by omega) (by omega), e (44 + 4 * t + 2) (by omega) (by omega), e (44 + 4 * t + 3) (by omega) (by omega)]; exact hth t ht'
      · rw [eT] at ht'
        by_cases z : t = N
        · rw [z, w0, eP, nv_nI (by omega)]; exact hj
        · rw [eP, e (44 + 4 * t) (by omega) (by omega)]; exact hto t (by omega)
      · rw [e (92 + 3 * k) (by omega) (by omega), e (92 + 3 * k + 1) (by omega) (by omega), e (92 + 3 * k + 2) (by omega) (by omega)]; exact hq k hk
      · rw [eQ] at hk
        have h6 : k < 6 := Nat.lt_of_lt_of_le hk a2.2
        have g := hqo k hk
        rw [eT, e (92 + 3 * k) (by omega) (by omega), e (92 + 3 * k + 1) (by omega) (by omega)]; exact ⟨by omega, by omega⟩
      · have g := hw p t hp' ht'
        rw [eP, eT, e (110 + 12 * p + t) (by omega) (by omega)]
        exact ⟨g.1, fun z => g.2 (by omega)⟩
      · rw [e (432 + i) (by omega) (by omega)]; exact htp i hi
theorem o_pair_inv {s : Nat → Int32} (h : Inv s) (E : Nat → Int32) (x y b : Int32) : Inv (o_pair s E x y b).2.1 := by
  unfold o_pair
  split
  case isFalse => exact h
  case isTrue c =>
    split
    · exact h
    · rename_i hn
      have hn6 : nQ s < 6 := by have := h.nql; omega
      rw [Bool.and_eq_true, Bool.and_eq_true, Bool.and_eq_true] at c
      obtain ⟨j, hj, rfl⟩ := isT_of h c.1
      obtain ⟨i0, hi0, rfl⟩ := isT_of h c.2.1
      have hj12 : j < 12 := Nat.lt_of_lt_of_le hj h.ntl
      have hi12 : i0 < 12 := Nat.lt_of_lt_of_le hi0 h.ntl
      have k1 := rgB_of (n := 9999) (by decide) c.2.2.2
      show Inv (upd (upd (upd (upd s (92 + 3 * nQ s) (nI j)) (92 + 3 * nQ s + 1) (nI i0)) (92 + 3 * nQ s + 2) b) 2 (nI (nQ s + 1)))
      generalize hN : nQ s = N at *
      generalize hS : upd (upd (upd (upd s (92 + 3 * N) (nI j)) (92 + 3 * N + 1) (nI i0)) (92 + 3 * N + 2) b) 2 (nI (N + 1)) = s'
      have e : ∀ i, i ≠ 2 → ¬ (92 + 3 * N ≤ i ∧ i < 95 + 3 * N) → s' i = s i := fun i h0 h1 => by
        rw [← hS, upd_n h0, upd_n (by omega), upd_n (by omega), upd_n (by omega)]
      have v0 : s' 2 = nI (N + 1) := by rw [← hS, upd_s]
      have w0 : s' (92 + 3 * N) = nI j := by rw [← hS, upd_n (by omega), upd_n (by omega), upd_n (by omega), upd_s]
      have w1 : s' (92 + 3 * N + 1) = nI i0 := by rw [← hS, upd_n (by omega), upd_n (by omega), upd_s]
      have w2 : s' (92 + 3 * N + 2) = b := by rw [← hS, upd_n (by omega), upd_s]
      have eQ : nQ s' = N + 1 := by unfold nQ; rw [v0, nv_nI (by omega)]
      have eP : nP s' = nP s := congrArg nv (e 0 (by omega) (by omega))
      have eT : nT s' = nT s := congrArg nv (e 1 (by omega) (by omega))
      obtain ⟨⟨a0, a1, a2, a6, a7, a5⟩, ⟨r0, r1, r2, r3, r4⟩, hp, hpq, hth, hto, hq, hqo, hw, htx, htp⟩ := h
      refine ⟨⟨?_, ?_, ?_, ?_, ?_, ?_⟩, ⟨?_, ?_, ?_, ?_, ?_⟩, fun p hp' => ?_, fun p hp' => ?_, fun t ht' => ?_, fun t ht' => ?_, fun k hk => ?_, fun k hk => ?_, fun p t hp' ht' => ?_, ⟨txOK_congr (fun i a b => e i (by omega) (by omega)) htx.1, txOK_congr (fun i a b => e i (by omega) (by omega)) htx.2⟩, fun i hi => ?_⟩
      · rw [e (0) (by omega) (by omega)]; exact a0
      · rw [e (1) (by omega) (by omega)]; exact a1
      · rw [v0]; exact rg_nI (by omega) (by decide)
      · rw [e (6) (by omega) (by omega)]; exact a6
      · rw [e (7) (by omega) (by omega)]; exact a7
      · rw [e (5) (by omega) (by omega)]; exact a5
      · rw [e (10) (by omega) (by omega)]; exact r0
      · rw [e (11) (by omega) (by omega)]; exact r1
      · rw [e (12) (by omega) (by omega)]; exact r2
      · rw [e (13) (by omega) (by omega)]; exact r3
      · rw [e (14) (by omega) (by omega)]; exact r4
      · rw [e (20 + 4 * p) (by omega) (by omega), e (20 + 4 * p + 1) (by omega) (by omega), e (20 + 4 * p + 2) (by omega) (by omega), e (20 + 4 * p + 3) (by omega) (by omega)]; exact hp p hp'
      · rw [eP] at hp'
        have h6 : p < 6 := Nat.lt_of_lt_of_le hp' a0.2
        rw [e (20 + 4 * p + 2) (by omega) (by omega), e (20 + 4 * p + 3) (by omega) (by omega)]; exact hpq p hp'
      · rw [e (44 + 4 * t) (by omega) (by omega), e (44 + 4 * t + 1) (by omega) (by omega), e (44 + 4 * t + 2) (by omega) (by omega), e (44 + 4 * t + 3) (by omega) (by omega)]; exact hth t ht'
      · rw [eT] at ht'
        have h12 : t < 12 := Nat.lt_of_lt_of_le ht' a1.2
        rw [eP, e (44 + 4 * t) (by omega) (by omega)]; exact hto t ht'
      · by_cases z : k = N
        · rw [z, w0, w1, w2]; exact ⟨rg_nI (by omega) (by decide), rg_nI (by omega) (by decide), k1⟩
        · rw [e (92 + 3 * k) (by omega) (by omega), e (92 + 3 * k + 1) (by omega) (by omega), e (92 + 3 * k + 2) (by omega) (by omega)]; exact hq k hk
      · rw [eQ] at hk
        by_cases z : k = N
        · rw [z, w0, w1, eT, nv_nI (by omega), nv_nI (by omega)]; exact ⟨hj, hi0⟩
        · rw [eT, e (92 + 3 * k) (by omega) (by omega), e (92 + 3 * k + 1) (by omega) (by omega)]; exact hqo k (by omega)
      · rw [eP, eT, e (110 + 12 * p + t) (by omega) (by omega)]; exact hw p t hp' ht'
      · rw [e (432 + i) (by omega) (by omega)]; exact htp i hi
theorem and_rg {x : Int32} : rg (x &&& 255) 255 := by
  obtain ⟨j, hj, e⟩ := pk_andE x (m := 255) 8 (by decide)
  rw [e]
  exact rg_nI (by omega) (by decide)
