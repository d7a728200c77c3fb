/-! INV STAYS when one comes -/
theorem nI_mulN (a b : Nat) : nI a * nI b = nI (a * b) := (Int32.ofNat_mul a b).symm
theorem nI_div {a b : Nat} (ha : a < 2 ^ 31) (hb : b < 2 ^ 31) : nI a / nI b = nI (a / b) := by
  have hc : a / b < 2 ^ 31 := Nat.lt_of_le_of_lt (Nat.div_le_self a b) ha
  apply Int32.toInt_inj.mp
  rw [Int32.toInt_div, nI_toInt ha, nI_toInt hb, nI_toInt hc, ← Int.ofNat_tdiv]
  generalize a / b = c at hc ⊢
  exact Int.bmod_eq_of_le (by omega) (by omega)
theorem nI_subN {a b : Nat} (h : b ≤ a) : nI a - nI b = nI (a - b) := by
  have e : nI a = nI (a - b) + nI b := by rw [nI_add, Nat.sub_add_cancel h]
  rw [e]
  exact Int32.add_sub_cancel _ _
theorem isPq_rg {x : Int32} (h : isPq x = true) : rg (x / 10) 9 ∧ rg (x - x / 10 * 10) 9 ∧ 0 < nv (x - x / 10 * 10) ∧ nv (x / 10) ≤ nv (x - x / 10 * 10) := by
  unfold isPq at h
  simp only [Bool.and_eq_true, Bool.not_eq_true', decide_eq_false_iff_not, decide_eq_true_eq] at h
  obtain ⟨h1, h2, h3⟩ := h
  obtain ⟨j, hj, rfl⟩ := nI_of h1
  have e1 : nI j / 10 = nI (j / 10) := nI_div (b := 10) hj (by decide)
  have e2 : nI (j / 10) * 10 = nI (j / 10 * 10) := nI_mulN _ 10
  have e3 : nI j - nI (j / 10 * 10) = nI (j % 10) := by rw [nI_subN (by omega)]; congr 1; omega
  rw [e1, e2, e3] at h2 h3 ⊢
  rw [show (0 : Int32) = nI 0 from rfl, nI_ltI (by decide) (by omega)] at h2
  rw [nI_ltI (by omega) (by omega)] at h3
  rw [nv_nI (by omega), nv_nI (by omega)]
  exact ⟨rg_nI (by omega) (by decide), rg_nI (by omega) (by decide), h2, by omega⟩
theorem o_person_inv {s : Nat → Int32} (h : Inv s) (E : Nat → Int32) (kind purse pq : Int32) : Inv (o_person s E kind purse pq).2.1 := by
  unfold o_person
  split
  case isFalse => exact h
  case isTrue c =>
    split
    · exact h
    · rename_i hn
      have hn6 : nP s < 6 := by have := h.npl; omega
      rw [Bool.and_eq_true, Bool.and_eq_true] at c
      have k1 := rgB_of (n := 6) (by decide) c.1
      have k2 := rgB_of (n := 999999) (by decide) c.2.1
      obtain ⟨k3, k4, k5, k6⟩ := isPq_rg c.2.2
      generalize pq / 10 = p1 at *
      generalize pq - p1 * 10 = p2 at *
      show Inv (upd (upd (upd (upd (upd s (20 + 4 * nP s) kind) (20 + 4 * nP s + 1) purse) (20 + 4 * nP s + 2) p1) (20 + 4 * nP s + 3) p2) 0 (nI (nP s + 1)))
      generalize hN : nP s = N at *
      generalize hS : upd (upd (upd (upd (upd s (20 + 4 * N) kind) (20 + 4 * N + 1) purse) (20 + 4 * N + 2) p1) (20 + 4 * N + 3) p2) 0 (nI (N + 1)) = s'
      have e : ∀ i, i ≠ 0 → ¬ (20 + 4 * N ≤ i ∧ i < 24 + 4 * N) → s' i = s i := fun i h0 h1 => by
        rw [← hS, upd_n h0, upd_n (by omega), upd_n (by omega), upd_n (by omega), upd_n (by omega)]
      have v0 : s' 0 = nI (N + 1) := by rw [← hS, upd_s]
      have w0 : s' (20 + 4 * N) = kind := by rw [← hS, upd_n (by omega), upd_n (by omega), upd_n (by omega), upd_n (by omega), upd_s]
      have w1 : s' (20 + 4 * N + 1) = purse := by rw [← hS, upd_n (by omega), upd_n (by omega), upd_n (by omega), upd_s]
      have w2 : s' (20 + 4 * N + 2) = p1 := by rw [← hS, upd_n (by omega), upd_n (by omega), upd_s]
      have w3 : s' (20 + 4 * N + 3) = p2 := by rw [← hS, upd_n (by omega), upd_s]
      have eP : nP s' = N + 1 := by unfold nP; rw [v0, nv_nI (by omega)]
      have eT : nT s' = nT s := congrArg nv (e 1 (by omega) (by omega))
      have eQ : nQ s' = nQ s := congrArg nv (e 2 (by omega) (by omega))
      obtain ⟨⟨a0, a1, a2, a6, a7, a5⟩, ⟨r0, r1, r2, r3, r4⟩, hp, hpq, hth, hto, hq, hqo, hw, htx, htp⟩ := h
      refine ⟨⟨?_, ?_, ?_, ?_, ?_, ?_⟩, ⟨?_, ?_, ?_, ?_, ?_⟩, fun p hp' => ?_, fun p hp' => ?_, fun t ht' => ?_, fun t ht' => ?_, fun k hk => ?_, fun k hk => ?_, fun p t hp' ht' => ?_, ⟨txOK_congr (fun i a b => e i (by omega) (by omega)) htx.1, txOK_congr (fun i a b => e i (by omega) (by omega)) htx.2⟩, fun i hi => ?_⟩
      · rw [v0]; exact rg_nI (by omega) (by decide)
      · rw [e 1 (by omega) (by omega)]; exact a1
      · rw [e 2 (by omega) (by omega)]; exact a2
      · rw [e 6 (by omega) (by omega)]; exact a6
      · rw [e 7 (by omega) (by omega)]; exact a7
      · rw [e 5 (by omega) (by omega)]; exact a5
      · rw [e 10 (by omega) (by omega)]; exact r0
      · rw [e 11 (by omega) (by omega)]; exact r1
      · rw [e 12 (by omega) (by omega)]; exact r2
      · rw [e 13 (by omega) (by omega)]; exact r3
      · rw [e 14 (by omega) (by omega)]; exact r4
      · by_cases z : p = N
        · rw [z, w0, w1, w2, w3]; exact ⟨k1, k2, k3, k4⟩
        · rw [e (20 + 4 * p) (by omega) (by omega), e (20 + 4 * p + 1) (by omega) (by omega), e (20 + 4 * p + 2) (by omega) (by omega), e (20 + 4 * p + 3) (by omega) (by omega)]; exact hp p hp'
      · by_cases z : p = N
        · rw [z, w2, w3]; exact ⟨k5, k6⟩
        · rw [eP] at hp'
          rw [e (20 + 4 * p + 2) (by omega) (by omega), e (20 + 4 * p + 3) (by omega) (by omega)]; exact hpq p (by omega)
      · rw [e (44 + 4 * t) (by omega) (by omega), e (44 + 4 * t + 1) (by omega) (by omega), e (44 + 4 * t + 2) (by omega) (by omega), e (44 + 4 * t + 3) (by omega) (by omega)]; exact hth t ht'
      · rw [eT] at ht'
        have h12 : t < 12 := Nat.lt_of_lt_of_le ht' a1.2
        have := hto t ht'
        rw [eP, e (44 + 4 * t) (by omega) (by omega)]; omega
      · rw [e (92 + 3 * k) (by omega) (by omega), e (92 + 3 * k + 1) (by omega) (by omega), e (92 + 3 * k + 2) (by omega) (by omega)]; exact hq k hk
      · rw [eQ] at hk
        have h6 : k < 6 := Nat.lt_of_lt_of_le hk a2.2
        rw [eT, e (92 + 3 * k) (by omega) (by omega), e (92 + 3 * k + 1) (by omega) (by omega)]; exact hqo k hk
      · have g := hw p t hp' ht'
        rw [eP, eT, e (110 + 12 * p + t) (by omega) (by omega)]
        exact ⟨g.1, fun z => g.2 (by omega)⟩
      · rw [e (432 + i) (by omega) (by omega)]; exact htp i hi
