/-! INV STAYS under the calls -/
theorem rgB_of {x : Int32} {n : Nat} (hn : n < 2 ^ 31) (c : inB x 0 (nI n) = true) : rg x n := by
  obtain ⟨j, hj, rfl⟩ := inB_of hn c
  exact rg_nI hj hn
section KEEP
theorem o_become_inv {s : Nat → Int32} (h : Inv s) (E : Nat → Int32) (x kind : Int32) : Inv (o_become s E x kind).2.1 := by
  unfold o_become
  split
  case isTrue c =>
    rw [Bool.and_eq_true] at c
    obtain ⟨j, hj, rfl⟩ := isP_of h c.1
    have hl := h.npl
    rw [nv_nI (by omega)]
    exact (h.kind (p0 := j) (by omega) (rgB_of (n := 6) (by decide) c.2)).1
  case isFalse => exact h
theorem o_purse_inv {s : Nat → Int32} (h : Inv s) (E : Nat → Int32) (x v : Int32) : Inv (o_purse s E x v).2.1 := by
  unfold o_purse
  split
  case isTrue c =>
    rw [Bool.and_eq_true] at c
    obtain ⟨j, hj, rfl⟩ := isP_of h c.1
    have hl := h.npl
    rw [nv_nI (by omega)]
    exact (h.purse (p0 := j) (by omega) (rgB_of (n := 999999) (by decide) c.2)).1
  case isFalse => exact h
theorem o_price_inv {s : Nat → Int32} (h : Inv s) (E : Nat → Int32) (x v : Int32) : Inv (o_price s E x v).2.1 := by
  unfold o_price
  split
  case isTrue c =>
    rw [Bool.and_eq_true] at c
    obtain ⟨j, hj, rfl⟩ := isT_of h c.1
    have hl := h.ntl
    rw [nv_nI (by omega)]
    exact (h.price (t0 := j) (by omega) (rgB_of (n := 9999) (by decide) c.2)).1
  case isFalse => exact h
theorem o_worth_inv {s : Nat → Int32} (h : Inv s) (E : Nat → Int32) (x y v : Int32) : Inv (o_worth s E x y v).2.1 := by
  unfold o_worth
  split
  case isTrue c =>
    rw [Bool.and_eq_true, Bool.and_eq_true] at c
    obtain ⟨j, hj, rfl⟩ := isP_of h c.1
    obtain ⟨i, hi, rfl⟩ := isT_of h c.2.1
    have hl := h.npl; have hm := h.ntl
    rw [nv_nI (by omega), nv_nI (by omega)]
    exact (h.worth hj hi (rgB_of (n := 9999) (by decide) c.2.2)).1
  case isFalse => exact h
theorem o_keep_inv {s : Nat → Int32} (h : Inv s) (E : Nat → Int32) (x on : Int32) : Inv (o_keep s E x on).2.1 := by
  unfold o_keep
  split
  case isTrue c =>
    rw [Bool.and_eq_true] at c
    obtain ⟨j, hj, rfl⟩ := isT_of h c.1
    have hl := h.ntl
    split
    case isTrue => exact h
    case isFalse =>
      rw [nv_nI (by omega)]
      exact (h.kept (t0 := j) (by omega) (rgB_of (n := 1) (by decide) c.2)).1
  case isFalse => exact h
theorem o_rule_inv {s : Nat → Int32} (h : Inv s) (E : Nat → Int32) (x v : Int32) : Inv (o_rule s E x v).2.1 := by
  unfold o_rule
  split
  case isTrue c =>
    rw [Bool.and_eq_true] at c
    obtain ⟨j, hj, rfl⟩ := inB_of (n := 4) (by decide) c.1
    have c2 := c.2
    rw [nv_nI (by omega)]
    refine (h.rule (i0 := j) (fun e => ?_) (fun e => ?_) (fun e => ?_) (fun e => ?_) (fun e => ?_) (by omega)).1 <;> subst e
    · exact rgB_of (n := 99) (by decide) c2
    · exact rgB_of (n := 99) (by decide) c2
    · exact rgB_of (n := 2) (by decide) c2
    · exact rgB_of (n := 9) (by decide) c2
    · exact rgB_of (n := 999) (by decide) c2
  case isFalse => exact h
theorem o_seed_inv {s : Nat → Int32} (h : Inv s) (E : Nat → Int32) (v : Int32) : Inv (o_seed s E v).2.1 := (h.z v).1
theorem o_years_inv {s : Nat → Int32} (h : Inv s) (E : Nat → Int32) (n : Int32) : Inv (o_years s E n).2.1 := by
  unfold o_years
  split
  · split
    · exact h
    · exact (yearN_kp h _).1
  · exact h
theorem o_tell_inv {s : Nat → Int32} (h : Inv s) (E : Nat → Int32) (v : Int32) : Inv (o_tell s E v).2.1 := by
  have h7 : rg (s 7) 24 := h.1.2.2.2.2.1
  have hl : nW s ≤ 24 := h7.2
  unfold o_tell
  split
  · exact h
  · exact ((h.wait (i0 := nW s) (by omega) v).1.waits (rg_nI (by omega) (by decide))).1
theorem o_check_inv {s : Nat → Int32} (h : Inv s) (E : Nat → Int32) (x : Int32) : Inv (o_check s E x).2.1 := by
  have g : Inv (upd s 7 0) := (h.waits (x := 0) ⟨by decide, by decide⟩).1
  unfold o_check
  split
  · exact g
  · exact g
theorem worR_inv {Z M : Nat → Int32} {x y : Nat} : ∀ (d n : Nat) (s : Nat → Int32), Inv s → y < nP s → n + d < 2 ^ 31 → Inv (worR Z M x y d n s).2
  | 0, _, _, h, _, _ => h
  | d + 1, n, s, h, hy, hn => by
    unfold worR
    split
    · split
      case isTrue c1 =>
        split
        case isTrue c2 =>
          have q := h.worth hy (isT_iff h (by omega) c1) (rgB_of (n := 9999) (by decide) c2)
          exact worR_inv d (n + 1) _ q.1 (by rw [q.2.1]; exact hy) (by omega)
        case isFalse => exact h
      case isFalse => exact h
    · exact h
theorem o_worths_inv {s : Nat → Int32} (h : Inv s) (E : Nat → Int32) (g : SH) (x y : Int32) : Inv (o_worths g s E x y).2.1 := by
  unfold o_worths
  split
  case isTrue c =>
    rw [Bool.and_eq_true] at c
    obtain ⟨j, hj, rfl⟩ := isP_of h c.2
    have hl := h.npl
    split
    · exact h
    · rw [nv_nI (by omega)]
      exact worR_inv 13 0 s h hj (by decide)
  case isFalse => exact h
end KEEP
