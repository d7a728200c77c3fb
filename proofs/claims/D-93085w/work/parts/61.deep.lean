/-! A TEXT THAT IS READ stands: its depth -/
def tP (u : Nat) (p : PS) : Option Nat := txd u (fun i => p.2.2.2 (i - 1)) 0 p.2.2.1
def DpO (u : Nat) (O : PS → Bool × PS) : Prop := ∀ (p : PS) (d : Nat), tP u p = some d → (O p).1 = true → tP u (O p).2 = some (d + 1)
theorem tP_lay {u d : Nat} {p : PS} (w v : Int32) (h : tP u p = some d) : tP u (lay2 w v p) = (if w = 0 then some (d + 1) else if w = 1 then (if nmk u (nv v) && decide (v = nI (nv v)) then some (d + 1) else none) else if w = 2 then (if 1 ≤ d then some d else none) else if 2 ≤ d then some (d - 1) else none) := by
  have e : txd u (fun i => upd (upd p.2.2.2 (2 * p.2.2.1) w) (2 * p.2.2.1 + 1) v (i - 1)) 0 p.2.2.1 = some d := by
    rw [txd_congr (s := fun i => p.2.2.2 (i - 1))]
    · exact h
    · intro i a b
      show upd (upd p.2.2.2 (2 * p.2.2.1) w) (2 * p.2.2.1 + 1) v (i - 1) = p.2.2.2 (i - 1)
      rw [upd_n (by omega), upd_n (by omega)]
  have e1 : upd (upd p.2.2.2 (2 * p.2.2.1) w) (2 * p.2.2.1 + 1) v (0 + 1 + 2 * p.2.2.1 - 1) = w := by
    rw [show 0 + 1 + 2 * p.2.2.1 - 1 = 2 * p.2.2.1 by omega, upd_n (by omega), upd_s]
  have e2 : upd (upd p.2.2.2 (2 * p.2.2.1) w) (2 * p.2.2.1 + 1) v (0 + 2 + 2 * p.2.2.1 - 1) = v := by
    rw [show 0 + 2 + 2 * p.2.2.1 - 1 = 2 * p.2.2.1 + 1 by omega, upd_s]
  show txd u (fun i => upd (upd p.2.2.2 (2 * p.2.2.1) w) (2 * p.2.2.1 + 1) v (i - 1)) 0 (p.2.2.1 + 1) = _
  rw [txd, e]
  simp only [e1, e2]
theorem tP_bin {u d : Nat} {p : PS} {v : Int32} (h : tP u p = some (d + 1 + 1)) : tP u (lay2 3 v p) = some (d + 1) := by
  rw [tP_lay _ _ h, if_neg (by decide), if_neg (by decide), if_neg (by decide), if_pos (by omega)]; rfl
theorem isNm_ok {u : Nat} (hu : u < 2) {c : Int32} (h : isNm u c = true) : (nmk u (nv c) && decide (c = nI (nv c))) = true := by
  rcases (show u = 0 ∨ u = 1 by omega) with rfl | rfl
  · unfold isNm at h
    simp only [if_true, Bool.or_eq_true, decide_eq_true_eq] at h
    rcases h with rfl | rfl | rfl | rfl | rfl <;> decide +kernel
  · unfold isNm at h
    simp only [Nat.one_ne_zero, if_false, Bool.or_eq_true, decide_eq_true_eq] at h
    rcases h with rfl | rfl | rfl | rfl | rfl <;> decide +kernel
theorem pR_dp {u : Nat} {O : PS → Bool × PS} {s : Nat → Int32} {Q : Int32 → Bool} (hO : DpO u O) : ∀ (m : Nat) (p : PS) (d : Nat), tP u p = some (d + 1) → (pR O s Q m p).1 = true → tP u (pR O s Q m p).2 = some (d + 1)
  | 0, p, d, h, _ => h
  | m + 1, p, d, h, c => by
    by_cases q : Q (lk s p) = true
    · by_cases g : (O (adv p)).1 = true
      · rw [pR_t q g] at c ⊢
        exact pR_dp hO m _ d (tP_bin (hO (adv p) (d + 1) h g)) c
      · rw [pR, if_pos q, if_neg g] at c
        cases c
    · rw [pR_n (by cases e : Q (lk s p); rfl; exact absurd e q)]; exact h
theorem pL_dp {u : Nat} {O : PS → Bool × PS} {s : Nat → Int32} {Q : Int32 → Bool} (hO : DpO u O) : DpO u (pL O s Q) := fun p d h c => by
  by_cases g : (O p).1 = true
  · rw [pL_t g] at c ⊢; exact pR_dp hO 61 _ d (hO p d h g) c
  · rw [pL, if_neg g] at c; cases c
theorem pC_dp {u : Nat} {O : PS → Bool × PS} {s : Nat → Int32} (hO : DpO u O) : DpO u (pC O s) := fun p d h c => by
  by_cases g : (O p).1 = true
  · have h1 := hO p d h g
    by_cases q : isCmp (lk s (O p).2) = true
    · by_cases g2 : (O (adv (O p).2)).1 = true
      · rw [pC_t g q g2] at c ⊢
        exact tP_bin (hO (adv (O p).2) (d + 1) h1 g2)
      · rw [pC, if_pos g, if_pos q, if_neg g2] at c; cases c
    · rw [pC, if_pos g, if_neg q]; exact h1
  · rw [pC, if_neg g] at c; cases c
theorem pWhole_dp {u : Nat} {O : PS → Bool × PS} {s : Nat → Int32} (hO : DpO u O) : DpO u (pWhole O s) := pL_dp (pL_dp (pC_dp (pL_dp (pL_dp hO))))
theorem numR_tP {u : Nat} {s : Nat → Int32} : ∀ (k : Nat) (v : Int32) (p : PS), tP u (numR s k v p).2 = tP u p
  | 0, _, _ => rfl
  | k + 1, v, p => by
    unfold numR
    by_cases c : inB (lk s p) 48 57 = true
    · rw [if_pos c]; exact numR_tP k _ (adv p)
    · rw [if_neg c]
theorem pLeaf_dp {u : Nat} (hu : u < 2) {s : Nat → Int32} {p : PS} {R : Bool × PS} {d : Nat} (h : tP u p = some d) (hR : R.1 = true → tP u R.2 = some (d + 1)) (c : (pLeaf u s p R).1 = true) : tP u (pLeaf u s p R).2 = some (d + 1) := by
  unfold pLeaf at c ⊢
  by_cases a : isNm u (lk s p) = true
  · rw [if_pos a]
    show tP u (lay2 1 (lk s p) (adv p)) = _
    rw [tP_lay (p := adv p) _ _ h, if_neg (by decide), if_pos rfl, if_pos (isNm_ok hu a)]
  · rw [if_neg a] at c ⊢
    by_cases b : inB (lk s p) 48 57 = true
    · rw [if_pos b]
      show tP u (lay2 0 _ (numR s 4 0 p).2) = _
      rw [tP_lay _ _ ((numR_tP 4 0 p).trans h), if_pos rfl]
    · rw [if_neg b] at c ⊢; exact hR c
theorem pOne_dp {u : Nat} (hu : u < 2) (s : Nat → Int32) : ∀ k, DpO u (pOne u s k)
  | 0 => fun p d h c => pLeaf_dp hu h (fun z => by cases z) c
  | k + 1 => fun p d h c => by
    refine pLeaf_dp hu h (fun z => ?_) c
    by_cases a : lk s p = 33
    · rw [if_pos a] at z ⊢
      by_cases g : (pOne u s k (opn p)).1 = true
      · rw [if_pos g]
        show tP u (lay2 2 0 (cls (pOne u s k (opn p)).2)) = _
        rw [tP_lay (p := cls (pOne u s k (opn p)).2) _ _ (pOne_dp hu s k (opn p) d h g), if_neg (by decide), if_neg (by decide), if_pos rfl, if_pos (by omega)]
      · rw [if_neg g] at z; cases z
    · rw [if_neg a] at z ⊢
      by_cases b : lk s p = 40
      · rw [if_pos b] at z ⊢
        by_cases g : (pWhole (pOne u s k) s (opn p)).1 = true
        · rw [if_pos g] at z ⊢
          by_cases e : lk s (pWhole (pOne u s k) s (opn p)).2 = 41
          · rw [if_pos e]
            exact pWhole_dp (pOne_dp hu s k) (opn p) d h g
          · rw [if_neg e] at z; cases z
        · rw [if_neg g] at z; cases z
      · rw [if_neg b] at z; cases z
theorem prg_dp {u : Nat} (hu : u < 2) (s R : Nat → Int32) (c : (prg s R u).1 = true) : tP u (prg s R u).2 = some 1 := pWhole_dp (pOne_dp hu s 5) (0, 0, 0, R) 0 rfl c
