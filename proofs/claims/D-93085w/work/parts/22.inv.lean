/-! WHAT IS ASKED OF THE ROW OF NUMBERS -/
def fo {α : Type} : Nat → (Nat → α → α) → α → α
  | 0, _, a => a
  | n + 1, f, a => f n (fo n f a)
theorem fo_s {α : Type} (n : Nat) (f : Nat → α → α) (a : α) : fo (n + 1) f a = f n (fo n f a) := rfl
theorem fo_0 {α : Type} (f : Nat → α → α) (a : α) : fo 0 f a = a := rfl
/-- a text's depth after k of its steps; none: it doesn't stand -/
def nmk (u c : Nat) : Bool := decide (c = 118) || (decide (c = 114) || (if u = 0 then decide (c = 109) || (decide (c = 112) || decide (c = 121)) else decide (c = 115) || (decide (c = 99) || decide (c = 117))))
def txd (u : Nat) (s : Nat → Int32) (b : Nat) : Nat → Option Nat
  | 0 => some 0
  | k + 1 => match txd u s b k with
    | none => none
    | some d => if s (b + 1 + 2 * k) = 0 then some (d + 1) else if s (b + 1 + 2 * k) = 1 then (if nmk u (nv (s (b + 2 + 2 * k))) && decide (s (b + 2 + 2 * k) = nI (nv (s (b + 2 + 2 * k)))) then some (d + 1) else none) else if s (b + 1 + 2 * k) = 2 then (if 1 ≤ d then some d else none) else if 2 ≤ d then some (d - 1) else none
def txOK (u : Nat) (s : Nat → Int32) : Prop := rg (s (182 + 125 * u)) 60 ∧ (0 < nv (s (182 + 125 * u)) → ∃ d, 1 ≤ d ∧ txd u s (182 + 125 * u) (nv (s (182 + 125 * u))) = some d)
def Inv (s : Nat → Int32) : Prop :=
  (rg (s 0) 6 ∧ rg (s 1) 12 ∧ rg (s 2) 6 ∧ rg (s 6) 60 ∧ rg (s 7) 24 ∧ rg (s 5) 1999999999) ∧
  (rg (s 10) 99 ∧ rg (s 11) 99 ∧ rg (s 12) 2 ∧ rg (s 13) 9 ∧ rg (s 14) 999) ∧
  (∀ p, p < 6 → rg (s (20 + 4 * p)) 6 ∧ rg (s (20 + 4 * p + 1)) 999999 ∧ rg (s (20 + 4 * p + 2)) 9 ∧ rg (s (20 + 4 * p + 3)) 9) ∧
  (∀ p, p < nP s → 0 < nv (s (20 + 4 * p + 3)) ∧ nv (s (20 + 4 * p + 2)) ≤ nv (s (20 + 4 * p + 3))) ∧
  (∀ t, t < 12 → rg (s (44 + 4 * t)) 5 ∧ rg (s (44 + 4 * t + 1)) 9999 ∧ rg (s (44 + 4 * t + 2)) 100 ∧ rg (s (44 + 4 * t + 3)) 1) ∧
  (∀ t, t < nT s → nv (s (44 + 4 * t)) < nP s) ∧
  (∀ k, k < 6 → rg (s (92 + 3 * k)) 11 ∧ rg (s (92 + 3 * k + 1)) 11 ∧ rg (s (92 + 3 * k + 2)) 9999) ∧
  (∀ k, k < nQ s → nv (s (92 + 3 * k)) < nT s ∧ nv (s (92 + 3 * k + 1)) < nT s) ∧
  (∀ p t, p < 6 → t < 12 → rg (s (110 + 12 * p + t)) 9999 ∧ (nP s ≤ p ∨ nT s ≤ t → s (110 + 12 * p + t) = 0)) ∧
  (txOK 0 s ∧ txOK 1 s) ∧
  (∀ i, i < 60 → rg (s (432 + i)) 255)
section INV
variable {s : Nat → Int32}
theorem Inv.np (h : Inv s) : s 0 = nI (nP s) := h.1.1.1
theorem Inv.nt (h : Inv s) : s 1 = nI (nT s) := h.1.2.1.1
theorem Inv.nq (h : Inv s) : s 2 = nI (nQ s) := h.1.2.2.1.1
theorem Inv.npl (h : Inv s) : nP s ≤ 6 := h.1.1.2
theorem Inv.ntl (h : Inv s) : nT s ≤ 12 := h.1.2.1.2
theorem Inv.nql (h : Inv s) : nQ s ≤ 6 := h.1.2.2.1.2
theorem Inv.ow (h : Inv s) {t : Nat} (ht : t < nT s) : s (44 + 4 * t) = nI (nv (s (44 + 4 * t))) := (h.2.2.2.2.1 t (Nat.lt_of_lt_of_le ht h.ntl)).1.1
theorem Inv.owl (h : Inv s) {t : Nat} (ht : t < nT s) : nv (s (44 + 4 * t)) < nP s := h.2.2.2.2.2.1 t ht
theorem Inv.pq (h : Inv s) {p : Nat} (hp : p < nP s) : rg (s (20 + 4 * p + 2)) 9 ∧ rg (s (20 + 4 * p + 3)) 9 ∧ 0 < nv (s (20 + 4 * p + 3)) ∧ nv (s (20 + 4 * p + 2)) ≤ nv (s (20 + 4 * p + 3)) :=
  ⟨(h.2.2.1 p (Nat.lt_of_lt_of_le hp h.npl)).2.2.1, (h.2.2.1 p (Nat.lt_of_lt_of_le hp h.npl)).2.2.2, (h.2.2.2.1 p hp).1, (h.2.2.2.1 p hp).2⟩
end INV
theorem inB_of {x : Int32} {n : Nat} (hn : n < 2 ^ 31) (c : inB x 0 (nI n) = true) : ∃ j : Nat, j ≤ n ∧ x = nI j := by
  unfold inB at c
  simp only [Bool.and_eq_true, Bool.not_eq_true', decide_eq_false_iff_not] at c
  obtain ⟨j, hj, rfl⟩ := nI_of c.1
  exact ⟨j, by have := c.2; rw [nI_ltI hn hj] at this; omega, rfl⟩
theorem inB_nI {j n : Nat} (hj : j ≤ n) (hn : n < 2 ^ 31) : inB (nI j) 0 (nI n) = true := by
  unfold inB
  rw [show (0 : Int32) = nI 0 from rfl]
  simp only [Bool.and_eq_true, Bool.not_eq_true', decide_eq_false_iff_not]
  rw [nI_ltI (by omega) (by omega), nI_ltI hn (by omega)]
  omega
theorem isPT_of {n : Nat} {x y : Int32} (hn : n < 2 ^ 30) (e : y = nI n) (c : inB x 0 (y - 1) = true) : ∃ j : Nat, j < n ∧ x = nI j := by
  subst e
  cases n with
  | zero =>
    exfalso
    unfold inB at c
    simp only [Bool.and_eq_true, Bool.not_eq_true', decide_eq_false_iff_not] at c
    obtain ⟨c1, c2⟩ := c
    have e : nI 0 - 1 = (-1 : Int32) := by decide
    rw [e] at c2
    rw [Int32.lt_iff_toInt_lt] at c1 c2
    have h1 : (-1 : Int32).toInt = -1 := by decide
    have h0 : (0 : Int32).toInt = 0 := by decide
    rw [h0] at c1; rw [h1] at c2
    omega
  | succ n =>
    rw [nI_pred] at c
    obtain ⟨j, h1, h2⟩ := inB_of (by omega) c
    exact ⟨j, by omega, h2⟩
theorem isP_of {s : Nat → Int32} {x : Int32} (h : Inv s) (c : isP s x = true) : ∃ j : Nat, j < nP s ∧ x = nI j := isPT_of (Nat.lt_of_le_of_lt h.npl (by decide)) h.np c
theorem isT_of {s : Nat → Int32} {x : Int32} (h : Inv s) (c : isT s x = true) : ∃ j : Nat, j < nT s ∧ x = nI j := isPT_of (Nat.lt_of_le_of_lt h.ntl (by decide)) h.nt c
theorem isPT_nI {n j : Nat} {y : Int32} (hn : n < 2 ^ 30) (e : y = nI n) (hj : j < n) : inB (nI j) 0 (y - 1) = true := by
  subst e
  cases n with
  | zero => exact absurd hj (by omega)
  | succ n => rw [nI_pred]; exact inB_nI (by omega) (by omega)
theorem isP_nI {s : Nat → Int32} {j : Nat} (h : Inv s) (hj : j < nP s) : isP s (nI j) = true := isPT_nI (Nat.lt_of_le_of_lt h.npl (by decide)) h.np hj
theorem isT_nI {s : Nat → Int32} {j : Nat} (h : Inv s) (hj : j < nT s) : isT s (nI j) = true := isPT_nI (Nat.lt_of_le_of_lt h.ntl (by decide)) h.nt hj
theorem sU_self (S : Nat → Nat → Int32) (i : Nat) : sU S i (S i) = S := by
  funext k
  unfold sU
  cases h : Nat.beq k i with
  | true => rw [Nat.eq_of_beq_eq_true h]; rfl
  | false => rfl
theorem sU_sU (S : Nat → Nat → Int32) (i : Nat) (f g : Nat → Int32) : sU (sU S i f) i g = sU S i g := by
  funext k
  unfold sU
  cases h : Nat.beq k i <;> rfl
theorem upd_s (f : Nat → Int32) (k : Nat) (x : Int32) : upd f k x k = x := by unfold upd; rw [if_pos rfl]
theorem upd_n {f : Nat → Int32} {k j : Nat} {x : Int32} (h : j ≠ k) : upd f k x j = f j := by unfold upd; rw [if_neg h]
/-- an answer, the new row, the new row of errors -/
abbrev Op : Type := Int32 × (Nat → Int32) × (Nat → Int32)
def er (s E : Nat → Int32) (k : Nat) : Op := (LOW - nI k, s, upd E k (E k + 1))
theorem bI_inj {b d : Bool} : bI b = bI d ↔ b = d := by cases b <;> cases d <;> decide
section GX3
variable {X : gX} {cc : ByteArray} {nL : Nat} {own : String} {rm : Room} {ret : Option FieldType} {k n : Nat} {ws : va_W} {pc : Nat} {lv : List (Nat × Value)} {st : List Value}
theorem g_icmp_eqB (h : gAt X cc nL own rm ret) {b d : Bool} {off : Int} (tgt : Nat) (hd : decode cc pc = .ok (.if_icmp .eq off, 3)) (ht : (pc : Int) + off = (tgt : Int)) (kt : b = d → G X k n ws tgt lv st) (kf : ¬ b = d → G X k n ws (pc + 3) lv st) : G X k n ws pc lv (.int (bI d) :: .int (bI b) :: st) := g_icmp_eq h tgt hd ht (fun c => kt (bI_inj.mp c)) (fun c => kf (fun q => c (bI_inj.mpr q)))
theorem g_icmp_neB (h : gAt X cc nL own rm ret) {b d : Bool} {off : Int} (tgt : Nat) (hd : decode cc pc = .ok (.if_icmp .ne off, 3)) (ht : (pc : Int) + off = (tgt : Int)) (kt : ¬ b = d → G X k n ws tgt lv st) (kf : b = d → G X k n ws (pc + 3) lv st) : G X k n ws pc lv (.int (bI d) :: .int (bI b) :: st) := g_icmp_ne h tgt hd ht (fun c => kt (fun q => c (bI_inj.mpr q))) (fun c => kf (bI_inj.mp c))
end GX3
