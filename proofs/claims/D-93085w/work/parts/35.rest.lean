/-! WHAT THE CALLS ANSWER: waiting, sheets, images -/
def o_tell (s E : Nat → Int32) (v : Int32) : Op := if nW s = 24 then er s E 4 else (nI (nW s + 1), upd (upd s (492 + nW s) v) 7 (nI (nW s + 1)), E)
def chkF (s : Nat → Int32) (n p t : Nat) (a : Nat × Bool) : Nat × Bool :=
  if a.2 then (if s (44 + 4 * t) = nI p then (if a.1 < n ∧ s (492 + a.1) = nI t then (a.1 + 1, true) else (a.1, false)) else a) else a
def chkV (s : Nat → Int32) (n p : Nat) : Nat × Bool := fo (nT s) (chkF s n p) (0, true)
def o_check (s E : Nat → Int32) (x : Int32) : Op :=
  if isP s x then ((if (chkV s (nW s) (nv x)).2 then (if (chkV s (nW s) (nv x)).1 = nW s then 0 else nI (1 + (chkV s (nW s) (nv x)).1)) else nI (1 + (chkV s (nW s) (nv x)).1)), upd s 7 0, E) else er (upd s 7 0) E 1
theorem chk_stop {s : Nat → Int32} {n p : Nat} : ∀ (i j : Nat) (r : Nat), fo i (chkF s n p) (0, true) = (r, false) → i ≤ j → fo j (chkF s n p) (0, true) = (r, false)
  | i, 0, r, h, hj => by obtain rfl : i = 0 := by omega
                         exact h
  | i, j + 1, r, h, hj => by
    rcases Nat.lt_or_ge i (j + 1) with q | q
    · rw [fo_s, chk_stop i j r h (by omega)]; rfl
    · obtain rfl : i = j + 1 := by omega
      exact h
def cntV (s : Nat → Int32) (tr w : Int32) : Int32 := if w = 0 then s 0 else if w = 1 then s 1 else if w = 2 then s 2 else if w = 3 then s 3 else if w = 4 then s 6 else if w = 5 then s 7 else if w = 6 then tr else s 8
def o_count (s E : Nat → Int32) (tr w : Int32) : Op := if inB w 0 7 then (cntV s tr w, s, E) else er s E 1
def o_told (s E : Nat → Int32) (k : Int32) : Op := if inB k 1 6 then (E (nv k), s, E) else er s E 1
def o_body (s E R : Nat → Int32) (tr i : Int32) : Op := if inB i 0 (tr - 1) then (R (nv i), s, E) else er s E 2
def o_restore (s E K : Nat → Int32) (im : Int32) : Op := if im = 0 then er s E 2 else (K 3, K, E)
/-! sheets: their kinds of bits B, sizes Z, numbers M -/
def isSh (x : Int32) : Bool := inB x 0 3
abbrev SH : Type := (Nat → Int32) × (Nat → Int32) × (Nat → Int32)
abbrev OpH : Type := Int32 × SH × (Nat → Int32)
def erH (h : SH) (E : Nat → Int32) (k : Nat) : OpH := (LOW - nI k, h, upd E k (E k + 1))
def zerF (q i : Nat) (f : Nat → Int32) : Nat → Int32 := upd f (24 * q + i) 0
def bitOK (b : Int32) : Bool := decide (b = 0) || (decide (b = 8) || (decide (b = 16) || decide (b = 32)))
def o_sheet (h : SH) (E : Nat → Int32) (x b n : Int32) : OpH :=
  if isSh x && bitOK b then (if ¬ b = 0 ∧ n < 0 then erH h E 3 else if ¬ b = 0 ∧ 24 < n then erH h E 1 else (1, (upd h.1 (nv x) b, upd h.2.1 (nv x) (if b = 0 then 0 else n), fo 24 (zerF (nv x)) h.2.2), E)) else erH h E 1
def o_put (h : SH) (E : Nat → Int32) (x i v : Int32) : OpH :=
  if isSh x then (if h.1 (nv x) = 0 then erH h E 2 else if inB i 0 (h.2.1 (nv x) - 1) then (1, (h.1, h.2.1, upd h.2.2 (24 * nv x + nv i) ((v <<< ((32 - h.1 (nv x)) &&& 31)) >>> ((32 - h.1 (nv x)) &&& 31))), E) else erH h E 1) else erH h E 1
def movF (M : Nat → Int32) (x i y j k : Nat) (f : Nat → Int32) : Nat → Int32 := upd f (24 * y + j + k) (M (24 * x + i + k))
def o_move (h : SH) (E : Nat → Int32) (x i y j n : Int32) : OpH :=
  if isSh x && isSh y then (if h.1 (nv x) = 0 then erH h E 2 else if h.1 (nv y) = 0 then erH h E 2 else if ¬ h.1 (nv x) = h.1 (nv y) then erH h E 5
    else if n < 0 then erH h E 1 else if i < 0 then erH h E 1 else if j < 0 then erH h E 1 else if h.2.1 (nv x) - n < i then erH h E 1 else if h.2.1 (nv y) - n < j then erH h E 1
    else (n, (h.1, h.2.1, fo (nv n) (movF h.2.2 (nv x) (nv i) (nv y) (nv j)) h.2.2), E)) else erH h E 1
def worR (Z M : Nat → Int32) (x y : Nat) : Nat → Nat → (Nat → Int32) → Nat × (Nat → Int32)
  | 0, n, s => (n, s)
  | d + 1, n, s => if nI n < Z x then (if isT s (nI n) then (if inB (M (24 * x + n)) 0 9999 then worR Z M x y d (n + 1) (upd s (110 + 12 * y + n) (M (24 * x + n))) else (n, s)) else (n, s)) else (n, s)
def o_worths (h : SH) (s E : Nat → Int32) (x y : Int32) : Op :=
  if isSh x && isP s y then (if h.1 (nv x) = 0 then er s E 2 else (nI (worR h.2.1 h.2.2 (nv x) (nv y) 13 0 s).1, (worR h.2.1 h.2.2 (nv x) (nv y) 13 0 s).2, E)) else er s E 1
def judR (Z M : Nat → Int32) (s : Nat → Int32) (x : Nat) : Nat → Nat → Nat
  | 0, t => t
  | d + 1, t => if isT s (nI t) then (if nI t < Z x then (if M (24 * x + t) = nameV s t then judR Z M s x d (t + 1) else t) else t) else t
def o_judge (h : SH) (s E : Nat → Int32) (x : Int32) : Op :=
  if isSh x then (if h.1 (nv x) = 0 then er s E 2 else (nI (judR h.2.1 h.2.2 s (nv x) 13 0), s, E)) else er s E 1
def ShI (S : Nat → Nat → Int32) : Prop := ∀ q, q < 4 → rg (S 9 q) 24
def TrI (S : Nat → Nat → Int32) : Prop := rg (S 0 5) 30
def hS (S : Nat → Nat → Int32) : SH := (S 8, S 9, S 10)
theorem nI_subT {a b : Nat} (ha : a < 2 ^ 31) (hb : b < 2 ^ 31) : (nI a - nI b).toInt = (a : Int) - b := by
  rw [Int32.toInt_sub, nI_toInt ha, nI_toInt hb]
  exact Int.bmod_eq_of_le (by omega) (by omega)
theorem move_le {z n i : Nat} (hz : z ≤ 24) (hn : n < 2 ^ 31) (hi : i < 2 ^ 31) (h : ¬ nI z - nI n < nI i) : i + n ≤ z := by
  rw [Int32.lt_iff_toInt_lt, nI_subT (by omega) hn, nI_toInt hi] at h
  omega
theorem isT_F {s : Nat → Int32} {i : Nat} (h : Inv s) (hi : nT s ≤ i) (h2 : i < 2 ^ 31) : isT s (nI i) = false := by
  cases e : isT s (nI i) with
  | false => rfl
  | true =>
    obtain ⟨j, hj, ej⟩ := isT_of h e
    have := h.ntl
    rw [nI_eq h2 (by omega)] at ej
    omega
theorem isT_iff {s : Nat → Int32} {i : Nat} (h : Inv s) (h2 : i < 2 ^ 31) (c : isT s (nI i) = true) : i < nT s := by
  rcases Nat.lt_or_ge i (nT s) with q | q
  · exact q
  · rw [isT_F h q h2] at c; cases c
theorem inB_out {x : Int32} {n : Nat} (hn : n < 2 ^ 31) (h : x.toInt < 0 ∨ (n : Int) < x.toInt) : inB x 0 (nI n) = false := by
  cases e : inB x 0 (nI n) with
  | false => rfl
  | true =>
    obtain ⟨j, hj, rfl⟩ := inB_of hn e
    rw [nI_toInt (by omega)] at h
    omega
def shW (S : Nat → Nat → Int32) (h : SH) (E : Nat → Int32) : Nat → Nat → Int32 := sU (sU (sU (sU S 8 h.1) 9 h.2.1) 10 h.2.2) 3 E
theorem sU3 (S : Nat → Nat → Int32) (f g h : Nat → Int32) : sU (sU (sU (sU S 8 f) 9 g) 10 h) 3 (S 3) = sU (sU (sU S 8 f) 9 g) 10 h := sU_self (sU (sU (sU S 8 f) 9 g) 10 h) 3
theorem sU3a (S : Nat → Nat → Int32) (f : Nat → Int32) : sU (sU S 10 f) 3 (S 3) = sU S 10 f := sU_self (sU S 10 f) 3
theorem sU3b (S : Nat → Nat → Int32) (Q f : Nat → Int32) : sU (sU (sU (sU (sU S 11 Q) 8 (S 8)) 9 (S 9)) 10 f) 3 (S 3) = sU (sU S 11 Q) 10 f := by
  funext k
  unfold sU
  cases h3 : Nat.beq k 3 with
  | true => rw [Nat.eq_of_beq_eq_true h3]; rfl
  | false =>
    cases h10 : Nat.beq k 10 with
    | true => rfl
    | false =>
      cases h9 : Nat.beq k 9 with
      | true => rw [Nat.eq_of_beq_eq_true h9]; rfl
      | false =>
        cases h8 : Nat.beq k 8 with
        | true => rw [Nat.eq_of_beq_eq_true h8]; rfl
        | false => rfl
