/-! WHAT THE CALLS ANSWER: naming, years -/
def nC (s : Nat → Int32) : Nat := nv (s 6)
def nW (s : Nat → Int32) : Nat := nv (s 7)
theorem Inv.nc {s : Nat → Int32} (h : Inv s) : s 6 = nI (nC s) := h.1.2.2.2.1.1
theorem Inv.ncl {s : Nat → Int32} (h : Inv s) : nC s ≤ 60 := h.1.2.2.2.1.2
theorem Inv.nw {s : Nat → Int32} (h : Inv s) : s 7 = nI (nW s) := h.1.2.2.2.2.1.1
theorem Inv.nwl {s : Nat → Int32} (h : Inv s) : nW s ≤ 24 := h.1.2.2.2.2.1.2
def byt (w : Int64) (k : Nat) : Int32 := Int64.toInt32 ((w >>> (Int32.toInt64 (nI (8 * k)) &&& 63)) &&& 255)
def feedF (s : Nat → Int32) (w : Int64) (k : Nat) (s' : Nat → Int32) : Nat → Int32 := upd (upd s' (432 + (nC s + k)) (byt w k)) 6 (nI (nC s + k + 1))
def o_feed (s E : Nat → Int32) (w : Int64) (n : Int32) : Op := if inB n 1 8 then (if 60 < nC s + nv n then er s E 4 else (nI (nC s + nv n), fo (nv n) (feedF s w) s, E)) else er s E 1
theorem feed6 {s : Nat → Int32} (h : s 6 = nI (nC s)) (w : Int64) (n : Nat) : fo n (feedF s w) s 6 = nI (nC s + n) := by
  cases n with
  | zero => exact h
  | succ n => rw [fo_s]; unfold feedF; rw [upd_s]; rfl
theorem inB1_of {x : Int32} {n : Nat} (hn : n < 2 ^ 31) (c : inB x 1 (nI n) = true) : ∃ j : Nat, 1 ≤ j ∧ j ≤ n ∧ x = nI j := by
  unfold inB at c
  simp only [Bool.and_eq_true, Bool.not_eq_true', decide_eq_false_iff_not] at c
  obtain ⟨j, hj, rfl⟩ := nI_of (x := x) (fun z => c.1 (Int32.lt_iff_toInt_lt.mpr (by have := Int32.lt_iff_toInt_lt.mp z; have h0 : (0 : Int32).toInt = 0 := rfl; have h1 : (1 : Int32).toInt = 1 := rfl; omega)))
  refine ⟨j, ?_, ?_, rfl⟩
  · have := c.1; rw [show (1 : Int32) = nI 1 from rfl, nI_ltI hj (by decide)] at this; omega
  · have := c.2; rw [nI_ltI hn hj] at this; omega
def elsF (s : Nat → Int32) (t k : Nat) (m : Int32) : Int32 := if ¬ nI k = s (44 + 4 * t) ∧ m < val s k t then val s k t else m
def els (s : Nat → Int32) (t : Nat) : Int32 := fo (nP s) (elsF s t) 0
def hasT (s : Nat → Int32) (u : Nat) : Bool := decide (0 < s (182 + 125 * u))
def joi (c x y : Int32) : Int32 :=
  if c = 43 then x + y else if c = 45 then x - y else if c = 42 then x * y
  else if c = 47 then (if y = 0 then 0 else if y = -1 then -x else x / y)
  else if c = 37 then (if y = 0 then 0 else if y = -1 then 0 else x - x / y * y)
  else if c = 60 then (if x < y then 1 else 0) else if c = 62 then (if y < x then 1 else 0) else if c = 61 then (if x = y then 1 else 0)
  else if c = 38 then (if x = 0 then 0 else if y = 0 then 0 else 1) else (if x = 0 then (if y = 0 then 0 else 1) else 1)
/-- a text's step on a pile -/
def wkF (nm : Nat → Int32) (s : Nat → Int32) (b k : Nat) (P : (Nat → Int32) × Nat) : (Nat → Int32) × Nat :=
  if s (b + 1 + 2 * k) = 0 then (upd P.1 P.2 (s (b + 2 + 2 * k)), P.2 + 1) else if s (b + 1 + 2 * k) = 1 then (upd P.1 P.2 (nm (nv (s (b + 2 + 2 * k)))), P.2 + 1)
  else if s (b + 1 + 2 * k) = 2 then (upd P.1 (P.2 - 1) (if P.1 (P.2 - 1) = 0 then 1 else 0), P.2) else (upd P.1 (P.2 - 2) (joi (s (b + 2 + 2 * k)) (P.1 (P.2 - 2)) (P.1 (P.2 - 1))), P.2 - 1)
def wkS (nm : Nat → Int32) (s : Nat → Int32) (b n : Nat) : (Nat → Int32) × Nat := fo n (wkF nm s b) (fun _ => 0, 0)
def wkV (nm : Nat → Int32) (s : Nat → Int32) (b : Nat) : Int32 := (wkS nm s b (nv (s b))).1 0
def nm0 (s : Nat → Int32) (t c : Nat) : Int32 := if c = 118 then val s (owr s t) t else if c = 109 then els s t else if c = 112 then s (44 + 4 * t + 1) else if c = 114 then s 10 else s 3
def nm1 (s : Nat → Int32) (t c : Nat) : Int32 := if c = 118 then val s (owr s t) t else if c = 115 then s (44 + 4 * t + 2) else if c = 99 then s 14 else if c = 117 then s (20 + 4 * owr s t + 1) else s 10
/-! prices -/
def allF (s : Nat → Int32) (t k : Nat) (d : Int64) : Int64 := d * (if nI k = s (44 + 4 * t) then (1 : Int64) else Int32.toInt64 (s (20 + 4 * k + 3)))
def allB (s : Nat → Int32) (t : Nat) : Int64 := fo (nP s) (allF s t) 1
def nobF (s : Nat → Int32) (t : Nat) (price : Int32) (k : Nat) (n : Int64) : Int64 := n * (if nI k = s (44 + 4 * t) then (1 : Int64) else if price < val s k t then Int32.toInt64 (s (20 + 4 * k + 3) - s (20 + 4 * k + 2)) else Int32.toInt64 (s (20 + 4 * k + 3)))
def nob (s : Nat → Int32) (t : Nat) (price : Int32) : Int64 := fo (nP s) (nobF s t price) 1
def gaO (s : Nat → Int32) (t : Nat) (price part : Int32) : Int64 :=
  100 * ((allB s t - nob s t price) * Int32.toInt64 price + nob s t price * Int32.toInt64 (val s (owr s t) t)) - Int32.toInt64 (part * price) * allB s t
def betr (s : Nat → Int32) (t : Nat) (best price part : Int32) : Int32 :=
  if inB price 0 9999 then (if gaO s t best part < gaO s t price part then price else if gaO s t price part = gaO s t best part then (if price < best then price else best) else best) else best
def bestF (s : Nat → Int32) (t : Nat) (part : Int32) (k : Nat) (b : Int32) : Int32 := if nI k = s (44 + 4 * t) then b else betr s t (betr s t b (val s k t) part) (val s k t - 1) part
def bestW (s : Nat → Int32) (t : Nat) (part : Int32) : Int32 := fo (nP s) (bestF s t part) (betr s t 0 9999 part)
/-! names -/
def nameB (s : Nat → Int32) (t : Nat) : Int32 :=
  if s (20 + 4 * owr s t) = 1 then val s (owr s t) t else if s (20 + 4 * owr s t) = 2 then 2 * val s (owr s t) t else if s (20 + 4 * owr s t) = 3 then val s (owr s t) t / 2
  else if s (20 + 4 * owr s t) = 4 then els s t - 1 else if s (20 + 4 * owr s t) = 5 then (if hasT s 0 then wkV (nm0 s t) s 182 else val s (owr s t) t) else if s (20 + 4 * owr s t) = 6 then bestW s t (s 10) else s (44 + 4 * t + 1)
def nameV (s : Nat → Int32) (t : Nat) : Int32 := heI (nameB s t) 0 9999
def mendB (s : Nat → Int32) (t : Nat) : Bool :=
  if s (44 + 4 * t + 2) = 100 then false else if s (20 + 4 * owr s t + 1) < s 14 then false else if hasT s 1 then decide (¬ wkV (nm1 s t) s 307 = 0) else decide (¬ val s (owr s t) t / 10 < s 14)
def o_named (s E : Nat → Int32) (x : Int32) : Op := if isT s x then (nameV s (nv x), s, E) else er s E 1
def o_mended (s E : Nat → Int32) (x : Int32) : Op := if isT s x then (bI (mendB s (nv x)), s, E) else er s E 1
/-! a year -/
def dz (z : Int32) : Int32 := z * 1103515245 + 12345
def drw (z : Int32) : Int32 := (Int32.toUInt32 z >>> (Int32.toUInt32 8 &&& Int32.toUInt32 31)).toInt32
def getV (x v : Int32) : Int32 := if 999999 - x < v then 999999 else x + v
def gets (s : Nat → Int32) (p : Nat) (v : Int32) : Nat → Int32 := upd s (20 + 4 * p + 1) (getV (s (20 + 4 * p + 1)) v)
def payV (s : Nat → Int32) (t : Nat) : Int32 := if s 10 * s (44 + 4 * t + 1) / 100 < s (20 + 4 * owr s t + 1) then s 10 * s (44 + 4 * t + 1) / 100 else s (20 + 4 * owr s t + 1)
def potV (x pay : Int32) : Int32 := if 1999999999 - x < pay then 1999999999 else x + pay
def pays (s : Nat → Int32) (t : Nat) : Nat → Int32 := upd (upd s (20 + 4 * owr s t + 1) (s (20 + 4 * owr s t + 1) - payV s t)) 5 (potV (s 5) (payV s t))
def sndV (x : Int32) : Int32 := if x < 0 then 0 else x
/-- the thing t is sold by o to i -/
def sell (s : Nat → Int32) (t o i : Nat) (price : Int32) : Nat → Int32 :=
  upd (upd (upd (gets (upd s (20 + 4 * i + 1) (s (20 + 4 * i + 1) - price)) o price) (44 + 4 * t) (nI i)) 4 (s 4 + 1)) (44 + 4 * t + 2) (sndV (s (44 + 4 * t + 2) - s 11))
/-- from the i-th on, d of them yet to come -/
def askR (t o : Nat) (price : Int32) : Nat → Nat → (Nat → Int32) → (Nat → Int32)
  | 0, _, s => s
  | d + 1, i, s => if i = o then askR t o price d (i + 1) s else
    if drw (dz (s 8)) - drw (dz (s 8)) / s (20 + 4 * i + 3) * s (20 + 4 * i + 3) < s (20 + 4 * i + 2) then
      (if price < val s i t then (if s (20 + 4 * i + 1) < price then askR t o price d (i + 1) (upd s 8 (dz (s 8))) else sell (upd s 8 (dz (s 8))) t o i price) else askR t o price d (i + 1) (upd s 8 (dz (s 8))))
    else askR t o price d (i + 1) (upd s 8 (dz (s 8)))
def asks (s : Nat → Int32) (t : Nat) : Nat → Int32 := askR t (owr s t) (s (44 + 4 * t + 1)) (nP s) 0 s
def mends (s : Nat → Int32) (t : Nat) : Nat → Int32 :=
  if mendB s t then upd (upd s (20 + 4 * owr s t + 1) (s (20 + 4 * owr s t + 1) - s 14)) (44 + 4 * t + 2) (if 100 < s (44 + 4 * t + 2) + 10 then 100 else s (44 + 4 * t + 2) + 10) else s
def poorF (s : Nat → Int32) (k b : Nat) : Nat := if s (20 + 4 * k + 1) < s (20 + 4 * b + 1) then k else b
def poor (s : Nat → Int32) : Nat := fo (nP s) (poorF s) 0
def shares (s : Nat → Int32) : Nat → Int32 :=
  if s 12 = 0 then s else if nP s = 0 then s else if s 12 = 1 then upd (fo (nP s) (fun k s' => gets s' k (s 5 / nI (nP s))) s) 5 (s 5 - s 5 / nI (nP s) * nI (nP s))
  else upd (gets s (poor s) (s 5)) 5 0
def y1 (s : Nat → Int32) : Nat → Int32 := fo (nT s) (fun t s' => upd s' (44 + 4 * t + 1) (nameV s' t)) s
def y2 (s : Nat → Int32) : Nat → Int32 := fo (nT s) (fun t s' => pays s' t) s
def y3 (s : Nat → Int32) : Nat → Int32 := fo (nT s) (fun t s' => if s' (44 + 4 * t + 3) = 0 then asks s' t else s') s
def y4 (s : Nat → Int32) : Nat → Int32 := fo (nT s) (fun t s' => mends s' t) s
def y5 (s : Nat → Int32) : Nat → Int32 := upd (shares s) 3 (shares s 3 + 1)
def year (s : Nat → Int32) : Nat → Int32 := y5 (y4 (y3 (y2 (y1 s))))
def yearN : Nat → (Nat → Int32) → (Nat → Int32) := fun n s => fo n (fun _ s' => year s') s
def o_years (s E : Nat → Int32) (n : Int32) : Op := if inB n 1 40 then (if 9999 < s 3 + n then er s E 3 else (yearN (nv n) s 4, yearN (nv n) s, E)) else er s E 1
def o_seed (s E : Nat → Int32) (v : Int32) : Op := (s 8, upd s 8 v, E)
/-! the reference's two rows of scratch -/
def scr (S : Nat → Nat → Int32) (N P : Nat → Int32) : Nat → Nat → Int32 := sU (sU S 5 N) 6 P
theorem scr_scr (S : Nat → Nat → Int32) (N P N' P' : Nat → Int32) : scr (scr S N P) N' P' = scr S N' P' := by
  funext k
  unfold scr sU
  cases h : Nat.beq k 6 <;> cases h2 : Nat.beq k 5 <;> rfl
theorem scr_self (S : Nat → Nat → Int32) : scr S (S 5) (S 6) = S := by
  unfold scr
  rw [sU_self]
  exact sU_self S 6
theorem wkS_s (nm : Nat → Int32) (s : Nat → Int32) (b i : Nat) : wkS nm s b (i + 1) = wkF nm s b i (wkS nm s b i) := rfl
theorem wkS_0 (nm : Nat → Int32) (s : Nat → Int32) (b : Nat) : wkS nm s b 0 = (fun _ => 0, 0) := rfl
theorem txd_s {u : Nat} {s : Nat → Int32} {b k d' : Nat} (h : txd u s b (k + 1) = some d') : ∃ d, txd u s b k = some d ∧ (s (b + 1 + 2 * k) = 0 → d' = d + 1) ∧ (¬ s (b + 1 + 2 * k) = 0 → s (b + 1 + 2 * k) = 1 → d' = d + 1 ∧ nmk u (nv (s (b + 2 + 2 * k))) = true ∧ s (b + 2 + 2 * k) = nI (nv (s (b + 2 + 2 * k)))) ∧ (¬ s (b + 1 + 2 * k) = 0 → ¬ s (b + 1 + 2 * k) = 1 → s (b + 1 + 2 * k) = 2 → d' = d ∧ 1 ≤ d) ∧ (¬ s (b + 1 + 2 * k) = 0 → ¬ s (b + 1 + 2 * k) = 1 → ¬ s (b + 1 + 2 * k) = 2 → d' = d - 1 ∧ 2 ≤ d) := by
  unfold txd at h
  cases hd : txd u s b k with
  | none => rw [hd] at h; cases h
  | some d =>
    rw [hd] at h
    refine ⟨d, rfl, fun a => ?_, fun a c => ?_, fun a c e => ?_, fun a c e => ?_⟩
    · simp only [a, if_true] at h; exact (Option.some.inj h).symm
    · simp only [c, if_true] at h
      rw [if_neg (by decide)] at h
      split at h
      next z =>
        simp only [Bool.and_eq_true, decide_eq_true_eq] at z
        exact ⟨(Option.some.inj h).symm, z.1, z.2⟩
      next => cases h
    · simp only [e] at h
      rw [if_neg (by decide), if_neg (by decide), if_pos trivial] at h
      split at h
      next z => exact ⟨(Option.some.inj h).symm, z⟩
      next => cases h
    · simp only [if_neg a, if_neg c, if_neg e] at h
      split at h
      next z => exact ⟨(Option.some.inj h).symm, z⟩
      next => cases h
theorem txd_pre {u : Nat} {s : Nat → Int32} {b : Nat} : ∀ {n d : Nat}, txd u s b n = some d → ∀ i, i ≤ n → ∃ d', txd u s b i = some d'
  | 0, d, h, i, hi => by obtain rfl : i = 0 := by omega
                         exact ⟨_, h⟩
  | n + 1, d, h, i, hi => by
    rcases Nat.lt_or_ge i (n + 1) with q | q
    · obtain ⟨d2, h2, -⟩ := txd_s h
      exact txd_pre h2 i (by omega)
    · obtain rfl : i = n + 1 := by omega
      exact ⟨_, h⟩
theorem txd_wk {u : Nat} {s : Nat → Int32} {b : Nat} (nm : Nat → Int32) : ∀ {i d : Nat}, txd u s b i = some d → (wkS nm s b i).2 = d ∧ d ≤ i
  | 0, d, h => by
    have e : 0 = d := Option.some.inj h
    exact ⟨e, by omega⟩
  | i + 1, d, h => by
    obtain ⟨d2, h2, k1, k2, k3, k4⟩ := txd_s h
    obtain ⟨e, l⟩ := txd_wk nm h2
    rw [wkS_s]
    unfold wkF
    by_cases a : s (b + 1 + 2 * i) = 0
    · rw [if_pos a]; have := k1 a; exact ⟨by simp only [e]; omega, by omega⟩
    · rw [if_neg a]
      by_cases c : s (b + 1 + 2 * i) = 1
      · rw [if_pos c]; have := (k2 a c).1; exact ⟨by simp only [e]; omega, by omega⟩
      · rw [if_neg c]
        by_cases f : s (b + 1 + 2 * i) = 2
        · rw [if_pos f]; have := k3 a c f; exact ⟨by simp only [e]; omega, by omega⟩
        · rw [if_neg f]; have := k4 a c f; exact ⟨by simp only [e]; omega, by omega⟩
theorem tx_step {u : Nat} {s : Nat → Int32} {nm : Nat → Int32} {i n : Nat} (h : txOK u s) (hi : i < nv (s (182 + 125 * u))) (hn : n = (wkS nm s (182 + 125 * u) i).2) : n ≤ i ∧ (¬ s (182 + 125 * u + 1 + 2 * i) = 0 → s (182 + 125 * u + 1 + 2 * i) = 1 → nmk u (nv (s (182 + 125 * u + 2 + 2 * i))) = true ∧ s (182 + 125 * u + 2 + 2 * i) = nI (nv (s (182 + 125 * u + 2 + 2 * i)))) ∧ (¬ s (182 + 125 * u + 1 + 2 * i) = 0 → ¬ s (182 + 125 * u + 1 + 2 * i) = 1 → s (182 + 125 * u + 1 + 2 * i) = 2 → 1 ≤ n) ∧ (¬ s (182 + 125 * u + 1 + 2 * i) = 0 → ¬ s (182 + 125 * u + 1 + 2 * i) = 1 → ¬ s (182 + 125 * u + 1 + 2 * i) = 2 → 2 ≤ n) := by
  obtain ⟨d, -, hd⟩ := h.2 (by omega)
  obtain ⟨d2, h2⟩ := txd_pre hd (i + 1) hi
  obtain ⟨d3, h3, -, k2, k3, k4⟩ := txd_s h2
  obtain ⟨e, l⟩ := txd_wk nm h3
  rw [← hn] at e
  subst e
  exact ⟨l, fun a c => (k2 a c).2, fun a c f => (k3 a c f).2, fun a c f => (k4 a c f).2⟩
theorem tx_end {u : Nat} {s : Nat → Int32} {nm : Nat → Int32} (h : txOK u s) (h0 : 0 < nv (s (182 + 125 * u))) : 1 ≤ (wkS nm s (182 + 125 * u) (nv (s (182 + 125 * u)))).2 := by
  obtain ⟨d, h1, hd⟩ := h.2 h0
  obtain ⟨e, -⟩ := txd_wk nm hd
  omega
theorem nmk_lt {u c : Nat} (h : nmk u c = true) : c < 128 := by
  unfold nmk at h
  split at h <;> simp at h <;> omega
theorem wk_upd {P Q : Nat → Int32} {n m k : Nat} {x y : Int32} (h : ∀ j, j < n → P j = Q j) (hxy : x = y) (hm : ∀ j, j < m → j ≠ k → j < n) : ∀ j, j < m → upd P k x j = upd Q k y j := by
  intro j hj
  unfold upd
  by_cases e : j = k
  · rw [if_pos e, if_pos e, hxy]
  · rw [if_neg e, if_neg e]; exact h j (hm j hj e)
section GX4
variable {X : gX} {cc : ByteArray} {nL : Nat} {own : String} {rm : Room} {ret : Option FieldType} {k n : Nat} {ws : va_W} {pc : Nat} {lv : List (Nat × Value)} {st : List Value}
theorem g_dec (h : gAt X cc nL own rm ret) {j a : Nat} {lv' : List (Nat × Value)} (hle : 1 ≤ a) (hd : decode cc pc = .ok (.iinc j (-1), 3)) (hx : lvg lv j = some (.int (nI a))) (hn : j < nL) (hl : lvi j (.int (nI (a - 1))) (lvk lv j) = lv') (kk : G X k n ws (pc + 3) lv' st) : G X k n ws pc lv st := by
  obtain ⟨b, rfl⟩ : ∃ b, a = b + 1 := ⟨a - 1, by omega⟩
  exact g_iinc h hd hx (show nI (b + 1) + Int32.ofInt (-1) = nI (b + 1 - 1) from pk_m1 b) hn hl kk
end GX4

abbrev OpL : Type := Int64 × (Nat → Int32) × (Nat → Int32)
def erL (s E : Nat → Int32) (k : Nat) : OpL := (Int32.toInt64 (LOW - nI k), s, upd E k (E k + 1))
def gcL : Nat → Int64 → Int64 → Int64
  | 0, a, _ => a
  | n + 1, a, b => if b = 0 then a else gcL n b (a - a / b * b)
def absL (a : Int64) : Int64 := if a < 0 then -a else a
def lowV (up below : Int64) (part : Int32) : Int64 := if part = 0 then up / gcL below.toInt.natAbs (absL up) below else below / gcL below.toInt.natAbs (absL up) below
def isPr (s : Nat → Int32) (x price part : Int32) : Bool := isT s x && (inB price 0 9999 && inB part 0 1)
def o_taken (s E : Nat → Int32) (x price part : Int32) : OpL := if isPr s x price part then (lowV (allB s (nv x) - nob s (nv x) price) (allB s (nv x)) part, s, E) else erL s E 1
def o_gain (s E : Nat → Int32) (x price part : Int32) : OpL := if isPr s x price part then (lowV (gaO s (nv x) price (s 10)) (100 * allB s (nv x)) part, s, E) else erL s E 1
def o_best (s E : Nat → Int32) (x : Int32) : Op := if isT s x then (bestW s (nv x) (s 10), s, E) else er s E 1
def rightR (s : Nat → Int32) (t : Nat) : Nat → Nat → Nat
  | 0, i => i
  | d + 1, i => if bestW s t (nI i) = val s (owr s t) t then i else rightR s t d (i + 1)
def o_right (s E : Nat → Int32) (x : Int32) : Op := if isT s x then (if rightR s (nv x) 100 0 < 100 then (nI (rightR s (nv x) 100 0), s, E) else er s E 2) else er s E 1
theorem lrem_toInt {a b : Int64} (hb : ¬ b = 0) : (a - a / b * b).toInt = a.toInt.tmod b.toInt := by
  have hb' : b.toInt ≠ 0 := fun z => hb (Int64.toInt_inj.mp (z.trans (by decide : (0 : Int) = (0 : Int64).toInt)))
  rw [Int64.toInt_sub, Int64.toInt_mul, Int64.toInt_div]
  simp only [Int.sub_bmod_bmod, Int.bmod_mul_bmod]
  rw [show a.toInt - a.toInt.tdiv b.toInt * b.toInt = a.toInt.tmod b.toInt by rw [Int.tmod_def, Int.mul_comm]]
  have h1 : (a.toInt.tmod b.toInt).natAbs < b.toInt.natAbs := by rw [Int.natAbs_tmod]; exact Nat.mod_lt _ (by omega)
  have h2 := b.le_toInt
  have h3 := b.toInt_lt
  refine Int.bmod_eq_of_le ?_ ?_ <;> omega
theorem lrem_abs {a b : Int64} (hb : ¬ b = 0) : (a - a / b * b).toInt.natAbs < b.toInt.natAbs := by
  have hb' : b.toInt ≠ 0 := fun z => hb (Int64.toInt_inj.mp (z.trans (by decide : (0 : Int) = (0 : Int64).toInt)))
  rw [lrem_toInt hb, Int.natAbs_tmod]
  exact Nat.mod_lt _ (by omega)
theorem gcL_0 (n : Nat) (a : Int64) : gcL n a 0 = a := by cases n <;> simp [gcL]
theorem gcL_s {n : Nat} {a b : Int64} (hb : ¬ b = 0) (h : b.toInt.natAbs ≤ n + 1) : gcL (n + 1) a b = gcL n b (a - a / b * b) := by rw [gcL, if_neg hb]
/-- enough steps are enough -/
theorem gcL_any : ∀ (n m : Nat) (a b : Int64), b.toInt.natAbs ≤ n → b.toInt.natAbs ≤ m → gcL n a b = gcL m a b
  | 0, m, a, b, h1, h2 => by
    have : b.toInt = 0 := by omega
    have hb : b = 0 := Int64.toInt_inj.mp (this.trans (by decide : (0 : Int) = (0 : Int64).toInt))
    subst hb
    rw [gcL_0, gcL_0]
  | n + 1, 0, a, b, h1, h2 => by
    have : b.toInt = 0 := by omega
    have hb : b = 0 := Int64.toInt_inj.mp (this.trans (by decide : (0 : Int) = (0 : Int64).toInt))
    subst hb
    rw [gcL_0, gcL_0]
  | n + 1, m + 1, a, b, h1, h2 => by
    by_cases hb : b = 0
    · subst hb; rw [gcL_0, gcL_0]
    · rw [gcL, gcL, if_neg hb, if_neg hb]
      have := lrem_abs (a := a) hb
      exact gcL_any n m b _ (by omega) (by omega)
theorem g_rec {α : Type} (μ : α → Nat) {P : α → Prop} (h : ∀ a, (∀ b, μ b < μ a → P b) → P a) : ∀ a, P a := by
  have key : ∀ n a, μ a ≤ n → P a := by
    intro n
    induction n with
    | zero => intro a ha; exact h a (fun b hb => absurd hb (by omega))
    | succ n ih => intro a ha; exact h a (fun b hb => ih b (by omega))
  exact fun a => key (μ a) a (Nat.le_refl _)

theorem lgc (x y : Int64) : (lg_cmp x y = -1 ∧ x < y ∧ ¬ x = y ∧ ¬ y < x) ∨ (lg_cmp x y = 0 ∧ ¬ x < y ∧ x = y ∧ ¬ y < x) ∨ (lg_cmp x y = 1 ∧ ¬ x < y ∧ ¬ x = y ∧ y < x) := by
  unfold lg_cmp
  by_cases h1 : y < x
  · right; right; rw [if_pos h1]; exact ⟨rfl, fun z => absurd (Int64.lt_trans h1 z) Int64.lt_irrefl, fun e => by subst e; exact absurd h1 Int64.lt_irrefl, h1⟩
  · rw [if_neg h1]
    by_cases h2 : x = y
    · right; left; rw [if_pos h2]; subst h2; exact ⟨rfl, h1, rfl, h1⟩
    · left; rw [if_neg h2]; exact ⟨rfl, (Int64.lt_or_lt_of_ne h2).resolve_right h1, h2, h1⟩
section GX5
variable {X : gX} {cc : ByteArray} {nL : Nat} {own : String} {rm : Room} {ret : Option FieldType} {k n : Nat} {ws : va_W} {pc : Nat} {lv : List (Nat × Value)} {st : List Value}
theorem g_if_eqL (h : gAt X cc nL own rm ret) {x y : Int64} {off : Int} (tgt : Nat) (hd : decode cc pc = .ok (.ifCond .eq off, 3)) (ht : (pc : Int) + off = (tgt : Int)) (kt : x = y → G X k n ws tgt lv st) (kf : ¬ x = y → G X k n ws (pc + 3) lv st) : G X k n ws pc lv (.int (lg_cmp x y) :: st) := by
  rcases lgc x y with ⟨e, q1, q2, q3⟩ | ⟨e, q1, q2, q3⟩ | ⟨e, q1, q2, q3⟩ <;> rw [e] <;> exact g_if_eq h tgt hd ht (fun c => by first | exact kt (by assumption) | (exfalso; revert c; decide)) (fun c => by first | exact kf (by assumption) | (exfalso; revert c; decide))
theorem g_if_neL (h : gAt X cc nL own rm ret) {x y : Int64} {off : Int} (tgt : Nat) (hd : decode cc pc = .ok (.ifCond .ne off, 3)) (ht : (pc : Int) + off = (tgt : Int)) (kt : ¬ x = y → G X k n ws tgt lv st) (kf : x = y → G X k n ws (pc + 3) lv st) : G X k n ws pc lv (.int (lg_cmp x y) :: st) := by
  rcases lgc x y with ⟨e, q1, q2, q3⟩ | ⟨e, q1, q2, q3⟩ | ⟨e, q1, q2, q3⟩ <;> rw [e] <;> exact g_if_ne h tgt hd ht (fun c => by first | exact kt (by assumption) | (exfalso; revert c; decide)) (fun c => by first | exact kf (by assumption) | (exfalso; revert c; decide))
theorem g_if_ltL (h : gAt X cc nL own rm ret) {x y : Int64} {off : Int} (tgt : Nat) (hd : decode cc pc = .ok (.ifCond .lt off, 3)) (ht : (pc : Int) + off = (tgt : Int)) (kt : x < y → G X k n ws tgt lv st) (kf : ¬ x < y → G X k n ws (pc + 3) lv st) : G X k n ws pc lv (.int (lg_cmp x y) :: st) := by
  rcases lgc x y with ⟨e, q1, q2, q3⟩ | ⟨e, q1, q2, q3⟩ | ⟨e, q1, q2, q3⟩ <;> rw [e] <;> exact g_if_lt h tgt hd ht (fun c => by first | exact kt (by assumption) | (exfalso; revert c; decide)) (fun c => by first | exact kf (by assumption) | (exfalso; revert c; decide))
theorem g_if_geL (h : gAt X cc nL own rm ret) {x y : Int64} {off : Int} (tgt : Nat) (hd : decode cc pc = .ok (.ifCond .ge off, 3)) (ht : (pc : Int) + off = (tgt : Int)) (kt : ¬ x < y → G X k n ws tgt lv st) (kf : x < y → G X k n ws (pc + 3) lv st) : G X k n ws pc lv (.int (lg_cmp x y) :: st) := by
  rcases lgc x y with ⟨e, q1, q2, q3⟩ | ⟨e, q1, q2, q3⟩ | ⟨e, q1, q2, q3⟩ <;> rw [e] <;> exact g_if_ge h tgt hd ht (fun c => by first | exact kt (by assumption) | (exfalso; revert c; decide)) (fun c => by first | exact kf (by assumption) | (exfalso; revert c; decide))
theorem g_if_gtL (h : gAt X cc nL own rm ret) {x y : Int64} {off : Int} (tgt : Nat) (hd : decode cc pc = .ok (.ifCond .gt off, 3)) (ht : (pc : Int) + off = (tgt : Int)) (kt : y < x → G X k n ws tgt lv st) (kf : ¬ y < x → G X k n ws (pc + 3) lv st) : G X k n ws pc lv (.int (lg_cmp x y) :: st) := by
  rcases lgc x y with ⟨e, q1, q2, q3⟩ | ⟨e, q1, q2, q3⟩ | ⟨e, q1, q2, q3⟩ <;> rw [e] <;> exact g_if_gt h tgt hd ht (fun c => by first | exact kt (by assumption) | (exfalso; revert c; decide)) (fun c => by first | exact kf (by assumption) | (exfalso; revert c; decide))
theorem g_if_leL (h : gAt X cc nL own rm ret) {x y : Int64} {off : Int} (tgt : Nat) (hd : decode cc pc = .ok (.ifCond .le off, 3)) (ht : (pc : Int) + off = (tgt : Int)) (kt : ¬ y < x → G X k n ws tgt lv st) (kf : y < x → G X k n ws (pc + 3) lv st) : G X k n ws pc lv (.int (lg_cmp x y) :: st) := by
  rcases lgc x y with ⟨e, q1, q2, q3⟩ | ⟨e, q1, q2, q3⟩ | ⟨e, q1, q2, q3⟩ <;> rw [e] <;> exact g_if_le h tgt hd ht (fun c => by first | exact kt (by assumption) | (exfalso; revert c; decide)) (fun c => by first | exact kf (by assumption) | (exfalso; revert c; decide))
end GX5
theorem gc_step {a b : Int64} (hb : ¬ b = 0) : gcL b.toInt.natAbs a b = gcL (a - a / b * b).toInt.natAbs b (a - a / b * b) := by
  have h := lrem_abs (a := a) hb
  obtain ⟨n, hn⟩ : ∃ n, b.toInt.natAbs = n + 1 := ⟨b.toInt.natAbs - 1, by omega⟩
  rw [hn, gcL, if_neg hb]
  exact gcL_any _ _ _ _ (by omega) (Nat.le_refl _)
theorem allB_pos {s : Nat → Int32} (h : Inv s) (t : Nat) : 1 ≤ (allB s t).toInt ∧ (allB s t).toInt ≤ 9 ^ 6 := by
  have key : ∀ n, n ≤ nP s → 1 ≤ (fo n (allF s t) 1).toInt ∧ (fo n (allF s t) 1).toInt ≤ 9 ^ n := by
    intro n
    induction n with
    | zero => intro _; exact ⟨(by decide : (1 : Int) ≤ (1 : Int64).toInt), (by decide : (1 : Int64).toInt ≤ 9 ^ 0)⟩
    | succ n ih =>
      intro hn
      obtain ⟨i1, i2⟩ := ih (by omega)
      have hp := h.pq (p := n) (by omega)
      have hb : (9 : Int) ^ n ≤ 9 ^ 5 := by
        have : n ≤ 5 := by have := h.npl; omega
        exact_mod_cast Nat.pow_le_pow_right (by decide) this
      rw [fo_s, Int.pow_succ]
      generalize fo n (allF s t) 1 = d at i1 i2 ⊢
      generalize (9 : Int) ^ n = B at i2 hb ⊢
      unfold allF
      split
      · rw [Int64.toInt_mul]
        have e1 : (1 : Int64).toInt = 1 := rfl
        rw [e1, Int.mul_one, Int64.toInt_bmod]
        exact ⟨i1, by omega⟩
      · have e2 : (Int32.toInt64 (s (20 + 4 * n + 3))).toInt = (nv (s (20 + 4 * n + 3)) : Int) := by
          rw [Int32.toInt_toInt64, hp.2.1.1, nI_toInt (by have := hp.2.1.2; omega)]
          rw [← hp.2.1.1]
        have q1 : 1 ≤ (nv (s (20 + 4 * n + 3)) : Int) := by have := hp.2.2.1; omega
        have q2 : (nv (s (20 + 4 * n + 3)) : Int) ≤ 9 := by have := hp.2.1.2; omega
        rw [Int64.toInt_mul, e2]
        generalize (nv (s (20 + 4 * n + 3)) : Int) = q at q1 q2 ⊢
        generalize d.toInt = x at i1 i2 ⊢
        have m1 : 1 * 1 ≤ x * q := Int.mul_le_mul i1 q1 (by omega) (by omega)
        have m2 : x * q ≤ B * 9 := Int.mul_le_mul i2 q2 (by omega) (by omega)
        rw [Int.bmod_eq_of_le (by omega) (by omega)]
        exact ⟨by omega, m2⟩
  have := key (nP s) (Nat.le_refl _)
  refine ⟨this.1, Int.le_trans this.2 ?_⟩
  exact_mod_cast Nat.pow_le_pow_right (by decide) h.npl
theorem allB_ne {s : Nat → Int32} (h : Inv s) (t : Nat) : ¬ allB s t = 0 := fun z => by
  have := (allB_pos h t).1
  rw [z] at this
  exact absurd this (by decide)
theorem allB100_ne {s : Nat → Int32} (h : Inv s) (t : Nat) : ¬ 100 * allB s t = 0 := fun z => by
  have h1 := allB_pos h t
  have e : (100 * allB s t).toInt = 100 * (allB s t).toInt := by
    rw [Int64.toInt_mul, show (100 : Int64).toInt = 100 from rfl]
    exact Int.bmod_eq_of_le (by omega) (by omega)
  rw [z] at e
  have : (0 : Int64).toInt = 0 := rfl
  omega

theorem Inv.tx0 {s : Nat → Int32} (h : Inv s) : txOK 0 s := h.2.2.2.2.2.2.2.2.2.1.1
theorem Inv.tx1 {s : Nat → Int32} (h : Inv s) : txOK 1 s := h.2.2.2.2.2.2.2.2.2.1.2
theorem hasT_of {s : Nat → Int32} {u : Nat} (h : hasT s u = true) : 0 < nv (s (182 + 125 * u)) := by
  unfold hasT at h
  have h1 := Int32.lt_iff_toInt_lt.mp (of_decide_eq_true h)
  have h0 : (0 : Int32).toInt = 0 := rfl
  rw [h0] at h1
  unfold nv Int32.toNatClampNeg
  omega
theorem nm0_ok (s : Nat → Int32) (t : Nat) (f : Nat → Int32) : ∀ c, nmk 0 c = true → upd (upd (upd (upd (upd f 118 (val s (owr s t) t)) 109 (els s t)) 112 (s (44 + 4 * t + 1))) 114 (s 10)) 121 (s 3) c = nm0 s t c := by
  intro c h
  unfold nmk at h
  simp only [if_true, Bool.or_eq_true, decide_eq_true_eq] at h
  rcases h with rfl | rfl | rfl | rfl | rfl <;> rfl
theorem nm1_ok (s : Nat → Int32) (t : Nat) (f : Nat → Int32) : ∀ c, nmk 1 c = true → upd (upd (upd (upd (upd f 118 (val s (owr s t) t)) 115 (s (44 + 4 * t + 2))) 99 (s 14)) 117 (s (20 + 4 * owr s t + 1))) 114 (s 10) c = nm1 s t c := by
  intro c h
  unfold nmk at h
  rw [if_neg (by decide)] at h
  simp only [Bool.or_eq_true, decide_eq_true_eq] at h
  rcases h with rfl | rfl | rfl | rfl | rfl <;> rfl
theorem mW_scr {T : Nat → ClassId} {o : Nat} {a : Nat → Nat} {s s' : Nat → Int32} {S : Nat → Nat → Int32} (h1 : s = s') : ∃ (N : Nat → Int32) (P : Nat → Int32), mW T o a s S = mW T o a s' (scr S N P) := ⟨S 5, S 6, by rw [scr_self, h1]⟩
