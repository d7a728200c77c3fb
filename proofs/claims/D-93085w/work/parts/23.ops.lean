/-! WHAT THE CALLS ANSWER: people, things, pairs, rules -/
def o_person (s E : Nat → Int32) (kind purse pq : Int32) : Op :=
  if inB kind 0 6 && (inB purse 0 999999 && isPq pq) then (if nP s = 6 then er s E 4 else (nI (nP s), upd (upd (upd (upd (upd s (20 + 4 * nP s) kind) (20 + 4 * nP s + 1) purse) (20 + 4 * nP s + 2) (pq / 10)) (20 + 4 * nP s + 3) (pq - pq / 10 * 10)) 0 (nI (nP s + 1)), E)) else er s E 1
def pa (s : Nat → Int32) (k w : Nat) : Nat := nv (s (92 + 3 * k + w))
def owr (s : Nat → Int32) (t : Nat) : Nat := nv (s (44 + 4 * t))
def hasOne (s : Nat → Int32) (p k w : Nat) : Bool := decide (s (44 + 4 * pa s k w) = nI p)
def lacksF (s : Nat → Int32) (p k : Nat) (a : Int32) : Int32 := a ||| (if hasOne s p k 0 = hasOne s p k 1 then (0 : Int32) else 1 <<< (nI k &&& 31))
def lacks (s : Nat → Int32) (p : Nat) : Int32 := fo (nQ s) (lacksF s p) 0
def ownsF (s : Nat → Int32) (p : Nat) (w : Int32) (t : Nat) (a : Int32) : Int32 := a + (if ¬ s (44 + 4 * t) = nI p then 0 else if w = 3 then 1 else if w = 4 then s (44 + 4 * t + 3) else val s p t)
def owns (s : Nat → Int32) (p : Nat) (w : Int32) : Int32 := fo (nT s) (ownsF s p w) 0
def personIsV (s : Nat → Int32) (p : Nat) (w : Int32) : Int32 := if w = 0 then s (20 + 4 * p) else if w = 1 then s (20 + 4 * p + 1) else if w = 2 then 10 * s (20 + 4 * p + 2) + s (20 + 4 * p + 3) else if w = 5 then lacks s p else owns s p w
def o_personIs (s E : Nat → Int32) (x w : Int32) : Op := if isP s x && inB w 0 6 then (personIsV s (nv x) w, s, E) else er s E 1
def isUn (own kind : Int32) : Bool := decide (kind = 0) || (decide (own = kind) || (decide (kind = 1) && (decide (own = 2) || (decide (own = 3) || decide (own = 6)))))
def o_as (s E : Nat → Int32) (x kind : Int32) : Op := if isP s x && inB kind 0 6 then (if isUn (s (20 + 4 * nv x)) kind then (s (20 + 4 * nv x + 1), s, E) else er s E 5) else er s E 1
def o_become (s E : Nat → Int32) (x kind : Int32) : Op := if isP s x && inB kind 0 6 then (s (20 + 4 * nv x), upd s (20 + 4 * nv x) kind, E) else er s E 1
def o_purse (s E : Nat → Int32) (x v : Int32) : Op := if isP s x && inB v 0 999999 then (s (20 + 4 * nv x + 1), upd s (20 + 4 * nv x + 1) v, E) else er s E 1
def o_thing (s E : Nat → Int32) (x price : Int32) : Op :=
  if isP s x && inB price 0 9999 then (if nT s = 12 then er s E 4 else (nI (nT s), upd (upd (upd (upd (upd s (44 + 4 * nT s) x) (44 + 4 * nT s + 1) price) (44 + 4 * nT s + 2) 100) (44 + 4 * nT s + 3) 0) 1 (nI (nT s + 1)), E)) else er s E 1
def fonF (s : Nat → Int32) (t k b : Nat) : Nat := if val s b t < val s k t then k else b
def fon (s : Nat → Int32) (t : Nat) : Nat := fo (nP s) (fonF s t) 0
theorem fo_lt {n m : Nat} {f : Nat → Nat → Nat} (hm : 0 < m) (h : n ≤ m) (hf : ∀ k b, k < n → b < m → f k b < m) : fo n f 0 < m := by
  induction n with
  | zero => exact hm
  | succ n ih => exact hf n _ (Nat.lt_succ_self n) (ih (by omega) (fun k b hk hb => hf k b (by omega) hb))
def o_thingIs (s E : Nat → Int32) (x w : Int32) : Op := if isT s x && inB w 0 5 then ((if nv w < 4 then s (44 + 4 * nv x + nv w) else if nv w = 4 then val s (owr s (nv x)) (nv x) else nI (fon s (nv x))), s, E) else er s E 1
def o_worth (s E : Nat → Int32) (x y v : Int32) : Op := if isP s x && (isT s y && inB v 0 9999) then (s (110 + 12 * nv x + nv y), upd s (110 + 12 * nv x + nv y) v, E) else er s E 1
def o_price (s E : Nat → Int32) (x v : Int32) : Op := if isT s x && inB v 0 9999 then (s (44 + 4 * nv x + 1), upd s (44 + 4 * nv x + 1) v, E) else er s E 1
def o_keep (s E : Nat → Int32) (x on : Int32) : Op :=
  if isT s x && inB on 0 1 then (if on = 1 ∧ s (44 + 4 * nv x + 3) = 0 ∧ ¬ owns s (owr s (nv x)) 4 < s 13 then er s E 3 else (s (44 + 4 * nv x + 3), upd s (44 + 4 * nv x + 3) on, E)) else er s E 1
def o_pair (s E : Nat → Int32) (x y b : Int32) : Op :=
  if isT s x && (isT s y && (!decide (nv x = nv y) && inB b 0 9999)) then (if nQ s = 6 then er s E 4 else (nI (nQ s), upd (upd (upd (upd s (92 + 3 * nQ s) x) (92 + 3 * nQ s + 1) y) (92 + 3 * nQ s + 2) b) 2 (nI (nQ s + 1)), E)) else er s E 1
def hasBonus (s : Nat → Int32) (k : Nat) : Int32 :=
  if s (44 + 4 * pa s k 0 + 2) < 50 then -1 else if s (44 + 4 * pa s k 1 + 2) < 50 then -1 else if s (44 + 4 * pa s k 0) = s (44 + 4 * pa s k 1) then s (44 + 4 * pa s k 0) else -1
def isQ (s : Nat → Int32) (x : Int32) : Bool := inB x 0 (s 2 - 1)
def o_pairIs (s E : Nat → Int32) (x w : Int32) : Op := if isQ s x && inB w 0 3 then ((if nv w < 3 then s (92 + 3 * nv x + nv w) else hasBonus s (nv x)), s, E) else er s E 1
def mostOf (r : Int32) : Int32 := if r = 2 then 2 else if r = 3 then 9 else if r = 4 then 999 else 99
def o_rule (s E : Nat → Int32) (x v : Int32) : Op := if inB x 0 4 && inB v 0 (mostOf x) then (s (10 + nv x), upd s (10 + nv x) v, E) else er s E 1
theorem isQ_of {s : Nat → Int32} {x : Int32} (h : Inv s) (c : isQ s x = true) : ∃ j : Nat, j < nQ s ∧ x = nI j := isPT_of (Nat.lt_of_le_of_lt h.nql (by decide)) h.nq c
theorem Inv.paE {s : Nat → Int32} (h : Inv s) {k w : Nat} (hk : k < nQ s) (hw : w < 2) : s (92 + 3 * k + w) = nI (pa s k w) := by
  have := h.2.2.2.2.2.2.1 k (Nat.lt_of_lt_of_le hk h.nql)
  rcases (show w = 0 ∨ w = 1 by omega) with rfl | rfl
  · exact this.1.1
  · exact this.2.1.1
theorem Inv.palE {s : Nat → Int32} (h : Inv s) {k w : Nat} (hk : k < nQ s) (hw : w < 2) : pa s k w < nT s := by
  have := h.2.2.2.2.2.2.2.1 k hk
  rcases (show w = 0 ∨ w = 1 by omega) with rfl | rfl
  · exact this.1
  · exact this.2
theorem Inv.owE {s : Nat → Int32} (h : Inv s) {t : Nat} (ht : t < nT s) : s (44 + 4 * t) = nI (owr s t) := h.ow ht
theorem Inv.owlE {s : Nat → Int32} (h : Inv s) {t : Nat} (ht : t < nT s) : owr s t < nP s := h.owl ht
