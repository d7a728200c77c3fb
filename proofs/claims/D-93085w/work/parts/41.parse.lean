/-! READING A TEXT. A reader's place: where, how many open, how many steps, the steps -/
abbrev PS : Type := Nat × Nat × Nat × (Nat → Int32)
def lk (s : Nat → Int32) (p : PS) : Int32 := if p.1 < nC s then s (432 + p.1) else -1
def adv (p : PS) : PS := (p.1 + 1, p.2)
def lay2 (w v : Int32) (p : PS) : PS := (p.1, p.2.1, p.2.2.1 + 1, upd (upd p.2.2.2 (2 * p.2.2.1) w) (2 * p.2.2.1 + 1) v)
def opn (p : PS) : PS := (p.1 + 1, p.2.1 + 1, p.2.2)
def cls (p : PS) : PS := (p.1, p.2.1 - 1, p.2.2)
def isNm (u : Nat) (c : Int32) : Bool := decide (c = 118) || (decide (c = 114) || (if u = 0 then decide (c = 109) || (decide (c = 112) || decide (c = 121)) else decide (c = 115) || (decide (c = 99) || decide (c = 117))))
def isMul (c : Int32) : Bool := decide (c = 42) || (decide (c = 47) || decide (c = 37))
def isAdd (c : Int32) : Bool := decide (c = 43) || decide (c = 45)
def isCmp (c : Int32) : Bool := decide (c = 60) || (decide (c = 61) || decide (c = 62))
def isAnd (c : Int32) : Bool := decide (c = 38)
def isOr (c : Int32) : Bool := decide (c = 124)
def numR (s : Nat → Int32) : Nat → Int32 → PS → Int32 × PS
  | 0, v, p => (v, p)
  | k + 1, v, p => if inB (lk s p) 48 57 then numR s k (10 * v + lk s p - 48) (adv p) else (v, p)
def pR (O : PS → Bool × PS) (s : Nat → Int32) (Q : Int32 → Bool) : Nat → PS → Bool × PS
  | 0, p => (true, p)
  | m + 1, p => if Q (lk s p) then (if (O (adv p)).1 then pR O s Q m (lay2 3 (lk s p) (O (adv p)).2) else (false, (O (adv p)).2)) else (true, p)
def pL (O : PS → Bool × PS) (s : Nat → Int32) (Q : Int32 → Bool) (p : PS) : Bool × PS := if (O p).1 then pR O s Q 61 (O p).2 else (false, (O p).2)
def pC (O : PS → Bool × PS) (s : Nat → Int32) (p : PS) : Bool × PS :=
  if (O p).1 then (if isCmp (lk s (O p).2) then (if (O (adv (O p).2)).1 then (true, lay2 3 (lk s (O p).2) (O (adv (O p).2)).2) else (false, (O (adv (O p).2)).2)) else (true, (O p).2)) else (false, (O p).2)
def pProd (O : PS → Bool × PS) (s : Nat → Int32) : PS → Bool × PS := pL O s isMul
def pSum (O : PS → Bool × PS) (s : Nat → Int32) : PS → Bool × PS := pL (pProd O s) s isAdd
def pCmp (O : PS → Bool × PS) (s : Nat → Int32) : PS → Bool × PS := pC (pSum O s) s
def pBoth (O : PS → Bool × PS) (s : Nat → Int32) : PS → Bool × PS := pL (pCmp O s) s isAnd
def pWhole (O : PS → Bool × PS) (s : Nat → Int32) : PS → Bool × PS := pL (pBoth O s) s isOr
def pLeaf (u : Nat) (s : Nat → Int32) (p : PS) (R : Bool × PS) : Bool × PS :=
  if isNm u (lk s p) then (true, lay2 1 (lk s p) (adv p)) else if inB (lk s p) 48 57 then (true, lay2 0 (numR s 4 0 p).1 (numR s 4 0 p).2) else R
def pOne (u : Nat) (s : Nat → Int32) : Nat → PS → Bool × PS
  | 0 => fun p => pLeaf u s p (false, p)
  | d + 1 => fun p => pLeaf u s p (if lk s p = 33 then (if (pOne u s d (opn p)).1 then (true, lay2 2 0 (cls (pOne u s d (opn p)).2)) else (false, (pOne u s d (opn p)).2))
      else if lk s p = 40 then (if (pWhole (pOne u s d) s (opn p)).1 then (if lk s (pWhole (pOne u s d) s (opn p)).2 = 41 then (true, cls (adv (pWhole (pOne u s d) s (opn p)).2)) else (false, (pWhole (pOne u s d) s (opn p)).2)) else (false, (pWhole (pOne u s d) s (opn p)).2))
      else (false, p))
/-- what a piece of reading does to the place -/
def OKp (s : Nat → Int32) (p : PS) (r : Bool × PS) : Prop := r.2.1 ≤ nC s ∧ p.1 ≤ r.2.1 ∧ p.1 + r.2.2.2.1 ≤ r.2.1 + p.2.2.1 ∧ (r.1 = true → r.2.2.1 = p.2.1)
def OKo (s : Nat → Int32) (O : PS → Bool × PS) : Prop := ∀ p : PS, p.1 ≤ nC s → OKp s p (O p)
theorem lk_lt {s : Nat → Int32} {p : PS} {Q : Int32 → Bool} (hQ : Q (-1) = false) (h : Q (lk s p) = true) : p.1 < nC s := by
  unfold lk at h
  by_cases c : p.1 < nC s
  · exact c
  · rw [if_neg c, hQ] at h; cases h
theorem pR_ok {s : Nat → Int32} {O : PS → Bool × PS} {Q : Int32 → Bool} (hO : OKo s O) (hQ : Q (-1) = false) : ∀ (m : Nat) (p : PS), p.1 ≤ nC s → OKp s p (pR O s Q m p)
  | 0, p, h => ⟨h, Nat.le_refl _, Nat.le_refl _, fun _ => rfl⟩
  | m + 1, p, h => by
    unfold pR
    by_cases c : Q (lk s p) = true
    · rw [if_pos c]
      have hl := lk_lt hQ c
      obtain ⟨a1, a2, a3, a4⟩ := hO (adv p) (by show p.1 + 1 ≤ nC s; omega)
      have e1 : (adv p).1 = p.1 + 1 := rfl
      have e2 : (adv p).2 = p.2 := rfl
      rw [e1] at a2 a3
      rw [e2] at a3 a4
      by_cases d : (O (adv p)).1 = true
      · rw [if_pos d]
        obtain ⟨b1, b2, b3, b4⟩ := pR_ok hO hQ m (lay2 3 (lk s p) (O (adv p)).2) a1
        have f1 : (lay2 3 (lk s p) (O (adv p)).2).1 = (O (adv p)).2.1 := rfl
        have f2 : (lay2 3 (lk s p) (O (adv p)).2).2.2.1 = (O (adv p)).2.2.2.1 + 1 := rfl
        have f3 : (lay2 3 (lk s p) (O (adv p)).2).2.1 = (O (adv p)).2.2.1 := rfl
        rw [f1] at b2 b3
        rw [f2] at b3
        rw [f3] at b4
        exact ⟨b1, by omega, by omega, fun z => (b4 z).trans (a4 d)⟩
      · rw [if_neg d]
        exact ⟨a1, by show p.1 ≤ (O (adv p)).2.1; omega, by show p.1 + (O (adv p)).2.2.2.1 ≤ (O (adv p)).2.1 + p.2.2.1; omega, fun z => by cases z⟩
    · rw [if_neg c]
      exact ⟨h, Nat.le_refl _, Nat.le_refl _, fun _ => rfl⟩
theorem OKp.trans {s : Nat → Int32} {p q : PS} {r : Bool × PS} (h1 : OKp s p (true, q)) (h2 : OKp s q r) : OKp s p r := by
  obtain ⟨a1, a2, a3, a4⟩ := h1
  obtain ⟨b1, b2, b3, b4⟩ := h2
  exact ⟨b1, Nat.le_trans a2 b2, by simp only at a3 b3 ⊢; omega, fun z => (b4 z).trans (a4 rfl)⟩
theorem OKp.tt {s : Nat → Int32} {p : PS} {r : Bool × PS} (h : OKp s p r) (c : r.1 = true) : OKp s p (true, r.2) := by
  obtain ⟨a1, a2, a3, a4⟩ := h
  exact ⟨a1, a2, a3, fun _ => a4 c⟩
theorem OKp.ff {s : Nat → Int32} {p : PS} {r : Bool × PS} (h : OKp s p r) : OKp s p (false, r.2) := ⟨h.1, h.2.1, h.2.2.1, fun z => by cases z⟩
theorem pL_ok {s : Nat → Int32} {O : PS → Bool × PS} {Q : Int32 → Bool} (hO : OKo s O) (hQ : Q (-1) = false) : OKo s (pL O s Q) := by
  intro p h
  have h1 := hO p h
  unfold pL
  by_cases c : (O p).1 = true
  · rw [if_pos c]; exact (h1.tt c).trans (pR_ok hO hQ 61 _ h1.1)
  · rw [if_neg c]; exact h1.ff
theorem adv_ok {s : Nat → Int32} {p : PS} {O : PS → Bool × PS} (hO : OKo s O) (w v : Int32) (hl : p.1 < nC s) (c : (O (adv p)).1 = true) : OKp s p (true, lay2 w v (O (adv p)).2) := by
  obtain ⟨a1, a2, a3, a4⟩ := hO (adv p) (by show p.1 + 1 ≤ nC s; omega)
  have e1 : (adv p).1 = p.1 + 1 := rfl
  have e2 : (adv p).2 = p.2 := rfl
  rw [e1] at a2 a3
  rw [e2] at a3 a4
  exact ⟨a1, by show p.1 ≤ (O (adv p)).2.1; omega, by show p.1 + ((O (adv p)).2.2.2.1 + 1) ≤ (O (adv p)).2.1 + p.2.2.1; omega, fun _ => a4 c⟩
theorem advF_ok {s : Nat → Int32} {p : PS} {O : PS → Bool × PS} (hO : OKo s O) (hl : p.1 < nC s) : OKp s p (false, (O (adv p)).2) := by
  obtain ⟨a1, a2, a3, a4⟩ := hO (adv p) (by show p.1 + 1 ≤ nC s; omega)
  have e1 : (adv p).1 = p.1 + 1 := rfl
  have e2 : (adv p).2 = p.2 := rfl
  rw [e1] at a2 a3
  rw [e2] at a3
  exact ⟨a1, by show p.1 ≤ (O (adv p)).2.1; omega, by show p.1 + (O (adv p)).2.2.2.1 ≤ (O (adv p)).2.1 + p.2.2.1; omega, fun z => by cases z⟩
theorem pC_ok {s : Nat → Int32} {O : PS → Bool × PS} (hO : OKo s O) : OKo s (pC O s) := by
  intro p h
  have h1 := hO p h
  unfold pC
  by_cases c : (O p).1 = true
  · rw [if_pos c]
    refine (h1.tt c).trans ?_
    by_cases d : isCmp (lk s (O p).2) = true
    · rw [if_pos d]
      have hl := lk_lt (Q := isCmp) (by decide) d
      by_cases e : (O (adv (O p).2)).1 = true
      · rw [if_pos e]; exact adv_ok hO _ _ hl e
      · rw [if_neg e]; exact advF_ok hO hl
    · rw [if_neg d]; exact ⟨h1.1, Nat.le_refl _, Nat.le_refl _, fun _ => rfl⟩
  · rw [if_neg c]; exact h1.ff
theorem pProd_ok {s : Nat → Int32} {O : PS → Bool × PS} (hO : OKo s O) : OKo s (pProd O s) := pL_ok hO (by decide)
theorem pSum_ok {s : Nat → Int32} {O : PS → Bool × PS} (hO : OKo s O) : OKo s (pSum O s) := pL_ok (pProd_ok hO) (by decide)
theorem pCmp_ok {s : Nat → Int32} {O : PS → Bool × PS} (hO : OKo s O) : OKo s (pCmp O s) := pC_ok (pSum_ok hO)
theorem pBoth_ok {s : Nat → Int32} {O : PS → Bool × PS} (hO : OKo s O) : OKo s (pBoth O s) := pL_ok (pCmp_ok hO) (by decide)
theorem pWhole_ok {s : Nat → Int32} {O : PS → Bool × PS} (hO : OKo s O) : OKo s (pWhole O s) := pL_ok (pBoth_ok hO) (by decide)
theorem numR_ok {s : Nat → Int32} : ∀ (k : Nat) (v : Int32) (p : PS), p.1 ≤ nC s → (numR s k v p).2.1 ≤ nC s ∧ p.1 ≤ (numR s k v p).2.1 ∧ (numR s k v p).2.2 = p.2
  | 0, v, p, h => ⟨h, Nat.le_refl _, rfl⟩
  | k + 1, v, p, h => by
    unfold numR
    by_cases c : inB (lk s p) 48 57 = true
    · rw [if_pos c]
      have hl := lk_lt (Q := fun c => inB c 48 57) (by decide) c
      obtain ⟨a1, a2, a3⟩ := numR_ok k (10 * v + lk s p - 48) (adv p) (by show p.1 + 1 ≤ nC s; omega)
      have e1 : (adv p).1 = p.1 + 1 := rfl
      exact ⟨a1, by omega, a3⟩
    · rw [if_neg c]; exact ⟨h, Nat.le_refl _, rfl⟩
theorem pLeaf_ok {u : Nat} {s : Nat → Int32} {p : PS} {R : Bool × PS} (h : p.1 ≤ nC s) (hR : OKp s p R) : OKp s p (pLeaf u s p R) := by
  unfold pLeaf
  by_cases c : isNm u (lk s p) = true
  · rw [if_pos c]
    have hl := lk_lt (Q := isNm u) (by unfold isNm; by_cases hu : u = 0 <;> simp [hu] <;> decide) c
    exact ⟨by show p.1 + 1 ≤ nC s; omega, by show p.1 ≤ p.1 + 1; omega, by show p.1 + (p.2.2.1 + 1) ≤ p.1 + 1 + p.2.2.1; omega, fun _ => rfl⟩
  · rw [if_neg c]
    by_cases d : inB (lk s p) 48 57 = true
    · rw [if_pos d]
      have hl := lk_lt (Q := fun c => inB c 48 57) (by decide) d
      have e : numR s 4 0 p = numR s 3 (10 * 0 + lk s p - 48) (adv p) := by rw [numR, if_pos d]
      obtain ⟨a1, a2, a3⟩ := numR_ok (s := s) 3 (10 * 0 + lk s p - 48) (adv p) (by show p.1 + 1 ≤ nC s; omega)
      rw [← e] at a1 a2 a3
      have e1 : (adv p).1 = p.1 + 1 := rfl
      have a4 : (numR s 4 0 p).2.2.2.1 = p.2.2.1 := by rw [a3]; rfl
      have a5 : (numR s 4 0 p).2.2.1 = p.2.1 := by rw [a3]; rfl
      rw [e1] at a2
      exact ⟨a1, by show p.1 ≤ (numR s 4 0 p).2.1; omega, by show p.1 + ((numR s 4 0 p).2.2.2.1 + 1) ≤ (numR s 4 0 p).2.1 + p.2.2.1; omega, fun _ => a5⟩
    · rw [if_neg d]; exact hR
theorem pOne_ok (u : Nat) (s : Nat → Int32) : ∀ d, OKo s (pOne u s d)
  | 0 => fun p h => pLeaf_ok h ⟨h, Nat.le_refl _, Nat.le_refl _, fun z => by cases z⟩
  | d + 1 => fun p h => by
    have ih := pOne_ok u s d
    refine pLeaf_ok h ?_
    by_cases c : lk s p = 33
    · rw [if_pos c]
      have hl := lk_lt (s := s) (p := p) (Q := fun z => decide (z = 33)) (by decide) (by rw [c]; decide)
      obtain ⟨a1, a2, a3, a4⟩ := ih (opn p) (by show p.1 + 1 ≤ nC s; omega)
      have e1 : (opn p).1 = p.1 + 1 := rfl
      have e2 : (opn p).2.2 = p.2.2 := rfl
      have e3 : (opn p).2.1 = p.2.1 + 1 := rfl
      rw [e1] at a2 a3; rw [e2] at a3; rw [e3] at a4
      by_cases f : (pOne u s d (opn p)).1 = true
      · rw [if_pos f]
        exact ⟨a1, by show p.1 ≤ (pOne u s d (opn p)).2.1; omega, by show p.1 + ((pOne u s d (opn p)).2.2.2.1 + 1) ≤ (pOne u s d (opn p)).2.1 + p.2.2.1; omega, fun _ => by show (pOne u s d (opn p)).2.2.1 - 1 = p.2.1; have := a4 f; omega⟩
      · rw [if_neg f]
        exact ⟨a1, by show p.1 ≤ (pOne u s d (opn p)).2.1; omega, by show p.1 + (pOne u s d (opn p)).2.2.2.1 ≤ (pOne u s d (opn p)).2.1 + p.2.2.1; omega, fun z => by cases z⟩
    · rw [if_neg c]
      by_cases c2 : lk s p = 40
      · rw [if_pos c2]
        have hl := lk_lt (s := s) (p := p) (Q := fun z => decide (z = 40)) (by decide) (by rw [c2]; decide)
        obtain ⟨a1, a2, a3, a4⟩ := pWhole_ok ih (opn p) (by show p.1 + 1 ≤ nC s; omega)
        have e1 : (opn p).1 = p.1 + 1 := rfl
        have e2 : (opn p).2.2 = p.2.2 := rfl
        have e3 : (opn p).2.1 = p.2.1 + 1 := rfl
        rw [e1] at a2 a3; rw [e2] at a3; rw [e3] at a4
        generalize pWhole (pOne u s d) s (opn p) = r at a1 a2 a3 a4 ⊢
        by_cases f : r.1 = true
        · rw [if_pos f]
          by_cases g : lk s r.2 = 41
          · rw [if_pos g]
            have hl2 := lk_lt (s := s) (p := r.2) (Q := fun z => decide (z = 41)) (by decide) (by rw [g]; decide)
            exact ⟨by show r.2.1 + 1 ≤ nC s; omega, by show p.1 ≤ r.2.1 + 1; omega, by show p.1 + r.2.2.2.1 ≤ r.2.1 + 1 + p.2.2.1; omega, fun _ => by show r.2.2.1 - 1 = p.2.1; have := a4 f; omega⟩
          · rw [if_neg g]
            exact ⟨a1, by show p.1 ≤ r.2.1; omega, by show p.1 + r.2.2.2.1 ≤ r.2.1 + p.2.2.1; omega, fun z => by cases z⟩
        · rw [if_neg f]
          exact ⟨a1, by show p.1 ≤ r.2.1; omega, by show p.1 + r.2.2.2.1 ≤ r.2.1 + p.2.2.1; omega, fun z => by cases z⟩
      · rw [if_neg c2]; exact ⟨h, Nat.le_refl _, Nat.le_refl _, fun z => by cases z⟩
/-- the reference's rows while it reads -/
def paS (S : Nat → Nat → Int32) (u : Nat) (p : PS) : Nat → Nat → Int32 := sU (sU S 4 p.2.2.2) 0 (upd (upd (upd (upd (S 0) 1 (nI p.1)) 2 (nI p.2.1)) 3 (nI p.2.2.1)) 4 (nI u))
theorem paW_eq {T : Nat → ClassId} {o : Nat} {a : Nat → Nat} {s : Nat → Int32} {S : Nat → Nat → Int32} {u : Nat} {p p' : PS} (h : p = p') : mW T o a s (paS S u p) = mW T o a s (paS S u p') := by rw [h]
/-- a place that is sound, k open -/
def At (s : Nat → Int32) (k : Nat) (p : PS) : Prop := p.1 ≤ nC s ∧ p.2.2.1 ≤ p.1 ∧ p.2.1 = k
theorem At.adv {s : Nat → Int32} {k : Nat} {p : PS} (h : At s k p) (c : p.1 < nC s) : At s k (adv p) := ⟨c, Nat.le_succ_of_le h.2.1, h.2.2⟩
theorem At.opn {s : Nat → Int32} {k : Nat} {p : PS} (h : At s k p) (c : p.1 < nC s) : At s (k + 1) (opn p) := ⟨c, Nat.le_succ_of_le h.2.1, congrArg (· + 1) h.2.2⟩
theorem At.ok {s : Nat → Int32} {k : Nat} {p : PS} {r : Bool × PS} (h : At s k p) (o : OKp s p r) (c : r.1 = true) : At s k r.2 := by
  obtain ⟨h1, h2, h3⟩ := h
  obtain ⟨o1, o2, o3, o4⟩ := o
  exact ⟨o1, by omega, (o4 c).trans h3⟩
theorem At.st {s : Nat → Int32} {k : Nat} {p : PS} (hI : Inv s) (h : At s k p) : p.2.2.1 < 62 := by
  have h1 := h.1; have h2 := h.2.1; have h3 := hI.2; have h4 : nC s ≤ 60 := hI.1.2.2.2.1.2
  omega
theorem pR_t {O : PS → Bool × PS} {s : Nat → Int32} {Q : Int32 → Bool} {m : Nat} {p : PS} (h : Q (lk s p) = true) (c : (O (adv p)).1 = true) : pR O s Q (m + 1) p = pR O s Q m (lay2 3 (lk s p) (O (adv p)).2) := by rw [pR, if_pos h, if_pos c]
theorem pR_f {O : PS → Bool × PS} {s : Nat → Int32} {Q : Int32 → Bool} {m : Nat} {p : PS} (h : Q (lk s p) = true) (c : (O (adv p)).1 = false) : pR O s Q (m + 1) p = (false, (O (adv p)).2) := by rw [pR, if_pos h, if_neg (by rw [c]; decide)]
theorem pR_n {O : PS → Bool × PS} {s : Nat → Int32} {Q : Int32 → Bool} {m : Nat} {p : PS} (h : Q (lk s p) = false) : pR O s Q m p = (true, p) := by
  cases m with
  | zero => rfl
  | succ m => rw [pR, if_neg (by rw [h]; decide)]
theorem pL_f {O : PS → Bool × PS} {s : Nat → Int32} {Q : Int32 → Bool} {p : PS} (c : (O p).1 = false) : pL O s Q p = (false, (O p).2) := by rw [pL, if_neg (by rw [c]; decide)]
theorem pL_t {O : PS → Bool × PS} {s : Nat → Int32} {Q : Int32 → Bool} {p : PS} (c : (O p).1 = true) : pL O s Q p = pR O s Q 61 (O p).2 := by rw [pL, if_pos c]
theorem pC_f {O : PS → Bool × PS} {s : Nat → Int32} {p : PS} (c : (O p).1 = false) : pC O s p = (false, (O p).2) := by rw [pC, if_neg (by rw [c]; decide)]
theorem pC_n {O : PS → Bool × PS} {s : Nat → Int32} {p : PS} (c : (O p).1 = true) (h : isCmp (lk s (O p).2) = false) : pC O s p = (true, (O p).2) := by rw [pC, if_pos c, if_neg (by rw [h]; decide)]
theorem pC_e {O : PS → Bool × PS} {s : Nat → Int32} {p : PS} (c : (O p).1 = true) (h : isCmp (lk s (O p).2) = true) (g : (O (adv (O p).2)).1 = false) : pC O s p = (false, (O (adv (O p).2)).2) := by rw [pC, if_pos c, if_pos h, if_neg (by rw [g]; decide)]
theorem pC_t {O : PS → Bool × PS} {s : Nat → Int32} {p : PS} (c : (O p).1 = true) (h : isCmp (lk s (O p).2) = true) (g : (O (adv (O p).2)).1 = true) : pC O s p = (true, lay2 3 (lk s (O p).2) (O (adv (O p).2)).2) := by rw [pC, if_pos c, if_pos h, if_pos g]
theorem isNm_0 {u : Nat} (h : u < 2) : isNm u (-1) = false := by
  rcases (show u = 0 ∨ u = 1 by omega) with rfl | rfl <;> decide
theorem numR_t {s : Nat → Int32} {i : Nat} {x : Int32} {q : PS} (h : i < 4) (c : inB (lk s q) 48 57 = true) : numR s (4 - i) x q = numR s (4 - (i + 1)) (10 * x + lk s q - 48) (adv q) := by
  rw [show 4 - i = (4 - (i + 1)) + 1 by omega, numR, if_pos c]
theorem numR_f {s : Nat → Int32} {k : Nat} {x : Int32} {q : PS} (c : inB (lk s q) 48 57 = false) : numR s k x q = (x, q) := by
  cases k with
  | zero => rfl
  | succ k => rw [numR, if_neg (by rw [c]; decide)]
theorem numR_e {s : Nat → Int32} {i : Nat} {x : Int32} {q : PS} (h : 4 ≤ i) : numR s (4 - i) x q = (x, q) := by rw [show 4 - i = 0 by omega]; rfl
section ONE
variable {u d : Nat} {s : Nat → Int32} {p : PS}
theorem pLeaf_n {R : Bool × PS} (c : isNm u (lk s p) = true) : pLeaf u s p R = (true, lay2 1 (lk s p) (adv p)) := by rw [pLeaf, if_pos c]
theorem pLeaf_m {R : Bool × PS} (c : isNm u (lk s p) = false) (e : inB (lk s p) 48 57 = true) : pLeaf u s p R = (true, lay2 0 (numR s 4 0 p).1 (numR s 4 0 p).2) := by rw [pLeaf, if_neg (by rw [c]; decide), if_pos e]
theorem pLeaf_x {R : Bool × PS} (c : isNm u (lk s p) = false) (e : inB (lk s p) 48 57 = false) : pLeaf u s p R = R := by rw [pLeaf, if_neg (by rw [c]; decide), if_neg (by rw [e]; decide)]
theorem pOne_n (c : isNm u (lk s p) = true) : pOne u s d p = (true, lay2 1 (lk s p) (adv p)) := by cases d <;> exact pLeaf_n c
theorem pOne_m (c : isNm u (lk s p) = false) (e : inB (lk s p) 48 57 = true) : pOne u s d p = (true, lay2 0 (numR s 4 0 p).1 (numR s 4 0 p).2) := by cases d <;> exact pLeaf_m c e
theorem pOne_x0 (c : isNm u (lk s p) = false) (e : inB (lk s p) 48 57 = false) : pOne u s 0 p = (false, p) := pLeaf_x c e
theorem pOne_xn (c : isNm u (lk s p) = false) (e : inB (lk s p) 48 57 = false) (f : ¬ lk s p = 33) (g : ¬ lk s p = 40) : pOne u s (d + 1) p = (false, p) := (pLeaf_x c e).trans (by rw [if_neg f, if_neg g])
theorem pOne_33f (c : isNm u (lk s p) = false) (e : inB (lk s p) 48 57 = false) (f : lk s p = 33) (g : (pOne u s d (opn p)).1 = false) : pOne u s (d + 1) p = (false, (pOne u s d (opn p)).2) := (pLeaf_x c e).trans (by rw [if_pos f, if_neg (by rw [g]; decide)])
theorem pOne_33t (c : isNm u (lk s p) = false) (e : inB (lk s p) 48 57 = false) (f : lk s p = 33) (g : (pOne u s d (opn p)).1 = true) : pOne u s (d + 1) p = (true, lay2 2 0 (cls (pOne u s d (opn p)).2)) := (pLeaf_x c e).trans (by rw [if_pos f, if_pos g])
theorem pOne_40f (c : isNm u (lk s p) = false) (e : inB (lk s p) 48 57 = false) (f : ¬ lk s p = 33) (k : lk s p = 40) (g : (pWhole (pOne u s d) s (opn p)).1 = false) : pOne u s (d + 1) p = (false, (pWhole (pOne u s d) s (opn p)).2) := (pLeaf_x c e).trans (by rw [if_neg f, if_pos k, if_neg (by rw [g]; decide)])
theorem pOne_41f (c : isNm u (lk s p) = false) (e : inB (lk s p) 48 57 = false) (f : ¬ lk s p = 33) (k : lk s p = 40) (g : (pWhole (pOne u s d) s (opn p)).1 = true) (j : ¬ lk s (pWhole (pOne u s d) s (opn p)).2 = 41) : pOne u s (d + 1) p = (false, (pWhole (pOne u s d) s (opn p)).2) := (pLeaf_x c e).trans (by rw [if_neg f, if_pos k, if_pos g, if_neg j])
theorem pOne_41t (c : isNm u (lk s p) = false) (e : inB (lk s p) 48 57 = false) (f : ¬ lk s p = 33) (k : lk s p = 40) (g : (pWhole (pOne u s d) s (opn p)).1 = true) (j : lk s (pWhole (pOne u s d) s (opn p)).2 = 41) : pOne u s (d + 1) p = (true, cls (adv (pWhole (pOne u s d) s (opn p)).2)) := (pLeaf_x c e).trans (by rw [if_neg f, if_pos k, if_pos g, if_pos j])
end ONE
section LEV
variable {O : PS → Bool × PS} {s : Nat → Int32} {p : PS}
theorem pProd_f (c : (O p).1 = false) : pProd O s p = (false, (O p).2) := pL_f c
theorem pProd_t (c : (O p).1 = true) : pProd O s p = pR O s isMul 61 (O p).2 := pL_t c
theorem pSum_f (c : (pProd O s p).1 = false) : pSum O s p = (false, (pProd O s p).2) := pL_f c
theorem pSum_t (c : (pProd O s p).1 = true) : pSum O s p = pR (pProd O s) s isAdd 61 (pProd O s p).2 := pL_t c
theorem pBoth_f (c : (pCmp O s p).1 = false) : pBoth O s p = (false, (pCmp O s p).2) := pL_f c
theorem pBoth_t (c : (pCmp O s p).1 = true) : pBoth O s p = pR (pCmp O s) s isAnd 61 (pCmp O s p).2 := pL_t c
theorem pWhole_f (c : (pBoth O s p).1 = false) : pWhole O s p = (false, (pBoth O s p).2) := pL_f c
theorem pWhole_t (c : (pBoth O s p).1 = true) : pWhole O s p = pR (pBoth O s) s isOr 61 (pBoth O s p).2 := pL_t c
theorem pCmp_f (c : (pSum O s p).1 = false) : pCmp O s p = (false, (pSum O s p).2) := pC_f c
theorem pCmp_n (c : (pSum O s p).1 = true) (h : isCmp (lk s (pSum O s p).2) = false) : pCmp O s p = (true, (pSum O s p).2) := pC_n c h
theorem pCmp_e (c : (pSum O s p).1 = true) (h : isCmp (lk s (pSum O s p).2) = true) (g : (pSum O s (adv (pSum O s p).2)).1 = false) : pCmp O s p = (false, (pSum O s (adv (pSum O s p).2)).2) := pC_e c h g
theorem pCmp_t (c : (pSum O s p).1 = true) (h : isCmp (lk s (pSum O s p).2) = true) (g : (pSum O s (adv (pSum O s p).2)).1 = true) : pCmp O s p = (true, lay2 3 (lk s (pSum O s p).2) (pSum O s (adv (pSum O s p).2)).2) := pC_t c h g
end LEV
theorem mu_ok {s : Nat → Int32} {q : PS} {r : Bool × PS} {w v : Int32} {m : Nat} (o : OKp s (adv q) r) (hl : q.1 < nC s) (h : nC s - q.1 < m + 1) : nC s - (lay2 w v r.2).1 < m := by
  have w3 : q.1 + 1 ≤ r.2.1 := o.2.1
  show nC s - r.2.1 < m
  omega
