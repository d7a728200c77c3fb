/-! THE FIRST STATE is sound; what a text reads doesn't hang on the scratch row -/
theorem inv_row0 : Inv row0 := by
  unfold Inv txOK rg
  refine ⟨by decide +kernel, by decide +kernel, by decide +kernel, by decide +kernel, by decide +kernel, by decide +kernel, by decide +kernel, by decide +kernel, ?_, ⟨⟨by decide +kernel, fun h => absurd h (by decide +kernel)⟩, ⟨by decide +kernel, fun h => absurd h (by decide +kernel)⟩⟩, by decide +kernel⟩
  have h : ∀ p, p < 6 → ∀ t, t < 12 → (row0 (110 + 12 * p + t) = 0) := by decide +kernel
  intro p t hp ht
  rw [h p hp t ht]
  exact ⟨by decide +kernel, fun _ => rfl⟩
/-- two readers' places that differ by what lies behind their steps alone -/
def Sim (p q : PS) : Prop := p.1 = q.1 ∧ p.2.1 = q.2.1 ∧ p.2.2.1 = q.2.2.1 ∧ ∀ i, i < 2 * p.2.2.1 → p.2.2.2 i = q.2.2.2 i
def SimR (r t : Bool × PS) : Prop := r.1 = t.1 ∧ Sim r.2 t.2
def SimO (O : PS → Bool × PS) : Prop := ∀ p q, Sim p q → SimR (O p) (O q)
theorem Sim.sameLk {s : Nat → Int32} {p q : PS} (h : Sim p q) : lk s p = lk s q := by unfold lk; rw [h.1]
theorem Sim.adv {p q : PS} (h : Sim p q) : Sim (adv p) (adv q) := ⟨congrArg (· + 1) h.1, h.2⟩
theorem Sim.opn {p q : PS} (h : Sim p q) : Sim (opn p) (opn q) := ⟨congrArg (· + 1) h.1, congrArg (· + 1) h.2.1, h.2.2⟩
theorem Sim.cls {p q : PS} (h : Sim p q) : Sim (cls p) (cls q) := ⟨h.1, congrArg (· - 1) h.2.1, h.2.2⟩
theorem Sim.lay {p q : PS} (h : Sim p q) (w v : Int32) : Sim (lay2 w v p) (lay2 w v q) := by
  obtain ⟨h1, h2, h3, h4⟩ := h
  refine ⟨h1, h2, congrArg (· + 1) h3, fun i hi => ?_⟩
  have hi' : i < 2 * (p.2.2.1 + 1) := hi
  show upd (upd p.2.2.2 (2 * p.2.2.1) w) (2 * p.2.2.1 + 1) v i = upd (upd q.2.2.2 (2 * q.2.2.1) w) (2 * q.2.2.1 + 1) v i
  rw [← h3]
  unfold upd
  by_cases a : i = 2 * p.2.2.1 + 1
  · rw [if_pos a, if_pos a]
  · rw [if_neg a, if_neg a]
    by_cases b : i = 2 * p.2.2.1
    · rw [if_pos b, if_pos b]
    · rw [if_neg b, if_neg b]; exact h4 i (by omega)
theorem pR_sim {O : PS → Bool × PS} {s : Nat → Int32} {Q : Int32 → Bool} (hO : SimO O) : ∀ m, SimO (pR O s Q m)
  | 0 => fun p q h => ⟨rfl, h⟩
  | m + 1 => fun p q h => by
    obtain ⟨a1, a2⟩ := hO _ _ h.adv
    unfold pR
    rw [h.sameLk (s := s), a1]
    by_cases c : Q (lk s q) = true
    · rw [if_pos c, if_pos c]
      by_cases d : (O (adv q)).1 = true
      · rw [if_pos d, if_pos d]; exact pR_sim hO m _ _ (a2.lay _ _)
      · rw [if_neg d, if_neg d]; exact ⟨rfl, a2⟩
    · rw [if_neg c, if_neg c]; exact ⟨rfl, h⟩
theorem pL_sim {O : PS → Bool × PS} {s : Nat → Int32} {Q : Int32 → Bool} (hO : SimO O) : SimO (pL O s Q) := fun p q h => by
  obtain ⟨a1, a2⟩ := hO _ _ h
  unfold pL
  rw [a1]
  by_cases d : (O q).1 = true
  · rw [if_pos d, if_pos d]; exact pR_sim hO 61 _ _ a2
  · rw [if_neg d, if_neg d]; exact ⟨rfl, a2⟩
theorem pC_sim {O : PS → Bool × PS} {s : Nat → Int32} (hO : SimO O) : SimO (pC O s) := fun p q h => by
  obtain ⟨a1, a2⟩ := hO _ _ h
  obtain ⟨b1, b2⟩ := hO _ _ a2.adv
  unfold pC
  rw [a1, a2.sameLk (s := s), b1]
  by_cases d : (O q).1 = true
  · rw [if_pos d, if_pos d]
    by_cases c : isCmp (lk s (O q).2) = true
    · rw [if_pos c, if_pos c]
      by_cases e : (O (adv (O q).2)).1 = true
      · rw [if_pos e, if_pos e]; exact ⟨rfl, b2.lay _ _⟩
      · rw [if_neg e, if_neg e]; exact ⟨rfl, b2⟩
    · rw [if_neg c, if_neg c]; exact ⟨rfl, a2⟩
  · rw [if_neg d, if_neg d]; exact ⟨rfl, a2⟩
theorem pWhole_sim {O : PS → Bool × PS} {s : Nat → Int32} (hO : SimO O) : SimO (pWhole O s) := pL_sim (pL_sim (pC_sim (pL_sim (pL_sim hO))))
theorem numR_sim {s : Nat → Int32} : ∀ (k : Nat) (v : Int32) (p q : PS), Sim p q → (numR s k v p).1 = (numR s k v q).1 ∧ Sim (numR s k v p).2 (numR s k v q).2
  | 0, _, _, _, h => ⟨rfl, h⟩
  | k + 1, v, p, q, h => by
    unfold numR
    rw [h.sameLk (s := s)]
    by_cases c : inB (lk s q) 48 57 = true
    · rw [if_pos c, if_pos c]; exact numR_sim k _ _ _ h.adv
    · rw [if_neg c, if_neg c]; exact ⟨rfl, h⟩
theorem pLeaf_sim {u : Nat} {s : Nat → Int32} {p q : PS} {R R' : Bool × PS} (h : Sim p q) (hR : SimR R R') : SimR (pLeaf u s p R) (pLeaf u s q R') := by
  obtain ⟨n1, n2⟩ := numR_sim (s := s) 4 0 p q h
  unfold pLeaf
  rw [h.sameLk (s := s), n1]
  by_cases c : isNm u (lk s q) = true
  · rw [if_pos c, if_pos c]; exact ⟨rfl, h.adv.lay _ _⟩
  · rw [if_neg c, if_neg c]
    by_cases d : inB (lk s q) 48 57 = true
    · rw [if_pos d, if_pos d]; exact ⟨rfl, n2.lay _ _⟩
    · rw [if_neg d, if_neg d]; exact hR
theorem pOne_sim (u : Nat) (s : Nat → Int32) : ∀ d, SimO (pOne u s d)
  | 0 => fun p q h => pLeaf_sim h ⟨rfl, h⟩
  | d + 1 => fun p q h => by
    obtain ⟨a1, a2⟩ := pOne_sim u s d _ _ h.opn
    obtain ⟨b1, b2⟩ := pWhole_sim (s := s) (pOne_sim u s d) _ _ h.opn
    refine pLeaf_sim h ?_
    rw [h.sameLk (s := s), a1, b1, b2.sameLk (s := s)]
    by_cases c : lk s q = 33
    · rw [if_pos c, if_pos c]
      by_cases f : (pOne u s d (opn q)).1 = true
      · rw [if_pos f, if_pos f]; exact ⟨rfl, a2.cls.lay _ _⟩
      · rw [if_neg f, if_neg f]; exact ⟨rfl, a2⟩
    · rw [if_neg c, if_neg c]
      by_cases e : lk s q = 40
      · rw [if_pos e, if_pos e]
        by_cases f : (pWhole (pOne u s d) s (opn q)).1 = true
        · rw [if_pos f, if_pos f]
          by_cases g : lk s (pWhole (pOne u s d) s (opn q)).2 = 41
          · rw [if_pos g, if_pos g]; exact ⟨rfl, b2.adv.cls⟩
          · rw [if_neg g, if_neg g]; exact ⟨rfl, b2⟩
        · rw [if_neg f, if_neg f]; exact ⟨rfl, b2⟩
      · rw [if_neg e, if_neg e]; exact ⟨rfl, h⟩
theorem fo_cong {α : Type} {f g : Nat → α → α} : ∀ (n : Nat) (a : α), (∀ k, k < n → ∀ x, f k x = g k x) → fo n f a = fo n g a
  | 0, _, _ => rfl
  | n + 1, a, h => by
    show f n (fo n f a) = g n (fo n g a)
    rw [fo_cong n a (fun k hk x => h k (by omega) x), h n (by omega)]
theorem prg_sim (s R R' : Nat → Int32) (u : Nat) : SimR (prg s R u) (prg s R' u) := pWhole_sim (pOne_sim u s 5) _ _ ⟨rfl, rfl, rfl, fun i hi => absurd hi (Nat.not_lt_zero _)⟩
/-- the scratch row doesn't tell -/
theorem o_text_R (s E R R' : Nat → Int32) (x : Int32) : o_text s E R x = o_text s E R' x := by
  obtain ⟨h1, h2, h3, h4, h5⟩ := prg_sim s R R' (nv x)
  unfold o_text
  have e : ∀ (w : Nat → Int32) (b : Nat), cpy w (prg s R (nv x)).2.2.2.2 b (2 * (prg s R (nv x)).2.2.2.1) = cpy w (prg s R' (nv x)).2.2.2.2 b (2 * (prg s R' (nv x)).2.2.2.1) := fun w b => by
    unfold cpy
    rw [← h4]
    exact fo_cong _ _ (fun k hk y => by rw [h5 k hk])
  rw [e, h1, h2, h4]
