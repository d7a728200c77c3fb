/-! WHAT THE CALLS ANSWER: the town, what is tried -/
def sumTF (s : Nat → Int32) (w : Int32) (t : Nat) (a : Int32) : Int32 := a + (if w = 0 then val s (owr s t) t else if w = 1 then val s (fon s t) t else if w = 5 then s (44 + 4 * t + 2) else s (44 + 4 * t + 1))
def sumT (s : Nat → Int32) (w : Int32) : Int32 := fo (nT s) (sumTF s w) 0
def bonF (s : Nat → Int32) (k : Nat) (a : Int32) : Int32 := a + (if hasBonus s k < 0 then 0 else s (92 + 3 * k + 2))
def townS (s : Nat → Int32) (w : Int32) : Int32 := if w = 0 then fo (nQ s) (bonF s) (sumT s 0) else sumT s w
def purF (s : Nat → Int32) (p : Nat) (a : Int32) : Int32 := a + s (20 + 4 * p + 1)
def townV (s : Nat → Int32) (w : Int32) : Int32 := if w = 3 then s 5 else if w = 4 then s 4 else if w = 2 then fo (nP s) (purF s) 0 else townS s w
def o_town (s E : Nat → Int32) (w : Int32) : Op := if inB w 0 6 then (townV s w, s, E) else er s E 1
def mayB (s : Nat → Int32) (p t : Nat) (l : Int32) : Bool := !decide (s (44 + 4 * t) = nI p) && (decide (s (44 + 4 * t + 3) = 0) && (decide (s (44 + 4 * t + 1) < val s p t) && !decide (l < s (44 + 4 * t + 1))))
def firmF (s : Nat → Int32) (p t : Nat) (a : Int32 × Int32 × Int32 × Int32) : Int32 × Int32 × Int32 × Int32 :=
  if mayB s p t a.1 then (a.1 - s (44 + 4 * t + 1), a.2.1 + 1, a.2.2.1 + (val s p t - s (44 + 4 * t + 1)), a.2.2.2 ||| (1 <<< (nI t &&& 31))) else a
def firmV (s : Nat → Int32) (p : Nat) : Int32 × Int32 × Int32 × Int32 := fo (nT s) (firmF s p) (s (20 + 4 * p + 1), 0, 0, 0)
def o_firm (s E : Nat → Int32) (x w : Int32) : Op := if isP s x && inB w 0 2 then ((if w = 0 then (firmV s (nv x)).2.1 else if w = 1 then (firmV s (nv x)).2.2.1 else (firmV s (nv x)).2.2.2), s, E) else er s E 1
def o_then (s E : Nat → Int32) (n w : Int32) : Op := if inB n 0 40 && inB w 0 6 then (townV (yearN (nv n) s) w, s, E) else er s E 1
def o_whose (s E : Nat → Int32) (n x : Int32) : Op := if inB n 0 40 && isT s x then (yearN (nv n) s (44 + 4 * nv x), s, E) else er s E 1
def partF (s : Nat → Int32) (n i : Nat) (a : Int32 × Int32) : Int32 × Int32 :=
  if a.1 < 0 then (nI i, townV (yearN n (upd s 10 (nI i))) 0) else if a.2 < townV (yearN n (upd s 10 (nI i))) 0 then (nI i, townV (yearN n (upd s 10 (nI i))) 0) else (a.1, if a.1 = nI i then townV (yearN n (upd s 10 (nI i))) 0 else a.2)
def o_part (s E : Nat → Int32) (n : Int32) : Op := if inB n 0 40 then ((fo 31 (partF s (nv n)) (-1, 0)).1, s, E) else er s E 1
theorem fon_lt {s : Nat → Int32} (h0 : 0 < nP s) (t : Nat) : fon s t < nP s := fo_lt h0 (Nat.le_refl _) (fun k b hk hb => by unfold fonF; split <;> assumption)
/-! rows that agree as far as they reach are the same cell -/
def mL (i : Nat) : Nat := match i with
  | 0 => 8 | 1 => 516 | 2 => 516 | 3 => 7 | 4 => 124 | 5 => 128 | 6 => 64 | 7 => 30 | 8 => 4 | 9 => 4 | 10 => 96 | _ => 24
theorem cell_eq {c : ClassId} {n : Nat} {f g : Nat → Int32} (h : ∀ k, k < n → f k = g k) : vp_cell c (n, .inl f) = vp_cell c (n, .inl g) := by
  rw [vp_cell_i, vp_cell_i]
  unfold arrV
  congr 2
  funext j
  show Value.int (f j.val) = Value.int (g j.val)
  rw [h j.val j.isLt]
theorem mW_P {D : va_G} {T : Nat → ClassId} {o : Nat} {a : Nat → Nat} {s s' : Nat → Int32} {S S' : Nat → Nat → Int32} {H : Heap} (h1 : ∀ k, k < 516 → s k = s' k) (h2 : ∀ i k, i < 12 → k < mL i → S i k = S' i k) (hP : va_P D vCL (mW T o a s S) H) : va_P D vCL (mW T o a s' S') H := by
  intro k q hk
  have go : ∀ {b n : Nat} {f g : Nat → Int32}, (∀ k, k < n → f k = g k) → (mW T o a s S)[k]? = some (b, .inl (T 0, n, .inl f)) → some (b, (.inl (T 0, n, .inl g) : va_E)) = some q → va_at D vCL q H := by
    intro b n f g hfg e1 e2
    cases e2
    have := hP k _ e1
    show H[b]? = some (vp_cell _ _)
    rw [← cell_eq hfg]
    exact this
  match k, hk with
  | 0, hk =>
    cases hk
    have := hP 0 _ rfl
    have e : mF S a = mF S' a := by
      unfold mF
      rw [h2 0 0 (by decide) (by decide), h2 0 1 (by decide) (by decide), h2 0 2 (by decide) (by decide), h2 0 3 (by decide) (by decide), h2 0 4 (by decide) (by decide), h2 0 5 (by decide) (by decide), h2 0 6 (by decide) (by decide), h2 0 7 (by decide) (by decide)]
    rw [e] at this
    exact this
  | 1, hk => exact go h1 rfl hk
  | 2, hk => exact go (h2 1 · (by decide)) rfl hk
  | 3, hk => exact go (h2 2 · (by decide)) rfl hk
  | 4, hk => exact go (h2 3 · (by decide)) rfl hk
  | 5, hk => exact go (h2 4 · (by decide)) rfl hk
  | 6, hk => exact go (h2 5 · (by decide)) rfl hk
  | 7, hk => exact go (h2 6 · (by decide)) rfl hk
  | 8, hk => exact go (h2 7 · (by decide)) rfl hk
  | 9, hk => exact go (h2 8 · (by decide)) rfl hk
  | 10, hk => exact go (h2 9 · (by decide)) rfl hk
  | 11, hk => exact go (h2 10 · (by decide)) rfl hk
  | 12, hk => exact go (h2 11 · (by decide)) rfl hk
  | k + 13, hk => cases hk
theorem mW_D {A : Nat → Prop} {T : Nat → ClassId} {o : Nat} {a : Nat → Nat} {s s' : Nat → Int32} {S S' : Nat → Nat → Int32} (hD : va_D A (mW T o a s S)) : va_D A (mW T o a s' S') := by
  have key : ∀ (k : Nat) (q : Nat × va_E), (mW T o a s' S')[k]? = some q → ∃ q0, (mW T o a s S)[k]? = some q0 ∧ q0.1 = q.1 := by
    intro k q hk
    have : ((mW T o a s' S').map Prod.fst)[k]? = some q.1 := by rw [List.getElem?_map, hk]; rfl
    have e : (mW T o a s' S').map Prod.fst = (mW T o a s S).map Prod.fst := rfl
    rw [e, List.getElem?_map] at this
    cases h : (mW T o a s S)[k]? with
    | none => rw [h] at this; cases this
    | some q0 => rw [h] at this; exact ⟨q0, rfl, Option.some.inj this⟩
  refine ⟨fun i j p q hi hj hpq => ?_, fun k q hk => ?_⟩
  · obtain ⟨p0, h1, e1⟩ := key i p hi
    obtain ⟨q0, h2, e2⟩ := key j q hj
    exact hD.1 i j p0 q0 h1 h2 (by rw [e1, e2, hpq])
  · obtain ⟨q0, h1, e1⟩ := key k q hk
    rw [← e1]
    exact hD.2 k q0 h1
theorem g_mW {X : gX} {k n pc o : Nat} {a : Nat → Nat} {s s' : Nat → Int32} {S S' : Nat → Nat → Int32} {lv : List (Nat × Value)} {st : List Value} (h1 : ∀ k, k < 516 → s k = s' k) (h2 : ∀ i k, i < 12 → k < mL i → S i k = S' i k) (kk : G X k n (mW (xT X) o a s' S') pc lv st) : G X k n (mW (xT X) o a s S) pc lv st :=
  fun H locs ls hw hl => kk H locs ls ⟨mW_P h1 h2 hw.1, hw.2.1, fun z => ⟨mW_D (hw.2.2 z).1, (hw.2.2 z).2⟩⟩ hl
theorem sU_row {S : Nat → Nat → Int32} {i : Nat} {f g : Nat → Int32} {n : Nat} (hn : n = mL i) (h : ∀ k, k < n → f k = g k) : ∀ j k, j < 12 → k < mL j → sU S i f j k = sU S i g j k := by
  intro j k _ hk
  unfold sU
  cases e : Nat.beq j i with
  | true => rw [Nat.eq_of_beq_eq_true e] at hk; exact h k (by omega)
  | false => rfl
theorem scr32 (S : Nat → Nat → Int32) (M N P : Nat → Int32) : sU (scr (sU S 2 M) N P) 3 (S 3) = scr (sU S 2 M) N P := sU_self (scr (sU S 2 M) N P) 3
theorem scr2self (S : Nat → Nat → Int32) : scr (sU S 2 (S 2)) (S 5) (S 6) = S := by rw [sU_self]; exact scr_self S
