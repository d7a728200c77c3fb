/-! THE STATE AS ONE ROW OF NUMBERS, what is asked of it, what the calls answer. -/
def inB (v lo hi : Int32) : Bool := !decide (v < lo) && !decide (hi < v)
def heI (v lo hi : Int32) : Int32 := if v < lo then lo else if hi < v then hi else v
def LOW : Int32 := -1000000000
def nv (x : Int32) : Nat := x.toNatClampNeg
/-- a number at most n -/
def rg (x : Int32) (n : Nat) : Prop := x = nI (nv x) ∧ nv x ≤ n
def nP (s : Nat → Int32) : Nat := nv (s 0)
def nT (s : Nat → Int32) : Nat := nv (s 1)
def nQ (s : Nat → Int32) : Nat := nv (s 2)
def isP (s : Nat → Int32) (x : Int32) : Bool := inB x 0 (s 0 - 1)
def isT (s : Nat → Int32) (x : Int32) : Bool := inB x 0 (s 1 - 1)
def val (s : Nat → Int32) (p t : Nat) : Int32 := s (110 + 12 * p + t) * s (44 + 4 * t + 2) / 100
def isPq (x : Int32) : Bool := !decide (x < 0) && (decide (0 < x - x / 10 * 10) && !decide (x - x / 10 * 10 < x / 10))
/-! the reference's world -/
def sU (S : Nat → Nat → Int32) (i : Nat) (f : Nat → Int32) : Nat → Nat → Int32 := fun k => cond (Nat.beq k i) f (S k)
def mF (S : Nat → Nat → Int32) (a : Nat → Nat) : List Value := [.ref (a 0), .ref (a 1), .ref (a 2), .int (S 0 0), .ref (a 3), .int (S 0 1), .int (S 0 2), .int (S 0 3), .int (S 0 4), .ref (a 4), .ref (a 5), .ref (a 6), .ref (a 7), .int (S 0 5), .int (S 0 6), .int (S 0 7), .ref (a 8), .ref (a 9), .ref (a 10), .ref (a 11)]
def mW (T : Nat → ClassId) (o : Nat) (a : Nat → Nat) (s : Nat → Int32) (S : Nat → Nat → Int32) : va_W := [(o, .inr (5, mF S a)), (a 0, .inl (T 0, 516, .inl s)), (a 1, .inl (T 0, 516, .inl (S 1))), (a 2, .inl (T 0, 516, .inl (S 2))), (a 3, .inl (T 0, 7, .inl (S 3))), (a 4, .inl (T 0, 124, .inl (S 4))), (a 5, .inl (T 0, 128, .inl (S 5))), (a 6, .inl (T 0, 64, .inl (S 6))), (a 7, .inl (T 0, 30, .inl (S 7))), (a 8, .inl (T 0, 4, .inl (S 8))), (a 9, .inl (T 0, 4, .inl (S 9))), (a 10, .inl (T 0, 96, .inl (S 10))), (a 11, .inl (T 0, 24, .inl (S 11)))]
theorem mW_eq {T : Nat → ClassId} {o : Nat} {a : Nat → Nat} {s s' : Nat → Int32} {S S' : Nat → Nat → Int32} (h1 : s = s') (h2 : S = S') : mW T o a s S = mW T o a s' S' := by rw [h1, h2]
theorem bI_fit (b : Bool) : fits .boolean (.int (bI b)) = true := by cases b <;> rfl
theorem g_ind {P : Nat → Prop} {N : Nat} (h : ∀ i, i ≤ N → (∀ j, i < j → j ≤ N → P j) → P i) : ∀ i, i ≤ N → P i := by
  have key : ∀ d i, i ≤ N → N - i ≤ d → P i := by
    intro d
    induction d with
    | zero => intro i hi hd; exact h i hi (fun j h1 h2 => absurd h1 (by omega))
    | succ d ih => intro i hi hd; exact h i hi (fun j h1 h2 => ih j h2 (by omega))
  exact fun i hi => key N i hi (Nat.sub_le _ _)

section GX2
variable {X : gX} {cc : ByteArray} {nL : Nat} {own : String} {rm : Room} {ret : Option FieldType} {k n : Nat} {ws : va_W} {pc : Nat} {lv : List (Nat × Value)} {st : List Value}
theorem g_toI2 {w : Value} {x y : Int32} (e : x = y) (kk : G X k n ws pc lv (w :: .int y :: st)) : G X k n ws pc lv (w :: .int x :: st) := by rw [e]; exact kk
theorem g_toN2 {w : Value} {x : Int32} {a : Nat} (e : x = nI a) (kk : G X k n ws pc lv (w :: .int (nI a) :: st)) : G X k n ws pc lv (w :: .int x :: st) := by rw [e]; exact kk
theorem g_ldcw (h : gAt X cc nL own rm ret) {i : Nat} {v : Int32} (hc : Jvm.Cond.constant own i v ∈ lw_all) (hd : decode cc pc = .ok (.ldc_w i, 3)) (kk : G X k n ws (pc + 3) lv (.int v :: st)) : G X k n ws pc lv st := gS (fun _ _ _ _ w => lv_ldcw h.1 h.2.1 h.2.2.2.1 (h.2.2.2.2.1 _ hc) hd w) kk
theorem g_tableOut (h : gAt X cc nL own rm ret) {df lo hi : Int} {offs : Array Int} {len : Nat} {x : Int32} (tgt : Nat) (hd : decode cc pc = .ok (.tableswitch df lo hi offs, len)) (hx : x.toInt < lo ∨ hi < x.toInt) (ht : (pc : Int) + df = (tgt : Int)) (kk : G X k n ws tgt lv st) : G X k n ws pc lv (.int x :: st) := gS (fun _ _ _ _ w => lv_tableOut h.1 h.2.1 hd hx ht w) kk
theorem g_tableIn (h : gAt X cc nL own rm ret) {df lo hi : Int} {offs : Array Int} {len : Nat} {x : Int32} {off : Int} (tgt : Nat) (hd : decode cc pc = .ok (.tableswitch df lo hi offs, len)) (v : Int) (hx : x.toInt = v) (h1 : ¬ v < lo) (h2 : ¬ hi < v) (ho : offs[(v - lo).toNat]? = some off) (ht : (pc : Int) + off = (tgt : Int)) (kk : G X k n ws tgt lv st) : G X k n ws pc lv (.int x :: st) := by
  subst hx
  exact gS (fun _ _ _ _ w => lv_tableIn h.1 h.2.1 hd h1 h2 ho ht w) kk
theorem g_icmp_geC (h : gAt X cc nL own rm ret) {x y : Int32} {off : Int} (tgt : Nat) (hd : decode cc pc = .ok (.if_icmp .ge off, 3)) (ht : (pc : Int) + off = (tgt : Int)) (kt : ¬ x < y → G X k n ws tgt lv st) (kf : x < y → G X k n ws (pc + 3) lv st) : G X k n ws pc lv (.int y :: .int x :: st) := g_icmp_ge h tgt hd ht (fun c => kt (Int32.not_lt.mpr c)) (fun c => kf (Int32.not_le.mp c))
theorem g_icmp_leC (h : gAt X cc nL own rm ret) {x y : Int32} {off : Int} (tgt : Nat) (hd : decode cc pc = .ok (.if_icmp .le off, 3)) (ht : (pc : Int) + off = (tgt : Int)) (kt : ¬ y < x → G X k n ws tgt lv st) (kf : y < x → G X k n ws (pc + 3) lv st) : G X k n ws pc lv (.int y :: .int x :: st) := g_icmp_le h tgt hd ht (fun c => kt (Int32.not_lt.mpr c)) (fun c => kf (Int32.not_le.mp c))
theorem g_if_geC (h : gAt X cc nL own rm ret) {x : Int32} {off : Int} (tgt : Nat) (hd : decode cc pc = .ok (.ifCond .ge off, 3)) (ht : (pc : Int) + off = (tgt : Int)) (kt : ¬ x < 0 → G X k n ws tgt lv st) (kf : x < 0 → G X k n ws (pc + 3) lv st) : G X k n ws pc lv (.int x :: st) := g_if_ge h tgt hd ht (fun c => kt (Int32.not_lt.mpr c)) (fun c => kf (Int32.not_le.mp c))
theorem g_if_leC (h : gAt X cc nL own rm ret) {x : Int32} {off : Int} (tgt : Nat) (hd : decode cc pc = .ok (.ifCond .le off, 3)) (ht : (pc : Int) + off = (tgt : Int)) (kt : ¬ 0 < x → G X k n ws tgt lv st) (kf : 0 < x → G X k n ws (pc + 3) lv st) : G X k n ws pc lv (.int x :: st) := g_if_le h tgt hd ht (fun c => kt (Int32.not_lt.mpr c)) (fun c => kf (Int32.not_le.mp c))
end GX2
theorem g_sw (x : Int32) (lo : Int) (n : Nat) : (x.toInt < lo ∨ lo + n ≤ x.toInt) ∨ ∃ j : Nat, j < n ∧ x.toInt = lo + j := by
  by_cases h1 : x.toInt < lo
  · exact Or.inl (Or.inl h1)
  · by_cases h2 : lo + n ≤ x.toInt
    · exact Or.inl (Or.inr h2)
    · exact Or.inr ⟨(x.toInt - lo).toNat, by omega, by omega⟩
theorem i32_of {x : Int32} {v : Int} {y : Int32} (h : x.toInt = v) (hy : y.toInt = v) : x = y := Int32.toInt_inj.mp (h.trans hy.symm)
theorem rg_nI {k n : Nat} (h : k ≤ n) (hn : n < 2 ^ 31) : rg (nI k) n := ⟨by unfold nv; rw [nI_clamp (Nat.lt_of_le_of_lt h hn)], by unfold nv; rw [nI_clamp (Nat.lt_of_le_of_lt h hn)]; exact h⟩
theorem nv_nI {k : Nat} (h : k < 2 ^ 31) : nv (nI k) = k := nI_clamp h
