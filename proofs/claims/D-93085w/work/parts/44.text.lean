/-! A TEXT TAKEN OFF THE TAPE, and one let go -/
def prg (s R : Nat → Int32) (u : Nat) : Bool × PS := pWhole (pOne u s 5) s (0, 0, 0, R)
def cpy (s R : Nat → Int32) (b n : Nat) : Nat → Int32 := fo n (fun k s' => upd s' (b + 1 + k) (R k)) s
def o_text (s E R : Nat → Int32) (x : Int32) : Op :=
  if inB x 0 1 then (if (prg s R (nv x)).1 && decide ((prg s R (nv x)).2.1 = nC s) then (1, cpy (upd (upd s 6 0) (182 + 125 * nv x) (nI (prg s R (nv x)).2.2.2.1)) (prg s R (nv x)).2.2.2.2 (182 + 125 * nv x) (2 * (prg s R (nv x)).2.2.2.1), E) else (-10 - nI (prg s R (nv x)).2.1, upd s 6 0, E)) else er s E 1
def o_untell (s E : Nat → Int32) (x : Int32) : Op := if inB x 0 1 then (bI (hasT s (nv x)), upd s (182 + 125 * nv x) 0, E) else er s E 1
theorem upd_c {f : Nat → Int32} {i j : Nat} {x y : Int32} (h : i ≠ j) : upd (upd f i x) j y = upd (upd f j y) i x := by
  funext k
  unfold upd
  by_cases a : k = j
  · rw [if_pos a, if_neg (by omega), if_pos a]
  · rw [if_neg a, if_neg a]
theorem pa0 (S : Nat → Nat → Int32) (u : Nat) : sU S 0 (upd (upd (upd (upd (S 0) 4 (nI u)) 1 0) 2 0) 3 0) = paS S u (0, 0, 0, S 4) := by
  show _ = sU (sU S 4 (S 4)) 0 (upd (upd (upd (upd (S 0) 1 0) 2 0) 3 0) 4 (nI u))
  rw [sU_self, upd_c (i := 4) (j := 1) (by decide), upd_c (i := 4) (j := 2) (by decide), upd_c (i := 4) (j := 3) (by decide)]
theorem pa3 (S : Nat → Nat → Int32) (u : Nat) (p : PS) : paS S u p = sU (sU (sU S 4 p.2.2.2) 0 (paS S u p 0)) 3 (S 3) := (sU_self (paS S u p) 3).symm
theorem sU040 (S : Nat → Nat → Int32) (E : Nat → Int32) : sU S 3 E = sU (sU (sU S 4 (S 4)) 0 (S 0)) 3 E := by rw [sU_self S 4, sU_self S 0]
theorem At.zero (s R : Nat → Int32) : At s 0 (0, 0, 0, R) := ⟨Nat.zero_le _, Nat.le_refl _, rfl⟩
theorem prg_ok {s R : Nat → Int32} {u : Nat} : OKp s (0, 0, 0, R) (prg s R u) := pWhole_ok (pOne_ok u s 5) (0, 0, 0, R) (Nat.zero_le _)
