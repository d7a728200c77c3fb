/-! VOICES: who runs, by kinds. t: the row of bodies, how many -/
abbrev TR : Type := (Nat → Int32) × Nat
def ranT (b : Int32) (t : TR) : TR := if t.2 < 30 then (upd t.1 t.2 b, t.2 + 1) else t
theorem ranT_le {b : Int32} {t : TR} (h : t.2 ≤ 30) : (ranT b t).2 ≤ 30 := by
  unfold ranT
  split
  · show t.2 + 1 ≤ 30; omega
  · exact h
def cN0 (p : Nat) (x : Int32) (t : TR) : Int32 × TR := (x + nI p, ranT 10 t)
def cN1 (p : Nat) (x : Int32) (t : TR) : Int32 × TR := ((cN0 p x (ranT 20 t)).1 + 5, (cN0 p x (ranT 20 t)).2)
def cN (K p : Nat) (x : Int32) (t : TR) : Int32 × TR := match K with
  | 0 => cN0 p x t
  | 1 => cN1 p x t
  | 2 => cN1 p x t
  | 3 => cN1 p (x / 2) (ranT 40 t)
  | 4 => cN0 p x t
  | 5 => (8, ranT 70 t)
  | _ => ((cN1 p x (ranT 60 t)).1 * 3, (cN1 p x (ranT 60 t)).2)
def bu0 (K p : Nat) (x : Int32) (t : TR) : Int32 × TR := ((cN K p x (ranT 11 t)).1 * 2, (cN K p x (ranT 11 t)).2)
def bu (L K p : Nat) (x : Int32) (t : TR) : Int32 × TR := match L with
  | 0 => bu0 K p x t
  | 1 => bu0 K p x t
  | 2 => (0 - (bu0 K p x (ranT 30 t)).1, (bu0 K p x (ranT 30 t)).2)
  | 3 => bu0 K p x t
  | 4 => bu0 K p x t
  | 5 => ((bu0 K p x (ranT 71 t)).1 + nI p, (bu0 K p x (ranT 71 t)).2)
  | _ => bu0 K p x t
def gi0 (K p : Nat) (pp x : Int32) (t : TR) : Int32 × TR := ((bu K K p x (ranT 12 t)).1 - pp, (bu K K p x (ranT 12 t)).2)
def gi (L K p : Nat) (pp x : Int32) (t : TR) : Int32 × TR := match L with
  | 0 => gi0 K p pp x t
  | 1 => gi0 K p pp x t
  | 2 => gi0 K p pp x t
  | 3 => ((gi0 K p pp x (ranT 41 t)).1 ^^^ nI p, (gi0 K p pp x (ranT 41 t)).2)
  | 4 => gi0 K p pp (x + 1) (ranT 50 t)
  | 5 => gi0 K p pp x t
  | _ => gi0 K p pp x t
/-- parted, the answer, who ran -/
def mi0 (p : Nat) (pp x : Int32) (t : TR) : Bool × Int32 × TR := (decide (pp - nI p = 0), (if pp - nI p = 0 then 0 else if pp - nI p = -1 then -x else x / (pp - nI p)), ranT 13 t)
def mi1 (K p : Nat) (pp x : Int32) (t : TR) : Bool × Int32 × TR :=
  if (mi0 p pp x (ranT 21 t)).1 then (true, 0, (mi0 p pp x (ranT 21 t)).2.2) else (false, (mi0 p pp x (ranT 21 t)).2.1 + (bu K K p 1 (mi0 p pp x (ranT 21 t)).2.2).1, (bu K K p 1 (mi0 p pp x (ranT 21 t)).2.2).2)
def mi6 (K p : Nat) (pp x : Int32) (t : TR) : Bool × Int32 × TR :=
  if (mi1 K p pp x (ranT 61 t)).1 then (true, 0, (mi1 K p pp x (ranT 61 t)).2.2) else (false, (mi1 K p pp x (ranT 61 t)).2.1 - (gi K K p pp 0 (mi1 K p pp x (ranT 61 t)).2.2).1, (gi K K p pp 0 (mi1 K p pp x (ranT 61 t)).2.2).2)
def mi (L K p : Nat) (pp x : Int32) (t : TR) : Bool × Int32 × TR := match L with
  | 0 => mi0 p pp x t
  | 1 => mi1 K p pp x t
  | 2 => mi1 K p pp x t
  | 3 => mi1 K p pp x t
  | 4 => mi0 p pp x t
  | 5 => mi0 p pp x t
  | _ => mi6 K p pp x t
section TRLE
variable {K L p : Nat} {x pp : Int32} {t : TR}
theorem cN0_le (h : t.2 ≤ 30) : (cN0 p x t).2.2 ≤ 30 := ranT_le h
theorem cN1_le (h : t.2 ≤ 30) : (cN1 p x t).2.2 ≤ 30 := cN0_le (ranT_le h)
theorem cN_le (h : t.2 ≤ 30) : (cN K p x t).2.2 ≤ 30 := by
  unfold cN
  split
  · exact cN0_le h
  · exact cN1_le h
  · exact cN1_le h
  · exact cN1_le (ranT_le h)
  · exact cN0_le h
  · exact ranT_le h
  · exact cN1_le (ranT_le h)
theorem bu0_le (h : t.2 ≤ 30) : (bu0 K p x t).2.2 ≤ 30 := cN_le (ranT_le h)
theorem bu_le (h : t.2 ≤ 30) : (bu L K p x t).2.2 ≤ 30 := by
  unfold bu
  split <;> first | exact bu0_le h | exact bu0_le (ranT_le h)
theorem gi0_le (h : t.2 ≤ 30) : (gi0 K p pp x t).2.2 ≤ 30 := bu_le (ranT_le h)
theorem gi_le (h : t.2 ≤ 30) : (gi L K p pp x t).2.2 ≤ 30 := by
  unfold gi
  split <;> first | exact gi0_le h | exact gi0_le (pp := pp) (ranT_le h)
theorem mi0_le (h : t.2 ≤ 30) : (mi0 p pp x t).2.2.2 ≤ 30 := ranT_le h
theorem mi1_le (h : t.2 ≤ 30) : (mi1 K p pp x t).2.2.2 ≤ 30 := by
  unfold mi1
  split
  · exact mi0_le (p := p) (pp := pp) (x := x) (ranT_le h)
  · exact bu_le (mi0_le (p := p) (pp := pp) (x := x) (ranT_le h))
theorem mi6_le (h : t.2 ≤ 30) : (mi6 K p pp x t).2.2.2 ≤ 30 := by
  unfold mi6
  split
  · exact mi1_le (ranT_le h)
  · exact gi_le (mi1_le (ranT_le h))
theorem mi_le (h : t.2 ≤ 30) : (mi L K p pp x t).2.2.2 ≤ 30 := by
  unfold mi
  split <;> first | exact mi0_le h | exact mi1_le h | exact mi6_le h
end TRLE
/-- the reference's rows while somebody speaks: who, who ran, parted -/
def trS (S : Nat → Nat → Int32) (p : Nat) (t : TR) (b : Bool) : Nat → Nat → Int32 := sU (sU S 7 t.1) 0 (upd (upd (upd (S 0) 5 (nI t.2)) 6 (nI p)) 7 (bI b))
theorem trS_run (T : Nat → ClassId) (o : Nat) (a : Nat → Nat) (s : Nat → Int32) (S : Nat → Nat → Int32) (p : Nat) (t : TR) (b : Bool) (B : Nat → Int32) (n : Nat) : (((mW T o a s (trS S p t b)).set 8 (a 7, .inl (T 0, 30, .inl B))).set 0 (o, .inr (5, (mF (trS S p t b) a).set 13 (.int (nI n))))) = mW T o a s (trS S p (B, n) b) := rfl
def voiceV (s R : Nat → Int32) (x v y : Int32) : Bool × Int32 × TR :=
  if v = 0 then (false, cN (nv (s (20 + 4 * nv x))) (nv x) y (R, 0)) else if v = 1 then (false, bu (nv (s (20 + 4 * nv x))) (nv (s (20 + 4 * nv x))) (nv x) y (R, 0))
  else if v = 2 then (false, gi (nv (s (20 + 4 * nv x))) (nv (s (20 + 4 * nv x))) (nv x) (s (20 + 4 * nv x + 2)) y (R, 0)) else mi (nv (s (20 + 4 * nv x))) (nv (s (20 + 4 * nv x))) (nv x) (s (20 + 4 * nv x + 2)) y (R, 0)
theorem g_lookup {X : gX} {cc : ByteArray} {nL : Nat} {own : String} {rm : Room} {ret : Option FieldType} {k n : Nat} {ws : va_W} {pc : Nat} {lv : List (Nat × Value)} {st : List Value} (h : gAt X cc nL own rm ret) {dflt : Int} {ps : Array (Int × Int)} {len : Nat} {x : Int32} {off : Int} (tgt : Nat) (hd : decode cc pc = .ok (.lookupswitch dflt ps, len)) (hp : (ps.toList.zip (ps.toList.drop 1)).all (fun (a, next) => a.1 < next.1) = true) (ho : Op.lookupswitch.offset ps.toList dflt x.toInt = off) (ht : (pc : Int) + off = (tgt : Int)) (kk : G X k n ws tgt lv st) : G X k n ws pc lv (.int x :: st) := gS (fun _ _ _ _ w => lv_lookup h.1 h.2.1 hd hp ho ht w) kk

abbrev OpV : Type := Int32 × TR × (Nat → Int32)
def o_voice (s R E : Nat → Int32) (n : Nat) (x v y : Int32) : OpV :=
  if isP s x && inB v 0 3 then (if (voiceV s R x v y).1 then (LOW - nI 6, (voiceV s R x v y).2.2, upd E 6 (E 6 + 1)) else ((voiceV s R x v y).2.1, (voiceV s R x v y).2.2, E)) else (LOW - nI 1, (R, n), upd E 1 (E 1 + 1))
theorem trW_eq {T : Nat → ClassId} {o : Nat} {a : Nat → Nat} {s : Nat → Int32} {S : Nat → Nat → Int32} {p : Nat} {t t' : TR} {b b' : Bool} (h1 : t = t') (h2 : b = b') : mW T o a s (trS S p t b) = mW T o a s (trS S p t' b') := by rw [h1, h2]
