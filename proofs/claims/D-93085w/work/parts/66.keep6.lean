/-! .. a tape fed; an image kept -/
theorem byt_rg (w : Int64) (k : Nat) : rg (byt w k) 255 := by
  unfold byt
  rw [Int64.toInt32_and]
  exact and_rg
theorem feed_inv {s : Nat → Int32} (h : Inv s) (w : Int64) {n : Nat} (hn : nC s + n ≤ 60) : ∀ k, k ≤ n → Inv (fo k (feedF s w) s)
  | 0, _ => h
  | k + 1, hk => by
    have g := feed_inv h w hn k (by omega)
    show Inv (upd (upd (fo k (feedF s w) s) (432 + (nC s + k)) (byt w k)) 6 (nI (nC s + k + 1)))
    exact ((g.tape (i0 := nC s + k) (by omega) (byt_rg w k)).1.taped (rg_nI (by omega) (by decide))).1
theorem o_feed_inv {s : Nat → Int32} (h : Inv s) (E : Nat → Int32) (w : Int64) (n : Int32) : Inv (o_feed s E w n).2.1 := by
  unfold o_feed
  split
  · split
    · exact h
    · exact feed_inv h w (n := nv n) (by omega) (nv n) (Nat.le_refl _)
  · exact h
theorem o_restore_inv {s K : Nat → Int32} (h : Inv s) (hK : Inv K) (E : Nat → Int32) (im : Int32) : Inv (o_restore s E K im).2.1 := by
  unfold o_restore
  split
  · exact h
  · exact hK
