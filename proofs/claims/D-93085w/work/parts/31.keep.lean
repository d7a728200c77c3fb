/-! A YEAR KEEPS INV -/
def Kp (s s' : Nat → Int32) : Prop := Inv s' ∧ nP s' = nP s ∧ nT s' = nT s ∧ nQ s' = nQ s
theorem Kp.rfl {s : Nat → Int32} (h : Inv s) : Kp s s := ⟨h, Eq.refl _, Eq.refl _, Eq.refl _⟩
theorem Kp.trans {s t u : Nat → Int32} (h1 : Kp s t) (h2 : Kp t u) : Kp s u := ⟨h2.1, h2.2.1.trans h1.2.1, h2.2.2.1.trans h1.2.2.1, h2.2.2.2.trans h1.2.2.2⟩
theorem fo_kp {s : Nat → Int32} {f : Nat → (Nat → Int32) → (Nat → Int32)} {N : Nat} (h : Inv s) (hf : ∀ t s', t < N → Kp s s' → Kp s' (f t s')) : ∀ i, i ≤ N → Kp s (fo i f s) := by
  intro i
  induction i with
  | zero => intro _; exact Kp.rfl h
  | succ i ih => intro hi; exact (ih (by omega)).trans (hf i _ (by omega) (ih (by omega)))
theorem rg_of {x : Int32} {n : Nat} (h : rg x n) : ∃ a, a ≤ n ∧ x = nI a := ⟨nv x, h.2, h.1⟩
theorem heI_rg (v : Int32) : rg (heI v 0 9999) 9999 := by
  unfold heI
  by_cases h1 : v < 0
  · rw [if_pos h1]; exact rg_nI (k := 0) (by omega) (by decide)
  · rw [if_neg h1]
    obtain ⟨j, hj, rfl⟩ := nI_of h1
    rw [show (9999 : Int32) = nI 9999 from rfl]
    by_cases h2 : nI 9999 < nI j
    · rw [if_pos h2]; exact rg_nI (by omega) (by decide)
    · rw [if_neg h2]; rw [nI_ltI (by decide) hj] at h2; exact rg_nI (by omega) (by decide)
theorem nameV_rg (s : Nat → Int32) (t : Nat) : rg (nameV s t) 9999 := heI_rg _
theorem getV_rg {x v : Int32} (hx : rg x 999999) (hv : ¬ v < 0) : rg (getV x v) 999999 := by
  obtain ⟨a, ha, rfl⟩ := rg_of hx
  obtain ⟨b, hb, rfl⟩ := nI_of hv
  unfold getV
  rw [show (999999 : Int32) = nI 999999 from rfl, pk_sub ha, nI_add]
  by_cases h : nI (999999 - a) < nI b
  · rw [if_pos h]; exact rg_nI (by omega) (by decide)
  · rw [if_neg h]; rw [nI_ltI (by omega) hb] at h; exact rg_nI (by omega) (by decide)
theorem potV_rg {x v : Int32} (hx : rg x 1999999999) (hv : ¬ v < 0) : rg (potV x v) 1999999999 := by
  obtain ⟨a, ha, rfl⟩ := rg_of hx
  obtain ⟨b, hb, rfl⟩ := nI_of hv
  unfold potV
  rw [show (1999999999 : Int32) = nI 1999999999 from rfl, pk_sub ha, nI_add]
  by_cases h : nI (1999999999 - a) < nI b
  · rw [if_pos h]; exact rg_nI (by omega) (by decide)
  · rw [if_neg h]; rw [nI_ltI (by omega) hb] at h; exact rg_nI (by omega) (by decide)
theorem rg_pos {x : Int32} {n : Nat} (hn : n < 2 ^ 31) (h : rg x n) : ¬ x < 0 := by
  rw [h.1]; exact nI_pos (Nat.lt_of_le_of_lt h.2 hn)
section KEEP
variable {s : Nat → Int32}
theorem Inv.purseR (h : Inv s) {p : Nat} (hp : p < 6) : rg (s (20 + 4 * p + 1)) 999999 := (h.2.2.1 p hp).2.1
theorem Inv.priceR (h : Inv s) {t : Nat} (ht : t < 12) : rg (s (44 + 4 * t + 1)) 9999 := (h.2.2.2.2.1 t ht).2.1
theorem Inv.soundR (h : Inv s) {t : Nat} (ht : t < 12) : rg (s (44 + 4 * t + 2)) 100 := (h.2.2.2.2.1 t ht).2.2.1
theorem Inv.keptR (h : Inv s) {t : Nat} (ht : t < 12) : rg (s (44 + 4 * t + 3)) 1 := (h.2.2.2.2.1 t ht).2.2.2
theorem Inv.potR (h : Inv s) : rg (s 5) 1999999999 := h.1.2.2.2.2.2
theorem Inv.r0 (h : Inv s) : rg (s 10) 99 := h.2.1.1
theorem Inv.r1 (h : Inv s) : rg (s 11) 99 := h.2.1.2.1
theorem Inv.r2 (h : Inv s) : rg (s 12) 2 := h.2.1.2.2.1
theorem Inv.r3 (h : Inv s) : rg (s 13) 9 := h.2.1.2.2.2.1
theorem Inv.r4 (h : Inv s) : rg (s 14) 999 := h.2.1.2.2.2.2
theorem payV_rg (h : Inv s) {t : Nat} (ht : t < nT s) : ∃ a b, a ≤ b ∧ b ≤ 999999 ∧ s (20 + 4 * owr s t + 1) = nI b ∧ payV s t = nI a := by
  have ho := h.owlE ht
  have l0 := h.npl
  have l1 := h.ntl
  obtain ⟨b, hb, eb⟩ := rg_of (h.purseR (p := owr s t) (by omega))
  obtain ⟨c, hc, ec⟩ := rg_of h.r0
  obtain ⟨d, hd, ed⟩ := rg_of (h.priceR (t := t) (by omega))
  have hcd : c * d ≤ 99 * 9999 := Nat.mul_le_mul hc hd
  have hdd : c * d / 100 < 2 ^ 31 := by omega
  unfold payV
  rw [eb, ec, ed, pk_mul, show (100 : Int32) = nI 100 from rfl, pk_div (by omega) (by decide) (by decide)]
  by_cases q : nI (c * d / 100) < nI b
  · rw [if_pos q]; rw [nI_ltI (by omega) (by omega)] at q; exact ⟨c * d / 100, b, by omega, hb, rfl, rfl⟩
  · rw [if_neg q]; exact ⟨b, b, Nat.le_refl _, hb, rfl, rfl⟩
theorem pays_kp (h : Inv s) {t : Nat} (ht : t < nT s) : Kp s (pays s t) := by
  have ho := h.owlE ht
  have l0 := h.npl
  obtain ⟨a, b, hab, hb, eb, ea⟩ := payV_rg h ht
  unfold pays
  have k1 := h.purse (p0 := owr s t) (by omega) (x := s (20 + 4 * owr s t + 1) - payV s t) (by rw [eb, ea, pk_sub hab]; exact rg_nI (by omega) (by decide))
  exact Kp.trans k1 (k1.1.pot (by rw [ea]; exact potV_rg h.potR (nI_pos (by omega))))
theorem gets_kp (h : Inv s) {p : Nat} (hp : p < 6) {v : Int32} (hv : ¬ v < 0) : Kp s (gets s p v) := h.purse hp (getV_rg (h.purseR hp) hv)
theorem sell_kp (h : Inv s) {t o i : Nat} {price : Int32} (ht : t < 12) (ho : o < 6) (hi : i < nP s) (hpr : ¬ price < 0) (hle : ¬ s (20 + 4 * i + 1) < price) : Kp s (sell s t o i price) := by
  have l0 := h.npl
  obtain ⟨b, hb, eb⟩ := rg_of (h.purseR (p := i) (by omega))
  obtain ⟨c, hc, rfl⟩ := nI_of hpr
  rw [eb, nI_ltI (by omega) hc] at hle
  have k1 : Kp s _ := h.purse (p0 := i) (by omega) (x := s (20 + 4 * i + 1) - nI c) (by rw [eb, pk_sub (by omega)]; exact rg_nI (by omega) (by decide))
  have k2 := k1.trans (gets_kp k1.1 ho hpr)
  have k3 := k2.trans (k2.1.owner ht (o0 := i) (by rw [k2.2.1]; exact hi))
  have k4 := k3.trans (k3.1.moves (s 4 + 1))
  unfold sell
  refine k4.trans (k4.1.sound ht ?_)
  obtain ⟨d, hd, ed⟩ := rg_of (h.soundR ht)
  obtain ⟨e, he, ee⟩ := rg_of h.r1
  rw [ed, ee]
  unfold sndV
  by_cases q : nI d - nI e < 0
  · rw [if_pos q]; exact rg_nI (k := 0) (by omega) (by decide)
  · rw [if_neg q]
    have hle2 : e ≤ d := by
      rcases Nat.lt_or_ge d e with z | z
      · exact absurd (pk_sneg (by omega) z) q
      · exact z
    rw [pk_sub hle2]
    exact rg_nI (by omega) (by decide)
theorem askR_kp {t o : Nat} {price : Int32} (ht : t < 12) (ho : o < 6) (hpr : ¬ price < 0) : ∀ (d i : Nat) (s : Nat → Int32), Inv s → i + d ≤ nP s → Kp s (askR t o price d i s)
  | 0, i, s, h, hi => Kp.rfl h
  | d + 1, i, s, h, hi => by
    have kz := h.z (dz (s 8))
    have go : Kp s (askR t o price d (i + 1) (upd s 8 (dz (s 8)))) := Kp.trans kz (askR_kp ht ho hpr d (i + 1) _ kz.1 (by have := kz.2.1; omega))
    unfold askR
    split
    · exact askR_kp ht ho hpr d (i + 1) s h (by omega)
    · split
      · split
        · split
          · exact go
          next q => exact Kp.trans kz (sell_kp kz.1 ht ho (by have := kz.2.1; omega) hpr (by rw [upd_n (by omega)]; exact q))
        · exact go
      · exact go
theorem asks_kp (h : Inv s) {t : Nat} (ht : t < nT s) : Kp s (asks s t) := by
  have l0 := h.npl
  have l1 := h.ntl
  have ho := h.owlE ht
  exact askR_kp (by omega) (by omega) (rg_pos (by decide) (h.priceR (t := t) (by omega))) (nP s) 0 s h (by omega)
theorem mends_kp (h : Inv s) {t : Nat} (ht : t < nT s) : Kp s (mends s t) := by
  have l0 := h.npl
  have l1 := h.ntl
  have ho := h.owlE ht
  unfold mends
  split
  next q =>
    obtain ⟨b, hb, eb⟩ := rg_of (h.purseR (p := owr s t) (by omega))
    obtain ⟨c, hc, ec⟩ := rg_of h.r4
    obtain ⟨d, hd, ed⟩ := rg_of (h.soundR (t := t) (by omega))
    have hcb : c ≤ b := by
      unfold mendB at q
      split at q
      · cases q
      · split at q
        · cases q
        next z => rw [eb, ec, nI_ltI (by omega) (by omega)] at z; omega
    have k1 : Kp s _ := h.purse (p0 := owr s t) (by omega) (x := s (20 + 4 * owr s t + 1) - s 14) (by rw [eb, ec, pk_sub hcb]; exact rg_nI (by omega) (by decide))
    refine k1.trans (k1.1.sound (by omega) ?_)
    rw [ed, show (10 : Int32) = nI 10 from rfl, show (100 : Int32) = nI 100 from rfl, nI_add]
    split
    · exact rg_nI (by omega) (by decide)
    next z => rw [nI_ltI (by omega) (by omega)] at z; exact rg_nI (by omega) (by decide)
  · exact Kp.rfl h
theorem poor_lt (h : Inv s) (h0 : 0 < nP s) : poor s < nP s := fo_lt h0 (Nat.le_refl _) (fun k b hk hb => by unfold poorF; split <;> assumption)
theorem shares_kp (h : Inv s) : Kp s (shares s) := by
  have l0 := h.npl
  unfold shares
  split
  · exact Kp.rfl h
  · split
    · exact Kp.rfl h
    next q =>
      obtain ⟨b, hb, eb⟩ := rg_of h.potR
      have hdl := Nat.div_le_self b (nP s)
      split
      · have k1 := fo_kp (s := s) (f := fun k s' => gets s' k (s 5 / nI (nP s))) (N := nP s) h (fun k s' hk hs' => gets_kp hs'.1 (by omega) (by rw [eb, pk_div (by omega) (by omega) (by omega)]; exact nI_pos (by omega))) (nP s) (Nat.le_refl _)
        refine k1.trans (k1.1.pot ?_)
        rw [eb, pk_rem (by omega) (by omega) (by omega)]
        exact rg_nI (by have := Nat.mod_le b (nP s); omega) (by decide)
      · have k1 := gets_kp h (p := poor s) (by have := poor_lt h (by omega); omega) (v := s 5) (rg_pos (by decide) h.potR)
        exact k1.trans (k1.1.pot (rg_nI (k := 0) (by omega) (by decide)))
theorem y1_kp (h : Inv s) : ∀ i, i ≤ nT s → Kp s (fo i (fun t s' => upd s' (44 + 4 * t + 1) (nameV s' t)) s) := fo_kp h (fun t s' ht hs' => hs'.1.price (by have := h.ntl; omega) (nameV_rg s' t))
theorem y2_kp (h : Inv s) : ∀ i, i ≤ nT s → Kp s (fo i (fun t s' => pays s' t) s) := fo_kp h (fun t s' ht hs' => pays_kp hs'.1 (by have := hs'.2.2.1; omega))
theorem y3_kp (h : Inv s) : ∀ i, i ≤ nT s → Kp s (fo i (fun t s' => if s' (44 + 4 * t + 3) = 0 then asks s' t else s') s) := fo_kp h (fun t s' ht hs' => by
  show Kp s' (if _ then _ else _)
  split
  · exact asks_kp hs'.1 (by have := hs'.2.2.1; omega)
  · exact Kp.rfl hs'.1)
theorem y4_kp (h : Inv s) : ∀ i, i ≤ nT s → Kp s (fo i (fun t s' => mends s' t) s) := fo_kp h (fun t s' ht hs' => mends_kp hs'.1 (by have := hs'.2.2.1; omega))
theorem y5_kp (h : Inv s) : Kp s (y5 s) := (shares_kp h).trans ((shares_kp h).1.years _)
theorem year_kp (h : Inv s) : Kp s (year s) := by
  have k1 : Kp s (y1 s) := y1_kp h _ (Nat.le_refl _)
  have k2 : Kp s (y2 (y1 s)) := k1.trans (y2_kp k1.1 _ (Nat.le_refl _))
  have k3 : Kp s (y3 (y2 (y1 s))) := k2.trans (y3_kp k2.1 _ (Nat.le_refl _))
  have k4 : Kp s (y4 (y3 (y2 (y1 s)))) := k3.trans (y4_kp k3.1 _ (Nat.le_refl _))
  exact k4.trans (y5_kp k4.1)
theorem yearN_kp (h : Inv s) : ∀ n, Kp s (yearN n s)
  | 0 => Kp.rfl h
  | n + 1 => (yearN_kp h n).trans (year_kp (yearN_kp h n).1)
end KEEP
theorem scr3 (S : Nat → Nat → Int32) (N P : Nat → Int32) : sU (scr S N P) 3 (S 3) = scr S N P := sU_self (scr S N P) 3
theorem qne {s : Nat → Int32} (h : Inv s) {p : Nat} (hp : p < nP s) : ¬ s (20 + 4 * p + 3) = 0 := fun z => by
  have := (h.pq hp).2.2.1
  rw [z] at this
  exact absurd this (by decide)
theorem val_z (s : Nat → Int32) (x : Int32) (p t : Nat) : val (upd s 8 x) p t = val s p t := by
  unfold val
  rw [upd_n (by omega), upd_n (by omega)]
theorem foget5 (s : Nat → Int32) (v : Int32) : ∀ n : Nat, n ≤ 6 → fo n (fun k s' => gets s' k v) s 5 = s 5
  | 0, _ => rfl
  | n + 1, h => by
    rw [fo_s]
    unfold gets
    rw [upd_n (by omega)]
    exact foget5 s v n (by omega)
