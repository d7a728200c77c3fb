
theorem gy_X5_missing : gY yX5_missing RX5 1 := ⟨rfl, by decide +kernel, by decide +kernel, by decide +kernel⟩
theorem gy_X5_worths : gY yX5_worths RX5 2 := ⟨rfl, by decide +kernel, by decide +kernel, by decide +kernel⟩
theorem gy_X5_judge : gY yX5_judge RX5 1 := ⟨rfl, by decide +kernel, by decide +kernel, by decide +kernel⟩
set_option maxHeartbeats 4000000 in
set_option maxRecDepth 100000 in
theorem m5_missing_0 (l : Launch) (D : va_G) (T : Nat → ClassId) (o : Nat) (a : Nat → Nat) (s : Nat → Int32) (S : Nat → Nat → Int32) (x : Nat) (h0 : x < 4) (h1 : S 8 x = 0) : MetW l D T yX5_missing cX5_missing 2 (some .int) 1 21 0 0 [.ref o, .int (nI x)] (mW T o a s S) (fun r_ w_ => r_ = some (.int (LOW - nI 2)) ∧ (w_ = mW T o a s (sU S 3 (upd (S 3) 2 (S 3 2 + 1))))) := by
  refine metW (own := RX5) rfl (by decide) rfl (fun X h hl hDx hTx hnm hE => ?_)
  subst hl; subst hDx; subst hTx
  show G X 0 0 (mW (xT X) o a s S) 0 [(0, .ref o), (1, .int (nI x))] []
  refine g_aload_n h dX5_missing_0 rfl ?_
  refine g_get h in_X5 0 rfl rfl 16 rfl q1390 rfl rfl dX5_missing_1 ?_
  refine g_iload_n h dX5_missing_4 rfl ?_
  refine g_iald h 9 rfl (by first | assumption | omega) (by decide) dX5_missing_5 ?_
  refine g_toI (y := S 8 x) (show S 8 x = _ from rfl) ?_
  refine g_if_ne h 17 dX5_missing_6 (by decide) (fun c6 => ?_) (fun c6 => ?_)
  · skip
    show G X 0 0 (mW (xT X) o a s S) 17 [(0, .ref o), (1, .int (nI x))] []
    exact absurd h1 c6
  · skip
    show G X 0 0 (mW (xT X) o a s S) 9 [(0, .ref o), (1, .int (nI x))] []
    refine g_aload_n h dX5_missing_9 rfl ?_
    refine g_iconst (v := nI 2) h dX5_missing_10 (by decide) ?_
    refine g_callVW0 h hE (m5_error _ _ _ o a s S 2 (by first | assumption | omega)) 0 rfl rfl (lw_V q1446 q1448 qs35 q95 q1449) gy_X5_error ⟨Nat.le_of_ble_eq_true rfl, Nat.le_of_ble_eq_true rfl⟩ ⟨Nat.le_of_ble_eq_true rfl, Nat.le_of_ble_eq_true rfl⟩ rfl rfl (Nat.le_of_ble_eq_true rfl) dX5_missing_11 (st' := [.int (LOW - nI 2)]) rfl (fun _ e11 => ?_)
    subst e11
    refine g_goto h 18 dX5_missing_14 (by decide) ?_
    exact g_iretWv h hE dX5_missing_18 rfl (mW_eq rfl rfl)
set_option maxHeartbeats 4000000 in
set_option maxRecDepth 100000 in
theorem m5_missing_1 (l : Launch) (D : va_G) (T : Nat → ClassId) (o : Nat) (a : Nat → Nat) (s : Nat → Int32) (S : Nat → Nat → Int32) (x : Nat) (h0 : x < 4) (h1 : ¬ S 8 x = 0) : MetW l D T yX5_missing cX5_missing 2 (some .int) 0 0 0 0 [.ref o, .int (nI x)] (mW T o a s S) (fun r_ w_ => r_ = some (.int (nI 0)) ∧ (w_ = mW T o a s S)) := by
  refine metW (own := RX5) rfl (by decide) rfl (fun X h hl hDx hTx hnm hE => ?_)
  subst hl; subst hDx; subst hTx
  show G X 0 0 (mW (xT X) o a s S) 0 [(0, .ref o), (1, .int (nI x))] []
  refine g_aload_n h dX5_missing_0 rfl ?_
  refine g_get h in_X5 0 rfl rfl 16 rfl q1390 rfl rfl dX5_missing_1 ?_
  refine g_iload_n h dX5_missing_4 rfl ?_
  refine g_iald h 9 rfl (by first | assumption | omega) (by decide) dX5_missing_5 ?_
  refine g_toI (y := S 8 x) (show S 8 x = _ from rfl) ?_
  refine g_if_ne h 17 dX5_missing_6 (by decide) (fun c6 => ?_) (fun c6 => ?_)
  · skip
    show G X 0 0 (mW (xT X) o a s S) 17 [(0, .ref o), (1, .int (nI x))] []
    refine g_iconst (v := nI 0) h dX5_missing_17 (by decide) ?_
    exact g_iretWv h hE dX5_missing_18 rfl (mW_eq rfl rfl)
  · skip
    show G X 0 0 (mW (xT X) o a s S) 9 [(0, .ref o), (1, .int (nI x))] []
    exact absurd c6 h1
set_option maxHeartbeats 4000000 in
set_option maxRecDepth 100000 in
theorem m5_worths (l : Launch) (D : va_G) (T : Nat → ClassId) (o : Nat) (a : Nat → Nat) (s : Nat → Int32) (S : Nat → Nat → Int32) (x : Int32) (y : Int32) (h0 : Inv s) (h1 : ShI S) : MetW l D T yX5_worths cX5_worths 4 (some .int) 2 43 0 0 [.ref o, .int x, .int y] (mW T o a s S) (fun r_ w_ => r_ = some (.int ((o_worths (hS S) s (S 3) x y).1)) ∧ (w_ = mW T o a ((o_worths (hS S) s (S 3) x y).2.1) (sU S 3 (o_worths (hS S) s (S 3) x y).2.2))) := by
  refine metW (own := RX5) rfl (by decide) rfl (fun X h hl hDx hTx hnm hE => ?_)
  subst hl; subst hDx; subst hTx
  have hnp := h0.npl; have hnt := h0.ntl; have hnq := h0.nql
  show G X 0 0 (mW (xT X) o a s S) 0 [(0, .ref o), (1, .int x), (2, .int y)] []
  refine g_iload_n h dX5_worths_0 rfl ?_
  refine g_callSR h (m5_isSheet _ _ _ x ) (fun _ q => nomatch q) (lw_S q1808 q1809 q95 q1810) gy_X5_isSheet ⟨Nat.le_of_ble_eq_true rfl, Nat.le_of_ble_eq_true rfl⟩ ⟨Nat.le_of_ble_eq_true rfl, Nat.le_of_ble_eq_true rfl⟩ rfl rfl (Nat.le_of_ble_eq_true rfl) dX5_worths_1 ?_
  refine g_if_eqB h 15 dX5_worths_4 (by decide) (fun c4 => ?_) (fun c4 => ?_)
  · skip
    show G X 0 0 (mW (xT X) o a s S) 15 [(0, .ref o), (1, .int x), (2, .int y)] []
    refine g_aload_n h dX5_worths_15 rfl ?_
    refine g_iconst (v := nI 1) h dX5_worths_16 (by decide) ?_
    refine g_callVW0 h hE (m5_error _ _ _ o a s S 1 (by first | assumption | omega)) 0 rfl rfl (lw_V q1446 q1448 qs35 q95 q1449) gy_X5_error ⟨Nat.le_of_ble_eq_true rfl, Nat.le_of_ble_eq_true rfl⟩ ⟨Nat.le_of_ble_eq_true rfl, Nat.le_of_ble_eq_true rfl⟩ rfl rfl (Nat.le_of_ble_eq_true rfl) dX5_worths_17 (st' := [.int (LOW - nI 1)]) rfl (fun _ e17 => ?_)
    subst e17
    exact g_iretWv h hE dX5_worths_20 (by first | (simp [o_worths, hS, er, LOW, sU_self, nI_pred, nv_nI, c4]; done) | (simp_all [o_worths, hS, er, LOW, sU_self, nI_pred, nv_nI, c4]; done)) (mW_eq (by first | (simp [o_worths, hS, er, LOW, sU_self, nI_pred, nv_nI, c4]; done) | (simp_all [o_worths, hS, er, LOW, sU_self, nI_pred, nv_nI, c4]; done)) (by first | (simp [o_worths, hS, er, LOW, sU_self, nI_pred, nv_nI, c4]; done) | (simp_all [o_worths, hS, er, LOW, sU_self, nI_pred, nv_nI, c4]; done)))
  · skip
    show G X 0 0 (mW (xT X) o a s S) 7 [(0, .ref o), (1, .int x), (2, .int y)] []
    obtain ⟨xn, hx, rfl⟩ := inB_of (n := 3) (by decide) c4
    have vx : nv (nI xn) = xn := nv_nI (by omega)
    have hz := h1 xn (by omega); have hz2 := hz.2
    refine g_aload_n h dX5_worths_7 rfl ?_
    refine g_iload_n h dX5_worths_8 rfl ?_
    refine g_callVR h (m5_isPerson _ _ _ o a s S y ) (fun _ q => q) 0 rfl rfl (lw_V q1455 q1457 qs36 q95 q1458) gy_X5_isPerson ⟨Nat.le_of_ble_eq_true rfl, Nat.le_of_ble_eq_true rfl⟩ ⟨Nat.le_of_ble_eq_true rfl, Nat.le_of_ble_eq_true rfl⟩ rfl rfl (Nat.le_of_ble_eq_true rfl) dX5_worths_9 ?_
    refine g_if_neB h 21 dX5_worths_12 (by decide) (fun c12 => ?_) (fun c12 => ?_)
    · skip
      show G X 0 0 (mW (xT X) o a s S) 21 [(0, .ref o), (1, .int (nI xn)), (2, .int y)] []
      obtain ⟨yn, hy, rfl⟩ := isP_of h0 c12
      have vy : nv (nI yn) = yn := nv_nI (by omega)
      refine g_aload_n h dX5_worths_21 rfl ?_
      refine g_iload_n h dX5_worths_22 rfl ?_
      by_cases hb : S 8 xn = 0
      · skip
        refine g_callVW0 h hE (m5_missing_0 _ _ _ o a s S xn (by first | assumption | omega) (by first | assumption | omega)) 0 rfl rfl (lw_V q1823 q1825 qs88 q95 q1826) gy_X5_missing ⟨Nat.le_of_ble_eq_true rfl, Nat.le_of_ble_eq_true rfl⟩ ⟨Nat.le_of_ble_eq_true rfl, Nat.le_of_ble_eq_true rfl⟩ rfl rfl (Nat.le_of_ble_eq_true rfl) dX5_worths_23 (st' := [.int (LOW - nI 2)]) rfl (fun _ e23 => ?_)
        subst e23
        refine g_if_geC h 33 dX5_worths_26 (by decide) (fun c26 => ?_) (fun c26 => ?_)
        · skip
          show G X 0 0 (mW (xT X) o a s (sU S 3 (upd (S 3) 2 (S 3 2 + 1)))) 33 [(0, .ref o), (1, .int (nI xn)), (2, .int (nI yn))] []
          exact absurd (by decide) c26
        · skip
          show G X 0 0 (mW (xT X) o a s (sU S 3 (upd (S 3) 2 (S 3 2 + 1)))) 29 [(0, .ref o), (1, .int (nI xn)), (2, .int (nI yn))] []
          refine g_ldcw h q1827 dX5_worths_29 ?_
          exact g_iretWv h hE dX5_worths_32 (by simp [o_worths, hS, er, LOW, sU_self, nI_pred, nv_nI, c4, vx, c12, vy, hb, c26]; decide) (mW_eq (by first | (simp [o_worths, hS, er, LOW, sU_self, nI_pred, nv_nI, c4, vx, c12, vy, hb, c26]; done) | (simp_all [o_worths, hS, er, LOW, sU_self, nI_pred, nv_nI, c4, vx, c12, vy, hb, c26]; done)) (by first | (simp [o_worths, hS, er, LOW, sU_self, nI_pred, nv_nI, c4, vx, c12, vy, hb, c26]; done) | (simp_all [o_worths, hS, er, LOW, sU_self, nI_pred, nv_nI, c4, vx, c12, vy, hb, c26]; done)))
      · skip
        refine g_callVW0 h hE (m5_missing_1 _ _ _ o a s S xn (by first | assumption | omega) (by first | assumption | omega)) 0 rfl rfl (lw_V q1823 q1825 qs88 q95 q1826) gy_X5_missing ⟨Nat.le_of_ble_eq_true rfl, Nat.le_of_ble_eq_true rfl⟩ ⟨Nat.le_of_ble_eq_true rfl, Nat.le_of_ble_eq_true rfl⟩ rfl rfl (Nat.le_of_ble_eq_true rfl) dX5_worths_23 (st' := [.int (nI 0)]) rfl (fun _ e23 => ?_)
        subst e23
        refine g_if_geN h 33 dX5_worths_26 (by decide) (by first | omega | decide) (fun c26 => ?_) (fun c26 => ?_)
        · skip
          show G X 0 0 (mW (xT X) o a s S) 33 [(0, .ref o), (1, .int (nI xn)), (2, .int (nI yn))] []
          refine g_iconst (v := nI 0) h dX5_worths_33 (by decide) ?_
          refine g_istore_n (lv' := [(0, .ref o), (1, .int (nI xn)), (2, .int (nI yn)), (3, .int (nI 0))]) h dX5_worths_34 (by decide) rfl ?_
          have lp : ∀ i, i ≤ nT s → ∀ (_u : Unit) (s1 : Nat → Int32), (worR (S 9) (S 10) xn yn 13 0 s = worR (S 9) (S 10) xn yn (13 - i) i s1) → (Kp s s1) → G X 0 0 (mW (xT X) o a s1 S) 35 [(0, .ref o), (1, .int (nI xn)), (2, .int (nI yn)), (3, .int (nI i))] [] := by
            refine g_ind (N := nT s) (fun i hi_i ih_lp => ?_)
            intro _u s1 e0_lp e1_lp
            have hI1 := e1_lp.1; have ht1 := e1_lp.2.2.1; have hp1 := e1_lp.2.1
            refine g_iload_n h dX5_worths_35 rfl ?_
            refine g_aload_n h dX5_worths_36 rfl ?_
            refine g_get h in_X5 0 rfl rfl 17 rfl q1391 rfl rfl dX5_worths_37 ?_
            refine g_iload_n h dX5_worths_40 rfl ?_
            refine g_iald h 10 rfl (by first | assumption | omega) (by decide) dX5_worths_41 ?_
            refine g_toI (y := S 9 xn) (show S 9 xn = _ from rfl) ?_
            refine g_toN (a := nv (S 9 xn)) hz.1 ?_
            refine g_icmp_geN h 105 dX5_worths_42 (by decide) (by first | omega | decide) (by first | omega | decide) (fun c42 => ?_) (fun c42 => ?_)
            · skip
              show G X 0 0 (mW (xT X) o a s1 S) 105 [(0, .ref o), (1, .int (nI xn)), (2, .int (nI yn)), (3, .int (nI i))] []
              refine g_iload_n h dX5_worths_105 rfl ?_
              exact g_iretWv h hE dX5_worths_106 (by have e : worR (S 9) (S 10) xn yn 13 0 s = (i, s1) := (by rw [e0_lp, show 13 - i = (13 - (i + 1)) + 1 by omega, worR]; first | (rw [if_neg (by rw [hz.1, nI_ltI (by omega) (by omega)]; assumption)]; done) | (rw [if_pos (by rw [hz.1, nI_ltI (by omega) (by omega)]; assumption)]; first | (rw [if_neg (by rw [c50]; decide)]; done) | (rw [if_pos c50, if_neg (by rw [c71]; decide)]; done))); simp only [o_worths, hS, vx, vy, c4, c12, Bool.and_self, if_true, if_neg hb, e]) (mW_eq (by have e : worR (S 9) (S 10) xn yn 13 0 s = (i, s1) := (by rw [e0_lp, show 13 - i = (13 - (i + 1)) + 1 by omega, worR]; first | (rw [if_neg (by rw [hz.1, nI_ltI (by omega) (by omega)]; assumption)]; done) | (rw [if_pos (by rw [hz.1, nI_ltI (by omega) (by omega)]; assumption)]; first | (rw [if_neg (by rw [c50]; decide)]; done) | (rw [if_pos c50, if_neg (by rw [c71]; decide)]; done))); simp only [o_worths, hS, vx, vy, c4, c12, Bool.and_self, if_true, if_neg hb, e]) (by have e : worR (S 9) (S 10) xn yn 13 0 s = (i, s1) := (by rw [e0_lp, show 13 - i = (13 - (i + 1)) + 1 by omega, worR]; first | (rw [if_neg (by rw [hz.1, nI_ltI (by omega) (by omega)]; assumption)]; done) | (rw [if_pos (by rw [hz.1, nI_ltI (by omega) (by omega)]; assumption)]; first | (rw [if_neg (by rw [c50]; decide)]; done) | (rw [if_pos c50, if_neg (by rw [c71]; decide)]; done))); simp only [o_worths, hS, vx, vy, c4, c12, Bool.and_self, if_true, if_neg hb, e]; exact (sU_self S 3).symm))
            · skip
              show G X 0 0 (mW (xT X) o a s1 S) 45 [(0, .ref o), (1, .int (nI xn)), (2, .int (nI yn)), (3, .int (nI i))] []
              refine g_aload_n h dX5_worths_45 rfl ?_
              refine g_iload_n h dX5_worths_46 rfl ?_
              refine g_callVR h (m5_isThing _ _ _ o a s1 S (nI i) ) (fun _ q => q) 0 rfl rfl (lw_V q1514 q1516 qs45 q95 q1517) gy_X5_isThing ⟨Nat.le_of_ble_eq_true rfl, Nat.le_of_ble_eq_true rfl⟩ ⟨Nat.le_of_ble_eq_true rfl, Nat.le_of_ble_eq_true rfl⟩ rfl rfl (Nat.le_of_ble_eq_true rfl) dX5_worths_47 ?_
              refine g_if_eqB h 105 dX5_worths_50 (by decide) (fun c50 => ?_) (fun c50 => ?_)
              · skip
                show G X 0 0 (mW (xT X) o a s1 S) 105 [(0, .ref o), (1, .int (nI xn)), (2, .int (nI yn)), (3, .int (nI i))] []
                refine g_iload_n h dX5_worths_105 rfl ?_
                exact g_iretWv h hE dX5_worths_106 (by have e : worR (S 9) (S 10) xn yn 13 0 s = (i, s1) := (by rw [e0_lp, show 13 - i = (13 - (i + 1)) + 1 by omega, worR]; first | (rw [if_neg (by rw [hz.1, nI_ltI (by omega) (by omega)]; assumption)]; done) | (rw [if_pos (by rw [hz.1, nI_ltI (by omega) (by omega)]; assumption)]; first | (rw [if_neg (by rw [c50]; decide)]; done) | (rw [if_pos c50, if_neg (by rw [c71]; decide)]; done))); simp only [o_worths, hS, vx, vy, c4, c12, Bool.and_self, if_true, if_neg hb, e]) (mW_eq (by have e : worR (S 9) (S 10) xn yn 13 0 s = (i, s1) := (by rw [e0_lp, show 13 - i = (13 - (i + 1)) + 1 by omega, worR]; first | (rw [if_neg (by rw [hz.1, nI_ltI (by omega) (by omega)]; assumption)]; done) | (rw [if_pos (by rw [hz.1, nI_ltI (by omega) (by omega)]; assumption)]; first | (rw [if_neg (by rw [c50]; decide)]; done) | (rw [if_pos c50, if_neg (by rw [c71]; decide)]; done))); simp only [o_worths, hS, vx, vy, c4, c12, Bool.and_self, if_true, if_neg hb, e]) (by have e : worR (S 9) (S 10) xn yn 13 0 s = (i, s1) := (by rw [e0_lp, show 13 - i = (13 - (i + 1)) + 1 by omega, worR]; first | (rw [if_neg (by rw [hz.1, nI_ltI (by omega) (by omega)]; assumption)]; done) | (rw [if_pos (by rw [hz.1, nI_ltI (by omega) (by omega)]; assumption)]; first | (rw [if_neg (by rw [c50]; decide)]; done) | (rw [if_pos c50, if_neg (by rw [c71]; decide)]; done))); simp only [o_worths, hS, vx, vy, c4, c12, Bool.and_self, if_true, if_neg hb, e]; exact (sU_self S 3).symm))
              · skip
                show G X 0 0 (mW (xT X) o a s1 S) 53 [(0, .ref o), (1, .int (nI xn)), (2, .int (nI yn)), (3, .int (nI i))] []
                have hi2 := isT_iff hI1 (by omega) c50; have hi3 := hI1.npl
                refine g_aload_n h dX5_worths_53 rfl ?_
                refine g_get h in_X5 0 rfl rfl 18 rfl q1392 rfl rfl dX5_worths_54 ?_
                refine g_bipush (v := nI 24) h dX5_worths_57 (by decide) ?_
                refine g_iload_n h dX5_worths_59 rfl ?_
                refine g_imulN h dX5_worths_60 ?_
                refine g_iload_n h dX5_worths_61 rfl ?_
                refine g_iaddN h dX5_worths_62 ?_
                refine g_iald h 11 rfl (by first | assumption | omega) (by decide) dX5_worths_63 ?_
                refine g_toI (y := S 10 (24 * xn + i)) (show S 10 (24 * xn + i) = _ from rfl) ?_
                refine g_iconst (v := nI 0) h dX5_worths_64 (by decide) ?_
                refine g_sipush (v := nI 9999) h dX5_worths_65 (by decide) ?_
                refine g_callSR h (m5_in _ _ _ (S 10 (24 * xn + i)) 0 9999 ) (fun _ q => nomatch q) (lw_S q1439 q1440 q95 q1441) gy_X5_in ⟨Nat.le_of_ble_eq_true rfl, Nat.le_of_ble_eq_true rfl⟩ ⟨Nat.le_of_ble_eq_true rfl, Nat.le_of_ble_eq_true rfl⟩ rfl rfl (Nat.le_of_ble_eq_true rfl) dX5_worths_68 ?_
                refine g_if_eqB h 105 dX5_worths_71 (by decide) (fun c71 => ?_) (fun c71 => ?_)
                · skip
                  show G X 0 0 (mW (xT X) o a s1 S) 105 [(0, .ref o), (1, .int (nI xn)), (2, .int (nI yn)), (3, .int (nI i))] []
                  refine g_iload_n h dX5_worths_105 rfl ?_
                  exact g_iretWv h hE dX5_worths_106 (by have e : worR (S 9) (S 10) xn yn 13 0 s = (i, s1) := (by rw [e0_lp, show 13 - i = (13 - (i + 1)) + 1 by omega, worR]; first | (rw [if_neg (by rw [hz.1, nI_ltI (by omega) (by omega)]; assumption)]; done) | (rw [if_pos (by rw [hz.1, nI_ltI (by omega) (by omega)]; assumption)]; first | (rw [if_neg (by rw [c50]; decide)]; done) | (rw [if_pos c50, if_neg (by rw [c71]; decide)]; done))); simp only [o_worths, hS, vx, vy, c4, c12, Bool.and_self, if_true, if_neg hb, e]) (mW_eq (by have e : worR (S 9) (S 10) xn yn 13 0 s = (i, s1) := (by rw [e0_lp, show 13 - i = (13 - (i + 1)) + 1 by omega, worR]; first | (rw [if_neg (by rw [hz.1, nI_ltI (by omega) (by omega)]; assumption)]; done) | (rw [if_pos (by rw [hz.1, nI_ltI (by omega) (by omega)]; assumption)]; first | (rw [if_neg (by rw [c50]; decide)]; done) | (rw [if_pos c50, if_neg (by rw [c71]; decide)]; done))); simp only [o_worths, hS, vx, vy, c4, c12, Bool.and_self, if_true, if_neg hb, e]) (by have e : worR (S 9) (S 10) xn yn 13 0 s = (i, s1) := (by rw [e0_lp, show 13 - i = (13 - (i + 1)) + 1 by omega, worR]; first | (rw [if_neg (by rw [hz.1, nI_ltI (by omega) (by omega)]; assumption)]; done) | (rw [if_pos (by rw [hz.1, nI_ltI (by omega) (by omega)]; assumption)]; first | (rw [if_neg (by rw [c50]; decide)]; done) | (rw [if_pos c50, if_neg (by rw [c71]; decide)]; done))); simp only [o_worths, hS, vx, vy, c4, c12, Bool.and_self, if_true, if_neg hb, e]; exact (sU_self S 3).symm))
                · skip
                  show G X 0 0 (mW (xT X) o a s1 S) 74 [(0, .ref o), (1, .int (nI xn)), (2, .int (nI yn)), (3, .int (nI i))] []
                  obtain ⟨w_, hw1, hw2⟩ := inB_of (n := 9999) (by decide) c71
                  refine g_aload_n h dX5_worths_74 rfl ?_
                  refine g_get h in_X5 0 rfl rfl 0 rfl q1374 rfl rfl dX5_worths_75 ?_
                  refine g_bipush (v := nI 110) h dX5_worths_78 (by decide) ?_
                  refine g_bipush (v := nI 12) h dX5_worths_80 (by decide) ?_
                  refine g_iload_n h dX5_worths_82 rfl ?_
                  refine g_imulN h dX5_worths_83 ?_
                  refine g_iaddN h dX5_worths_84 ?_
                  refine g_iload_n h dX5_worths_85 rfl ?_
                  refine g_iaddN h dX5_worths_86 ?_
                  refine g_aload_n h dX5_worths_87 rfl ?_
                  refine g_get h in_X5 0 rfl rfl 18 rfl q1392 rfl rfl dX5_worths_88 ?_
                  refine g_bipush (v := nI 24) h dX5_worths_91 (by decide) ?_
                  refine g_iload_n h dX5_worths_93 rfl ?_
                  refine g_imulN h dX5_worths_94 ?_
                  refine g_iload_n h dX5_worths_95 rfl ?_
                  refine g_iaddN h dX5_worths_96 ?_
                  refine g_iald h 11 rfl (by first | assumption | omega) (by decide) dX5_worths_97 ?_
                  refine g_toI (y := S 10 (24 * xn + i)) (show S 10 (24 * xn + i) = _ from rfl) ?_
                  refine g_iast (ws' := mW (xT X) o a (upd s1 (110 + 12 * yn + i) (S 10 (24 * xn + i))) S) h hE.1 1 rfl (by first | assumption | omega) (by decide) dX5_worths_98 rfl ?_
                  refine g_iincN (b := 1) (lv' := [(0, .ref o), (1, .int (nI xn)), (2, .int (nI yn)), (3, .int (nI (i + 1)))]) h dX5_worths_99 rfl rfl (by decide) rfl ?_
                  refine g_goto h 35 dX5_worths_102 (by decide) ?_
                  exact ih_lp (i + 1) (by omega) (by omega) () (upd s1 (110 + 12 * yn + i) (S 10 (24 * xn + i))) (by rw [e0_lp, show 13 - i = (13 - (i + 1)) + 1 by omega, worR, if_pos (by rw [hz.1]; exact nI_lt c42 (by omega)), if_pos c50, if_pos c71]) (e1_lp.trans (hI1.worth (by omega) hi2 (by rw [hw2]; exact rg_nI hw1 (by decide))))
          exact lp (0) (by omega) () s rfl (Kp.rfl h0)
        · skip
          show G X 0 0 (mW (xT X) o a s S) 29 [(0, .ref o), (1, .int (nI xn)), (2, .int (nI yn))] []
          exact absurd c26 (by decide)
    · skip
      show G X 0 0 (mW (xT X) o a s S) 15 [(0, .ref o), (1, .int (nI xn)), (2, .int y)] []
      refine g_aload_n h dX5_worths_15 rfl ?_
      refine g_iconst (v := nI 1) h dX5_worths_16 (by decide) ?_
      refine g_callVW0 h hE (m5_error _ _ _ o a s S 1 (by first | assumption | omega)) 0 rfl rfl (lw_V q1446 q1448 qs35 q95 q1449) gy_X5_error ⟨Nat.le_of_ble_eq_true rfl, Nat.le_of_ble_eq_true rfl⟩ ⟨Nat.le_of_ble_eq_true rfl, Nat.le_of_ble_eq_true rfl⟩ rfl rfl (Nat.le_of_ble_eq_true rfl) dX5_worths_17 (st' := [.int (LOW - nI 1)]) rfl (fun _ e17 => ?_)
      subst e17
      exact g_iretWv h hE dX5_worths_20 (by first | (simp [o_worths, hS, er, LOW, sU_self, nI_pred, nv_nI, c4, vx, c12]; done) | (simp_all [o_worths, hS, er, LOW, sU_self, nI_pred, nv_nI, c4, vx, c12]; done)) (mW_eq (by first | (simp [o_worths, hS, er, LOW, sU_self, nI_pred, nv_nI, c4, vx, c12]; done) | (simp_all [o_worths, hS, er, LOW, sU_self, nI_pred, nv_nI, c4, vx, c12]; done)) (by first | (simp [o_worths, hS, er, LOW, sU_self, nI_pred, nv_nI, c4, vx, c12]; done) | (simp_all [o_worths, hS, er, LOW, sU_self, nI_pred, nv_nI, c4, vx, c12]; done)))
set_option maxHeartbeats 4000000 in
set_option maxRecDepth 100000 in
theorem m5_judge (l : Launch) (D : va_G) (T : Nat → ClassId) (o : Nat) (a : Nat → Nat) (s : Nat → Int32) (S : Nat → Nat → Int32) (x : Int32) (h0 : Inv s) (h1 : ShI S) : MetW l D T yX5_judge cX5_judge 3 (some .int) 9 216 0 0 [.ref o, .int x] (mW T o a s S) (fun r_ w_ => r_ = some (.int ((o_judge (hS S) s (S 3) x).1)) ∧ (∃ (N : Nat → Int32) (P : Nat → Int32), w_ = mW T o a ((o_judge (hS S) s (S 3) x).2.1) (sU (scr S N P) 3 (o_judge (hS S) s (S 3) x).2.2))) := by
  refine metW (own := RX5) rfl (by decide) rfl (fun X h hl hDx hTx hnm hE => ?_)
  subst hl; subst hDx; subst hTx
  have hnp := h0.npl; have hnt := h0.ntl; have hnq := h0.nql
  show G X 0 0 (mW (xT X) o a s S) 0 [(0, .ref o), (1, .int x)] []
  refine g_iload_n h dX5_judge_0 rfl ?_
  refine g_callSR h (m5_isSheet _ _ _ x ) (fun _ q => nomatch q) (lw_S q1808 q1809 q95 q1810) gy_X5_isSheet ⟨Nat.le_of_ble_eq_true rfl, Nat.le_of_ble_eq_true rfl⟩ ⟨Nat.le_of_ble_eq_true rfl, Nat.le_of_ble_eq_true rfl⟩ rfl rfl (Nat.le_of_ble_eq_true rfl) dX5_judge_1 ?_
  refine g_if_neB h 13 dX5_judge_4 (by decide) (fun c4 => ?_) (fun c4 => ?_)
  · skip
    show G X 0 0 (mW (xT X) o a s S) 13 [(0, .ref o), (1, .int x)] []
    obtain ⟨xn, hx, rfl⟩ := inB_of (n := 3) (by decide) c4
    have vx : nv (nI xn) = xn := nv_nI (by omega)
    have hz := h1 xn (by omega); have hz2 := hz.2
    refine g_aload_n h dX5_judge_13 rfl ?_
    refine g_iload_n h dX5_judge_14 rfl ?_
    by_cases hb : S 8 xn = 0
    · skip
      refine g_callVW0 h hE (m5_missing_0 _ _ _ o a s S xn (by first | assumption | omega) (by first | assumption | omega)) 0 rfl rfl (lw_V q1823 q1825 qs88 q95 q1826) gy_X5_missing ⟨Nat.le_of_ble_eq_true rfl, Nat.le_of_ble_eq_true rfl⟩ ⟨Nat.le_of_ble_eq_true rfl, Nat.le_of_ble_eq_true rfl⟩ rfl rfl (Nat.le_of_ble_eq_true rfl) dX5_judge_15 (st' := [.int (LOW - nI 2)]) rfl (fun _ e15 => ?_)
      subst e15
      refine g_if_geC h 25 dX5_judge_18 (by decide) (fun c18 => ?_) (fun c18 => ?_)
      · skip
        show G X 0 0 (mW (xT X) o a s (sU S 3 (upd (S 3) 2 (S 3 2 + 1)))) 25 [(0, .ref o), (1, .int (nI xn))] []
        exact absurd (by decide) c18
      · skip
        show G X 0 0 (mW (xT X) o a s (sU S 3 (upd (S 3) 2 (S 3 2 + 1)))) 21 [(0, .ref o), (1, .int (nI xn))] []
        refine g_ldcw h q1827 dX5_judge_21 ?_
        exact g_iretWv h hE dX5_judge_24 (by simp [o_judge, hS, er, LOW, sU_self, nI_pred, nv_nI, c4, vx, hb, c18]; decide) (⟨S 5, S 6, mW_eq (by first | (simp [o_judge, hS, er, LOW, sU_self, nI_pred, nv_nI, c4, vx, hb, c18]; done) | (simp_all [o_judge, hS, er, LOW, sU_self, nI_pred, nv_nI, c4, vx, hb, c18]; done)) (by first | (simp [o_judge, hS, er, LOW, sU_self, nI_pred, nv_nI, c4, vx, hb, c18, scr3, scr_self]; done) | (simp_all [o_judge, hS, er, LOW, sU_self, nI_pred, nv_nI, c4, vx, hb, c18, scr3, scr_self]; done))⟩)
    · skip
      refine g_callVW0 h hE (m5_missing_1 _ _ _ o a s S xn (by first | assumption | omega) (by first | assumption | omega)) 0 rfl rfl (lw_V q1823 q1825 qs88 q95 q1826) gy_X5_missing ⟨Nat.le_of_ble_eq_true rfl, Nat.le_of_ble_eq_true rfl⟩ ⟨Nat.le_of_ble_eq_true rfl, Nat.le_of_ble_eq_true rfl⟩ rfl rfl (Nat.le_of_ble_eq_true rfl) dX5_judge_15 (st' := [.int (nI 0)]) rfl (fun _ e15 => ?_)
      subst e15
      refine g_if_geN h 25 dX5_judge_18 (by decide) (by first | omega | decide) (fun c18 => ?_) (fun c18 => ?_)
      · skip
        show G X 0 0 (mW (xT X) o a s S) 25 [(0, .ref o), (1, .int (nI xn))] []
        rw [← scr_self S]
        refine g_iconst (v := nI 0) h dX5_judge_25 (by decide) ?_
        refine g_istore_n (lv' := [(0, .ref o), (1, .int (nI xn)), (2, .int (nI 0))]) h dX5_judge_26 (by decide) rfl ?_
        have lp : ∀ i, i ≤ nT s → ∀ (_u : Unit) (NA : Nat → Int32) (PA : Nat → Int32), (judR (S 9) (S 10) s xn 13 0 = judR (S 9) (S 10) s xn (13 - i) i) → G X 0 0 (mW (xT X) o a s (scr S NA PA)) 27 [(0, .ref o), (1, .int (nI xn)), (2, .int (nI i))] [] := by
          refine g_ind (N := nT s) (fun i hi_i ih_lp => ?_)
          intro _u NA PA e0_lp
          refine g_aload_n h dX5_judge_27 rfl ?_
          refine g_iload_n h dX5_judge_28 rfl ?_
          refine g_callVR h (m5_isThing _ _ _ o a s (scr S NA PA) (nI i) ) (fun _ q => q) 0 rfl rfl (lw_V q1514 q1516 qs45 q95 q1517) gy_X5_isThing ⟨Nat.le_of_ble_eq_true rfl, Nat.le_of_ble_eq_true rfl⟩ ⟨Nat.le_of_ble_eq_true rfl, Nat.le_of_ble_eq_true rfl⟩ rfl rfl (Nat.le_of_ble_eq_true rfl) dX5_judge_29 ?_
          refine g_if_eqB h 70 dX5_judge_32 (by decide) (fun c32 => ?_) (fun c32 => ?_)
          · skip
            show G X 0 0 (mW (xT X) o a s (scr S NA PA)) 70 [(0, .ref o), (1, .int (nI xn)), (2, .int (nI i))] []
            refine g_iload_n h dX5_judge_70 rfl ?_
            exact g_iretWv h hE dX5_judge_71 (by have e : judR (S 9) (S 10) s xn 13 0 = i := (by rw [e0_lp, show 13 - i = (13 - (i + 1)) + 1 by omega, judR]; first | (rw [if_neg (by rw [c32]; decide)]; done) | (rw [if_pos c32]; first | (rw [if_neg (by rw [hz.1, nI_ltI (by omega) (by omega)]; assumption)]; done) | (rw [if_pos (by rw [hz.1, nI_ltI (by omega) (by omega)]; assumption), if_neg c61]; done))); simp only [o_judge, hS, vx, c4, if_true, if_neg hb, e]) (⟨NA, PA, mW_eq (by have e : judR (S 9) (S 10) s xn 13 0 = i := (by rw [e0_lp, show 13 - i = (13 - (i + 1)) + 1 by omega, judR]; first | (rw [if_neg (by rw [c32]; decide)]; done) | (rw [if_pos c32]; first | (rw [if_neg (by rw [hz.1, nI_ltI (by omega) (by omega)]; assumption)]; done) | (rw [if_pos (by rw [hz.1, nI_ltI (by omega) (by omega)]; assumption), if_neg c61]; done))); simp only [o_judge, hS, vx, c4, if_true, if_neg hb, e]) (by have e : judR (S 9) (S 10) s xn 13 0 = i := (by rw [e0_lp, show 13 - i = (13 - (i + 1)) + 1 by omega, judR]; first | (rw [if_neg (by rw [c32]; decide)]; done) | (rw [if_pos c32]; first | (rw [if_neg (by rw [hz.1, nI_ltI (by omega) (by omega)]; assumption)]; done) | (rw [if_pos (by rw [hz.1, nI_ltI (by omega) (by omega)]; assumption), if_neg c61]; done))); simp only [o_judge, hS, vx, c4, if_true, if_neg hb, e]; exact (scr3 S _ _).symm)⟩)
          · skip
            show G X 0 0 (mW (xT X) o a s (scr S NA PA)) 35 [(0, .ref o), (1, .int (nI xn)), (2, .int (nI i))] []
            have hi2 := isT_iff h0 (by omega) c32
            refine g_iload_n h dX5_judge_35 rfl ?_
            refine g_aload_n h dX5_judge_36 rfl ?_
            refine g_get h in_X5 0 rfl rfl 17 rfl q1391 rfl rfl dX5_judge_37 ?_
            refine g_iload_n h dX5_judge_40 rfl ?_
            refine g_iald h 10 rfl (by first | assumption | omega) (by decide) dX5_judge_41 ?_
            refine g_toI (y := S 9 xn) (show (scr S NA PA) 9 xn = _ from rfl) ?_
            refine g_toN (a := nv (S 9 xn)) hz.1 ?_
            refine g_icmp_geN h 70 dX5_judge_42 (by decide) (by first | omega | decide) (by first | omega | decide) (fun c42 => ?_) (fun c42 => ?_)
            · skip
              show G X 0 0 (mW (xT X) o a s (scr S NA PA)) 70 [(0, .ref o), (1, .int (nI xn)), (2, .int (nI i))] []
              refine g_iload_n h dX5_judge_70 rfl ?_
              exact g_iretWv h hE dX5_judge_71 (by have e : judR (S 9) (S 10) s xn 13 0 = i := (by rw [e0_lp, show 13 - i = (13 - (i + 1)) + 1 by omega, judR]; first | (rw [if_neg (by rw [c32]; decide)]; done) | (rw [if_pos c32]; first | (rw [if_neg (by rw [hz.1, nI_ltI (by omega) (by omega)]; assumption)]; done) | (rw [if_pos (by rw [hz.1, nI_ltI (by omega) (by omega)]; assumption), if_neg c61]; done))); simp only [o_judge, hS, vx, c4, if_true, if_neg hb, e]) (⟨NA, PA, mW_eq (by have e : judR (S 9) (S 10) s xn 13 0 = i := (by rw [e0_lp, show 13 - i = (13 - (i + 1)) + 1 by omega, judR]; first | (rw [if_neg (by rw [c32]; decide)]; done) | (rw [if_pos c32]; first | (rw [if_neg (by rw [hz.1, nI_ltI (by omega) (by omega)]; assumption)]; done) | (rw [if_pos (by rw [hz.1, nI_ltI (by omega) (by omega)]; assumption), if_neg c61]; done))); simp only [o_judge, hS, vx, c4, if_true, if_neg hb, e]) (by have e : judR (S 9) (S 10) s xn 13 0 = i := (by rw [e0_lp, show 13 - i = (13 - (i + 1)) + 1 by omega, judR]; first | (rw [if_neg (by rw [c32]; decide)]; done) | (rw [if_pos c32]; first | (rw [if_neg (by rw [hz.1, nI_ltI (by omega) (by omega)]; assumption)]; done) | (rw [if_pos (by rw [hz.1, nI_ltI (by omega) (by omega)]; assumption), if_neg c61]; done))); simp only [o_judge, hS, vx, c4, if_true, if_neg hb, e]; exact (scr3 S _ _).symm)⟩)
            · skip
              show G X 0 0 (mW (xT X) o a s (scr S NA PA)) 45 [(0, .ref o), (1, .int (nI xn)), (2, .int (nI i))] []
              refine g_aload_n h dX5_judge_45 rfl ?_
              refine g_get h in_X5 0 rfl rfl 18 rfl q1392 rfl rfl dX5_judge_46 ?_
              refine g_bipush (v := nI 24) h dX5_judge_49 (by decide) ?_
              refine g_iload_n h dX5_judge_51 rfl ?_
              refine g_imulN h dX5_judge_52 ?_
              refine g_iload_n h dX5_judge_53 rfl ?_
              refine g_iaddN h dX5_judge_54 ?_
              refine g_iald h 11 rfl (by first | assumption | omega) (by decide) dX5_judge_55 ?_
              refine g_toI (y := S 10 (24 * xn + i)) (show (scr S NA PA) 10 (24 * xn + i) = _ from rfl) ?_
              refine g_aload_n h dX5_judge_56 rfl ?_
              refine g_iload_n h dX5_judge_57 rfl ?_
              refine g_callVW0 h hE (m5_names _ _ _ o a s (scr S NA PA) i h0 (by first | assumption | omega)) 0 rfl rfl (lw_V q1614 q1616 qs59 q95 q1617) gy_X5_names ⟨Nat.le_of_ble_eq_true rfl, Nat.le_of_ble_eq_true rfl⟩ ⟨Nat.le_of_ble_eq_true rfl, Nat.le_of_ble_eq_true rfl⟩ rfl rfl (Nat.le_of_ble_eq_true rfl) dX5_judge_58 (st' := [.int (nameV s i), .int (S 10 (24 * xn + i))]) rfl (fun _ e58 => ?_)
              obtain ⟨N_58, P_58, rfl⟩ := e58
              rw [scr_scr]
              refine g_icmp_ne h 70 dX5_judge_61 (by decide) (fun c61 => ?_) (fun c61 => ?_)
              · skip
                show G X 0 0 (mW (xT X) o a s (scr S N_58 P_58)) 70 [(0, .ref o), (1, .int (nI xn)), (2, .int (nI i))] []
                refine g_iload_n h dX5_judge_70 rfl ?_
                exact g_iretWv h hE dX5_judge_71 (by have e : judR (S 9) (S 10) s xn 13 0 = i := (by rw [e0_lp, show 13 - i = (13 - (i + 1)) + 1 by omega, judR]; first | (rw [if_neg (by rw [c32]; decide)]; done) | (rw [if_pos c32]; first | (rw [if_neg (by rw [hz.1, nI_ltI (by omega) (by omega)]; assumption)]; done) | (rw [if_pos (by rw [hz.1, nI_ltI (by omega) (by omega)]; assumption), if_neg c61]; done))); simp only [o_judge, hS, vx, c4, if_true, if_neg hb, e]) (⟨N_58, P_58, mW_eq (by have e : judR (S 9) (S 10) s xn 13 0 = i := (by rw [e0_lp, show 13 - i = (13 - (i + 1)) + 1 by omega, judR]; first | (rw [if_neg (by rw [c32]; decide)]; done) | (rw [if_pos c32]; first | (rw [if_neg (by rw [hz.1, nI_ltI (by omega) (by omega)]; assumption)]; done) | (rw [if_pos (by rw [hz.1, nI_ltI (by omega) (by omega)]; assumption), if_neg c61]; done))); simp only [o_judge, hS, vx, c4, if_true, if_neg hb, e]) (by have e : judR (S 9) (S 10) s xn 13 0 = i := (by rw [e0_lp, show 13 - i = (13 - (i + 1)) + 1 by omega, judR]; first | (rw [if_neg (by rw [c32]; decide)]; done) | (rw [if_pos c32]; first | (rw [if_neg (by rw [hz.1, nI_ltI (by omega) (by omega)]; assumption)]; done) | (rw [if_pos (by rw [hz.1, nI_ltI (by omega) (by omega)]; assumption), if_neg c61]; done))); simp only [o_judge, hS, vx, c4, if_true, if_neg hb, e]; exact (scr3 S _ _).symm)⟩)
              · skip
                show G X 0 0 (mW (xT X) o a s (scr S N_58 P_58)) 64 [(0, .ref o), (1, .int (nI xn)), (2, .int (nI i))] []
                refine g_iincN (b := 1) (lv' := [(0, .ref o), (1, .int (nI xn)), (2, .int (nI (i + 1)))]) h dX5_judge_64 rfl rfl (by decide) rfl ?_
                refine g_goto h 27 dX5_judge_67 (by decide) ?_
                exact ih_lp (i + 1) (by omega) (by omega) () N_58 P_58 (by rw [e0_lp, show 13 - i = (13 - (i + 1)) + 1 by omega, judR, if_pos c32, if_pos (by rw [hz.1]; exact nI_lt c42 (by omega)), if_pos c61])
        exact lp (0) (by omega) () (S 5) (S 6) rfl
      · skip
        show G X 0 0 (mW (xT X) o a s S) 21 [(0, .ref o), (1, .int (nI xn))] []
        exact absurd c18 (by decide)
  · skip
    show G X 0 0 (mW (xT X) o a s S) 7 [(0, .ref o), (1, .int x)] []
    refine g_aload_n h dX5_judge_7 rfl ?_
    refine g_iconst (v := nI 1) h dX5_judge_8 (by decide) ?_
    refine g_callVW0 h hE (m5_error _ _ _ o a s S 1 (by first | assumption | omega)) 0 rfl rfl (lw_V q1446 q1448 qs35 q95 q1449) gy_X5_error ⟨Nat.le_of_ble_eq_true rfl, Nat.le_of_ble_eq_true rfl⟩ ⟨Nat.le_of_ble_eq_true rfl, Nat.le_of_ble_eq_true rfl⟩ rfl rfl (Nat.le_of_ble_eq_true rfl) dX5_judge_9 (st' := [.int (LOW - nI 1)]) rfl (fun _ e9 => ?_)
    subst e9
    exact g_iretWv h hE dX5_judge_12 (by first | (simp [o_judge, hS, er, LOW, sU_self, nI_pred, nv_nI, c4]; done) | (simp_all [o_judge, hS, er, LOW, sU_self, nI_pred, nv_nI, c4]; done)) (⟨S 5, S 6, mW_eq (by first | (simp [o_judge, hS, er, LOW, sU_self, nI_pred, nv_nI, c4]; done) | (simp_all [o_judge, hS, er, LOW, sU_self, nI_pred, nv_nI, c4]; done)) (by first | (simp [o_judge, hS, er, LOW, sU_self, nI_pred, nv_nI, c4, scr3, scr_self]; done) | (simp_all [o_judge, hS, er, LOW, sU_self, nI_pred, nv_nI, c4, scr3, scr_self]; done))⟩)
