
theorem gy_X5_names : gY yX5_names RX5 1 := ⟨rfl, by decide +kernel, by decide +kernel, by decide +kernel⟩
theorem gy_X5_named : gY yX5_named RX5 1 := ⟨rfl, by decide +kernel, by decide +kernel, by decide +kernel⟩
theorem gy_X5_isMended : gY yX5_isMended RX5 1 := ⟨rfl, by decide +kernel, by decide +kernel, by decide +kernel⟩
theorem gy_X5_mended : gY yX5_mended RX5 1 := ⟨rfl, by decide +kernel, by decide +kernel, by decide +kernel⟩
theorem gy_X5_draw : gY yX5_draw RX5 0 := ⟨rfl, by decide +kernel, by decide +kernel, by decide +kernel⟩
theorem gy_X5_gets : gY yX5_gets RX5 2 := ⟨rfl, by decide +kernel, by decide +kernel, by decide +kernel⟩
theorem gy_X5_pays : gY yX5_pays RX5 1 := ⟨rfl, by decide +kernel, by decide +kernel, by decide +kernel⟩
theorem gy_X5_isAsked : gY yX5_isAsked RX5 1 := ⟨rfl, by decide +kernel, by decide +kernel, by decide +kernel⟩
theorem gy_X5_mends : gY yX5_mends RX5 1 := ⟨rfl, by decide +kernel, by decide +kernel, by decide +kernel⟩
theorem gy_X5_sharesOut : gY yX5_sharesOut RX5 0 := ⟨rfl, by decide +kernel, by decide +kernel, by decide +kernel⟩
theorem gy_X5_year : gY yX5_year RX5 0 := ⟨rfl, by decide +kernel, by decide +kernel, by decide +kernel⟩
theorem gy_X5_go : gY yX5_go RX5 1 := ⟨rfl, by decide +kernel, by decide +kernel, by decide +kernel⟩
theorem gy_X5_years : gY yX5_years RX5 1 := ⟨rfl, by decide +kernel, by decide +kernel, by decide +kernel⟩
theorem gy_X5_seed : gY yX5_seed RX5 1 := ⟨rfl, by decide +kernel, by decide +kernel, by decide +kernel⟩
set_option maxHeartbeats 4000000 in
set_option maxRecDepth 100000 in
theorem m5_names (l : Launch) (D : va_G) (T : Nat → ClassId) (o : Nat) (a : Nat → Nat) (s : Nat → Int32) (S : Nat → Nat → Int32) (t : Nat) (h0 : Inv s) (h1 : t < nT s) : MetW l D T yX5_names cX5_names 2 (some .int) 8 195 0 0 [.ref o, .int (nI t)] (mW T o a s S) (fun r_ w_ => r_ = some (.int (nameV s t)) ∧ (∃ (N : Nat → Int32) (P : Nat → Int32), w_ = mW T o a s (scr S N P))) := by
  refine metW (own := RX5) rfl (by decide) rfl (fun X h hl hDx hTx hnm hE => ?_)
  subst hl; subst hDx; subst hTx
  have hnp := h0.npl; have hnt := h0.ntl; have hnq := h0.nql
  show G X 0 0 (mW (xT X) o a s S) 0 [(0, .ref o), (1, .int (nI t))] []
  refine g_aload_n h dX5_names_0 rfl ?_
  refine g_iload_n h dX5_names_1 rfl ?_
  refine g_callVW0 h hE (m5_namedBy _ _ _ o a s S t h0 (by first | assumption | omega)) 0 rfl rfl (lw_V q1618 q1620 qs60 q95 q1621) gy_X5_namedBy ⟨Nat.le_of_ble_eq_true rfl, Nat.le_of_ble_eq_true rfl⟩ ⟨Nat.le_of_ble_eq_true rfl, Nat.le_of_ble_eq_true rfl⟩ rfl rfl (Nat.le_of_ble_eq_true rfl) dX5_names_2 (st' := [.int (nameB s t)]) rfl (fun _ e2 => ?_)
  obtain ⟨N_2, P_2, rfl⟩ := e2
  refine g_iconst (v := nI 0) h dX5_names_5 (by decide) ?_
  refine g_sipush (v := nI 9999) h dX5_names_6 (by decide) ?_
  refine g_callSR h (m5_held _ _ _ (nameB s t) 0 9999 ) (fun _ q => nomatch q) (lw_S q1658 q1659 q95 q1660) gy_X5_held ⟨Nat.le_of_ble_eq_true rfl, Nat.le_of_ble_eq_true rfl⟩ ⟨Nat.le_of_ble_eq_true rfl, Nat.le_of_ble_eq_true rfl⟩ rfl rfl (Nat.le_of_ble_eq_true rfl) dX5_names_9 ?_
  exact g_iretWv h hE dX5_names_12 rfl (⟨N_2, P_2, mW_eq rfl rfl⟩)
set_option maxHeartbeats 4000000 in
set_option maxRecDepth 100000 in
theorem m5_named (l : Launch) (D : va_G) (T : Nat → ClassId) (o : Nat) (a : Nat → Nat) (s : Nat → Int32) (S : Nat → Nat → Int32) (x : Int32) (h0 : Inv s) : MetW l D T yX5_named cX5_named 2 (some .int) 9 216 0 0 [.ref o, .int x] (mW T o a s S) (fun r_ w_ => r_ = some (.int ((o_named s (S 3) x).1)) ∧ (∃ (N : Nat → Int32) (P : Nat → Int32), w_ = mW T o a ((o_named s (S 3) x).2.1) (sU (scr S N P) 3 (o_named s (S 3) x).2.2))) := by
  refine metW (own := RX5) rfl (by decide) rfl (fun X h hl hDx hTx hnm hE => ?_)
  subst hl; subst hDx; subst hTx
  have hnp := h0.npl; have hnt := h0.ntl; have hnq := h0.nql
  show G X 0 0 (mW (xT X) o a s S) 0 [(0, .ref o), (1, .int x)] []
  refine g_aload_n h dX5_named_0 rfl ?_
  refine g_iload_n h dX5_named_1 rfl ?_
  refine g_callVR h (m5_isThing _ _ _ o a s S x ) (fun _ q => q) 0 rfl rfl (lw_V q1514 q1516 qs45 q95 q1517) gy_X5_isThing ⟨Nat.le_of_ble_eq_true rfl, Nat.le_of_ble_eq_true rfl⟩ ⟨Nat.le_of_ble_eq_true rfl, Nat.le_of_ble_eq_true rfl⟩ rfl rfl (Nat.le_of_ble_eq_true rfl) dX5_named_2 ?_
  refine g_if_eqB h 16 dX5_named_5 (by decide) (fun c5 => ?_) (fun c5 => ?_)
  · skip
    show G X 0 0 (mW (xT X) o a s S) 16 [(0, .ref o), (1, .int x)] []
    refine g_aload_n h dX5_named_16 rfl ?_
    refine g_iconst (v := nI 1) h dX5_named_17 (by decide) ?_
    refine g_callVW0 h hE (m5_error _ _ _ o a s S 1 (by first | assumption | omega)) 0 rfl rfl (lw_V q1446 q1448 qs35 q95 q1449) gy_X5_error ⟨Nat.le_of_ble_eq_true rfl, Nat.le_of_ble_eq_true rfl⟩ ⟨Nat.le_of_ble_eq_true rfl, Nat.le_of_ble_eq_true rfl⟩ rfl rfl (Nat.le_of_ble_eq_true rfl) dX5_named_18 (st' := [.int (LOW - nI 1)]) rfl (fun _ e18 => ?_)
    subst e18
    exact g_iretWv h hE dX5_named_21 (by first | (simp [o_named, er, LOW, sU_self, nI_pred, nv_nI, c5]; done) | (simp_all [o_named, er, LOW, sU_self, nI_pred, nv_nI, c5]; done)) (⟨S 5, S 6, mW_eq (by first | (simp [o_named, er, LOW, sU_self, nI_pred, nv_nI, c5]; done) | (simp_all [o_named, er, LOW, sU_self, nI_pred, nv_nI, c5]; done)) (by first | (simp [o_named, er, LOW, sU_self, nI_pred, nv_nI, c5, scr3, scr_self]; done) | (simp_all [o_named, er, LOW, sU_self, nI_pred, nv_nI, c5, scr3, scr_self]; done))⟩)
  · skip
    show G X 0 0 (mW (xT X) o a s S) 8 [(0, .ref o), (1, .int x)] []
    obtain ⟨xn, hx, rfl⟩ := isT_of h0 c5
    have vx : nv (nI xn) = xn := nv_nI (by omega)
    refine g_aload_n h dX5_named_8 rfl ?_
    refine g_iload_n h dX5_named_9 rfl ?_
    refine g_callVW0 h hE (m5_names _ _ _ o a s S xn h0 (by first | assumption | omega)) 0 rfl rfl (lw_V q1614 q1616 qs59 q95 q1617) gy_X5_names ⟨Nat.le_of_ble_eq_true rfl, Nat.le_of_ble_eq_true rfl⟩ ⟨Nat.le_of_ble_eq_true rfl, Nat.le_of_ble_eq_true rfl⟩ rfl rfl (Nat.le_of_ble_eq_true rfl) dX5_named_10 (st' := [.int (nameV s xn)]) rfl (fun _ e10 => ?_)
    obtain ⟨N_10, P_10, rfl⟩ := e10
    refine g_goto h 21 dX5_named_13 (by decide) ?_
    exact g_iretWv h hE dX5_named_21 (by first | (simp [o_named, er, LOW, sU_self, nI_pred, nv_nI, c5, vx]; done) | (simp_all [o_named, er, LOW, sU_self, nI_pred, nv_nI, c5, vx]; done)) (⟨N_10, P_10, mW_eq (by first | (simp [o_named, er, LOW, sU_self, nI_pred, nv_nI, c5, vx]; done) | (simp_all [o_named, er, LOW, sU_self, nI_pred, nv_nI, c5, vx]; done)) (by first | (simp [o_named, er, LOW, sU_self, nI_pred, nv_nI, c5, vx, scr3, scr_self]; done) | (simp_all [o_named, er, LOW, sU_self, nI_pred, nv_nI, c5, vx, scr3, scr_self]; done))⟩)
set_option maxHeartbeats 4000000 in
set_option maxRecDepth 100000 in
theorem m5_isMended (l : Launch) (D : va_G) (T : Nat → ClassId) (o : Nat) (a : Nat → Nat) (s : Nat → Int32) (S : Nat → Nat → Int32) (t : Nat) (h0 : Inv s) (h1 : t < nT s) : MetW l D T yX5_isMended cX5_isMended 5 (some .boolean) 2 48 0 0 [.ref o, .int (nI t)] (mW T o a s S) (fun r_ w_ => r_ = some (.int (bI (mendB s t))) ∧ (∃ (N : Nat → Int32) (P : Nat → Int32), w_ = mW T o a s (scr S N P))) := by
  refine metW (own := RX5) rfl (by decide) rfl (fun X h hl hDx hTx hnm hE => ?_)
  subst hl; subst hDx; subst hTx
  have hnp := h0.npl; have hnt := h0.ntl; have hnq := h0.nql
  have how := h0.owlE h1
  show G X 0 0 (mW (xT X) o a s S) 0 [(0, .ref o), (1, .int (nI t))] []
  refine g_aload_n h dX5_isMended_0 rfl ?_
  refine g_iload_n h dX5_isMended_1 rfl ?_
  refine g_callVR h (m5_owner _ _ _ o a s S t (by first | assumption | omega)) (fun _ q => q) 0 rfl rfl (lw_V q1475 q1477 qs41 q95 q1478) gy_X5_owner ⟨Nat.le_of_ble_eq_true rfl, Nat.le_of_ble_eq_true rfl⟩ ⟨Nat.le_of_ble_eq_true rfl, Nat.le_of_ble_eq_true rfl⟩ rfl rfl (Nat.le_of_ble_eq_true rfl) dX5_isMended_2 ?_
  refine g_toN (a := owr s t) (h0.owE h1) ?_
  refine g_istore_n (lv' := [(0, .ref o), (1, .int (nI t)), (2, .int (nI (owr s t)))]) h dX5_isMended_5 (by decide) rfl ?_
  refine g_aload_n h dX5_isMended_6 rfl ?_
  refine g_iload_n h dX5_isMended_7 rfl ?_
  refine g_iload_n h dX5_isMended_8 rfl ?_
  refine g_callVR h (m5_valueTo _ _ _ o a s S (owr s t) t (by first | assumption | omega) (by first | assumption | omega)) (fun _ q => q) 0 rfl rfl (lw_V q1487 q1489 qs44 q95 q1490) gy_X5_valueTo ⟨Nat.le_of_ble_eq_true rfl, Nat.le_of_ble_eq_true rfl⟩ ⟨Nat.le_of_ble_eq_true rfl, Nat.le_of_ble_eq_true rfl⟩ rfl rfl (Nat.le_of_ble_eq_true rfl) dX5_isMended_9 ?_
  refine g_istore_n (lv' := [(0, .ref o), (1, .int (nI t)), (2, .int (nI (owr s t))), (3, .int (val s (owr s t) t))]) h dX5_isMended_12 (by decide) rfl ?_
  refine g_aload_n h dX5_isMended_13 rfl ?_
  refine g_get h in_X5 0 rfl rfl 0 rfl q1374 rfl rfl dX5_isMended_14 ?_
  refine g_bipush (v := nI 14) h dX5_isMended_17 (by decide) ?_
  refine g_iald h 1 rfl (by first | assumption | omega) (by decide) dX5_isMended_19 ?_
  refine g_istore (lv' := [(0, .ref o), (1, .int (nI t)), (2, .int (nI (owr s t))), (3, .int (val s (owr s t) t)), (4, .int (s 14))]) h dX5_isMended_20 (by decide) rfl ?_
  refine g_aload_n h dX5_isMended_22 rfl ?_
  refine g_iload_n h dX5_isMended_23 rfl ?_
  refine g_iconst (v := nI 2) h dX5_isMended_24 (by decide) ?_
  refine g_callVR h (m5_its _ _ _ o a s S t 2 (by first | assumption | omega)) (fun _ q => q) 0 rfl rfl (lw_V q1479 q1481 qs42 q95 q1482) gy_X5_its ⟨Nat.le_of_ble_eq_true rfl, Nat.le_of_ble_eq_true rfl⟩ ⟨Nat.le_of_ble_eq_true rfl, Nat.le_of_ble_eq_true rfl⟩ rfl rfl (Nat.le_of_ble_eq_true rfl) dX5_isMended_25 ?_
  refine g_bipush (v := nI 100) h dX5_isMended_28 (by decide) ?_
  refine g_toI (y := 100) rfl ?_
  refine g_icmp_eq h 44 dX5_isMended_30 (by decide) (fun c30 => ?_) (fun c30 => ?_)
  · skip
    show G X 0 0 (mW (xT X) o a s S) 44 [(0, .ref o), (1, .int (nI t)), (2, .int (nI (owr s t))), (3, .int (val s (owr s t) t)), (4, .int (s 14))] []
    refine g_iconst (v := nI 0) h dX5_isMended_44 (by decide) ?_
    exact g_zretWv h hE dX5_isMended_45 (by rw [show (mendB s t) = false by first | (simp [mendB, c30]; done) | (simp_all [mendB, c30]; done)]; rfl) (mW_scr rfl)
  · skip
    show G X 0 0 (mW (xT X) o a s S) 33 [(0, .ref o), (1, .int (nI t)), (2, .int (nI (owr s t))), (3, .int (val s (owr s t) t)), (4, .int (s 14))] []
    refine g_aload_n h dX5_isMended_33 rfl ?_
    refine g_iload_n h dX5_isMended_34 rfl ?_
    refine g_iconst (v := nI 1) h dX5_isMended_35 (by decide) ?_
    refine g_callVR h (m5_who _ _ _ o a s S (owr s t) 1 (by first | assumption | omega)) (fun _ q => q) 0 rfl rfl (lw_V q1459 q1461 qs37 q95 q1462) gy_X5_who ⟨Nat.le_of_ble_eq_true rfl, Nat.le_of_ble_eq_true rfl⟩ ⟨Nat.le_of_ble_eq_true rfl, Nat.le_of_ble_eq_true rfl⟩ rfl rfl (Nat.le_of_ble_eq_true rfl) dX5_isMended_36 ?_
    refine g_iload h dX5_isMended_39 rfl ?_
    refine g_icmp_geC h 46 dX5_isMended_41 (by decide) (fun c41 => ?_) (fun c41 => ?_)
    · skip
      show G X 0 0 (mW (xT X) o a s S) 46 [(0, .ref o), (1, .int (nI t)), (2, .int (nI (owr s t))), (3, .int (val s (owr s t) t)), (4, .int (s 14))] []
      refine g_aload_n h dX5_isMended_46 rfl ?_
      refine g_iconst (v := nI 1) h dX5_isMended_47 (by decide) ?_
      refine g_callVR h (m5_hasText _ _ _ o a s S 1 (by first | assumption | omega)) (fun _ q => q) 0 rfl rfl (lw_V q1606 q1608 qs58 q95 q1609) gy_X5_hasText ⟨Nat.le_of_ble_eq_true rfl, Nat.le_of_ble_eq_true rfl⟩ ⟨Nat.le_of_ble_eq_true rfl, Nat.le_of_ble_eq_true rfl⟩ rfl rfl (Nat.le_of_ble_eq_true rfl) dX5_isMended_48 ?_
      refine g_if_neB h 69 dX5_isMended_51 (by decide) (fun c51 => ?_) (fun c51 => ?_)
      · skip
        show G X 0 0 (mW (xT X) o a s S) 69 [(0, .ref o), (1, .int (nI t)), (2, .int (nI (owr s t))), (3, .int (val s (owr s t) t)), (4, .int (s 14))] []
        have ht := hasT_of (u := 1) c51
        refine g_aload_n h dX5_isMended_69 rfl ?_
        refine g_get h in_X5 0 rfl rfl 10 rfl q1384 rfl rfl dX5_isMended_70 ?_
        refine g_bipush (v := nI 118) h dX5_isMended_73 (by decide) ?_
        refine g_iload_n h dX5_isMended_75 rfl ?_
        refine g_iast (ws' := mW (xT X) o a s (sU S 5 (upd (S 5) 118 (val s (owr s t) t)))) h hE.1 6 rfl (by first | assumption | omega) (by decide) dX5_isMended_76 rfl ?_
        refine g_aload_n h dX5_isMended_77 rfl ?_
        refine g_get h in_X5 0 rfl rfl 10 rfl q1384 rfl rfl dX5_isMended_78 ?_
        refine g_bipush (v := nI 115) h dX5_isMended_81 (by decide) ?_
        refine g_aload_n h dX5_isMended_83 rfl ?_
        refine g_iload_n h dX5_isMended_84 rfl ?_
        refine g_iconst (v := nI 2) h dX5_isMended_85 (by decide) ?_
        refine g_callVR h (m5_its _ _ _ o a s (sU S 5 (upd (S 5) 118 (val s (owr s t) t))) t 2 (by first | assumption | omega)) (fun _ q => q) 0 rfl rfl (lw_V q1479 q1481 qs42 q95 q1482) gy_X5_its ⟨Nat.le_of_ble_eq_true rfl, Nat.le_of_ble_eq_true rfl⟩ ⟨Nat.le_of_ble_eq_true rfl, Nat.le_of_ble_eq_true rfl⟩ rfl rfl (Nat.le_of_ble_eq_true rfl) dX5_isMended_86 ?_
        refine g_iast (ws' := mW (xT X) o a s (sU S 5 (upd (upd (S 5) 118 (val s (owr s t) t)) 115 (s (44 + 4 * t + 2))))) h hE.1 6 rfl (by first | assumption | omega) (by decide) dX5_isMended_89 rfl ?_
        refine g_aload_n h dX5_isMended_90 rfl ?_
        refine g_get h in_X5 0 rfl rfl 10 rfl q1384 rfl rfl dX5_isMended_91 ?_
        refine g_bipush (v := nI 99) h dX5_isMended_94 (by decide) ?_
        refine g_iload h dX5_isMended_96 rfl ?_
        refine g_iast (ws' := mW (xT X) o a s (sU S 5 (upd (upd (upd (S 5) 118 (val s (owr s t) t)) 115 (s (44 + 4 * t + 2))) 99 (s 14)))) h hE.1 6 rfl (by first | assumption | omega) (by decide) dX5_isMended_98 rfl ?_
        refine g_aload_n h dX5_isMended_99 rfl ?_
        refine g_get h in_X5 0 rfl rfl 10 rfl q1384 rfl rfl dX5_isMended_100 ?_
        refine g_bipush (v := nI 117) h dX5_isMended_103 (by decide) ?_
        refine g_aload_n h dX5_isMended_105 rfl ?_
        refine g_iload_n h dX5_isMended_106 rfl ?_
        refine g_iconst (v := nI 1) h dX5_isMended_107 (by decide) ?_
        refine g_callVR h (m5_who _ _ _ o a s (sU S 5 (upd (upd (upd (S 5) 118 (val s (owr s t) t)) 115 (s (44 + 4 * t + 2))) 99 (s 14))) (owr s t) 1 (by first | assumption | omega)) (fun _ q => q) 0 rfl rfl (lw_V q1459 q1461 qs37 q95 q1462) gy_X5_who ⟨Nat.le_of_ble_eq_true rfl, Nat.le_of_ble_eq_true rfl⟩ ⟨Nat.le_of_ble_eq_true rfl, Nat.le_of_ble_eq_true rfl⟩ rfl rfl (Nat.le_of_ble_eq_true rfl) dX5_isMended_108 ?_
        refine g_iast (ws' := mW (xT X) o a s (sU S 5 (upd (upd (upd (upd (S 5) 118 (val s (owr s t) t)) 115 (s (44 + 4 * t + 2))) 99 (s 14)) 117 (s (20 + 4 * (owr s t) + 1))))) h hE.1 6 rfl (by first | assumption | omega) (by decide) dX5_isMended_111 rfl ?_
        refine g_aload_n h dX5_isMended_112 rfl ?_
        refine g_get h in_X5 0 rfl rfl 10 rfl q1384 rfl rfl dX5_isMended_113 ?_
        refine g_bipush (v := nI 114) h dX5_isMended_116 (by decide) ?_
        refine g_aload_n h dX5_isMended_118 rfl ?_
        refine g_get h in_X5 0 rfl rfl 0 rfl q1374 rfl rfl dX5_isMended_119 ?_
        refine g_bipush (v := nI 10) h dX5_isMended_122 (by decide) ?_
        refine g_iald h 1 rfl (by first | assumption | omega) (by decide) dX5_isMended_124 ?_
        refine g_iast (ws' := mW (xT X) o a s (sU S 5 (upd (upd (upd (upd (upd (S 5) 118 (val s (owr s t) t)) 115 (s (44 + 4 * t + 2))) 99 (s 14)) 117 (s (20 + 4 * (owr s t) + 1))) 114 (s 10)))) h hE.1 6 rfl (by first | assumption | omega) (by decide) dX5_isMended_125 rfl ?_
        refine g_aload_n h dX5_isMended_126 rfl ?_
        refine g_iconst (v := nI 1) h dX5_isMended_127 (by decide) ?_
        refine g_callVW0 h hE (m5_worked _ _ _ o a s (sU S 5 (upd (upd (upd (upd (upd (S 5) 118 (val s (owr s t) t)) 115 (s (44 + 4 * t + 2))) 99 (s 14)) 117 (s (20 + 4 * (owr s t) + 1))) 114 (s 10))) 1 (nm1 s t) (by first | assumption | omega) h0.tx1 ht (nm1_ok s t (S 5))) 0 rfl rfl (lw_V q1626 q1628 qs62 q95 q1629) gy_X5_worked ⟨Nat.le_of_ble_eq_true rfl, Nat.le_of_ble_eq_true rfl⟩ ⟨Nat.le_of_ble_eq_true rfl, Nat.le_of_ble_eq_true rfl⟩ rfl rfl (Nat.le_of_ble_eq_true rfl) dX5_isMended_128 (st' := [.int (wkV (nm1 s t) s (307))]) rfl (fun _ e128 => ?_)
        obtain ⟨P_128, rfl⟩ := e128
        show G X 0 0 (mW (xT X) o a s (sU (sU S 5 (upd (upd (upd (upd (upd (S 5) 118 (val s (owr s t) t)) 115 (s (44 + 4 * t + 2))) 99 (s 14)) 117 (s (20 + 4 * (owr s t) + 1))) 114 (s 10))) 6 P_128)) 131 [(0, .ref o), (1, .int (nI t)), (2, .int (nI (owr s t))), (3, .int (val s (owr s t) t)), (4, .int (s 14))] [.int (wkV (nm1 s t) s (307))]
        refine g_if_eq h 138 dX5_isMended_131 (by decide) (fun c131 => ?_) (fun c131 => ?_)
        · skip
          show G X 0 0 (mW (xT X) o a s (sU (sU S 5 (upd (upd (upd (upd (upd (S 5) 118 (val s (owr s t) t)) 115 (s (44 + 4 * t + 2))) 99 (s 14)) 117 (s (20 + 4 * (owr s t) + 1))) 114 (s 10))) 6 P_128)) 138 [(0, .ref o), (1, .int (nI t)), (2, .int (nI (owr s t))), (3, .int (val s (owr s t) t)), (4, .int (s 14))] []
          refine g_iconst (v := nI 0) h dX5_isMended_138 (by decide) ?_
          exact g_zretWv h hE dX5_isMended_139 (by rw [show (mendB s t) = false by first | (simp [mendB, c30, c41, c51, c131]; done) | (simp_all [mendB, c30, c41, c51, c131]; done)]; rfl) (⟨upd (upd (upd (upd (upd (S 5) 118 (val s (owr s t) t)) 115 (s (44 + 4 * t + 2))) 99 (s 14)) 117 (s (20 + 4 * (owr s t) + 1))) 114 (s 10), P_128, mW_eq rfl rfl⟩)
        · skip
          show G X 0 0 (mW (xT X) o a s (sU (sU S 5 (upd (upd (upd (upd (upd (S 5) 118 (val s (owr s t) t)) 115 (s (44 + 4 * t + 2))) 99 (s 14)) 117 (s (20 + 4 * (owr s t) + 1))) 114 (s 10))) 6 P_128)) 134 [(0, .ref o), (1, .int (nI t)), (2, .int (nI (owr s t))), (3, .int (val s (owr s t) t)), (4, .int (s 14))] []
          refine g_iconst (v := nI 1) h dX5_isMended_134 (by decide) ?_
          refine g_goto h 139 dX5_isMended_135 (by decide) ?_
          exact g_zretWv h hE dX5_isMended_139 (by rw [show (mendB s t) = true by first | (simp [mendB, c30, c41, c51, c131]; done) | (simp_all [mendB, c30, c41, c51, c131]; done)]; rfl) (⟨upd (upd (upd (upd (upd (S 5) 118 (val s (owr s t) t)) 115 (s (44 + 4 * t + 2))) 99 (s 14)) 117 (s (20 + 4 * (owr s t) + 1))) 114 (s 10), P_128, mW_eq rfl rfl⟩)
      · skip
        show G X 0 0 (mW (xT X) o a s S) 54 [(0, .ref o), (1, .int (nI t)), (2, .int (nI (owr s t))), (3, .int (val s (owr s t) t)), (4, .int (s 14))] []
        refine g_iload_n h dX5_isMended_54 rfl ?_
        refine g_bipush (v := nI 10) h dX5_isMended_55 (by decide) ?_
        refine g_toI (y := 10) rfl ?_
        refine g_idiv h dX5_isMended_57 (by decide) ?_
        refine g_iload h dX5_isMended_58 rfl ?_
        refine g_icmp_lt h 67 dX5_isMended_60 (by decide) (fun c60 => ?_) (fun c60 => ?_)
        · skip
          show G X 0 0 (mW (xT X) o a s S) 67 [(0, .ref o), (1, .int (nI t)), (2, .int (nI (owr s t))), (3, .int (val s (owr s t) t)), (4, .int (s 14))] []
          refine g_iconst (v := nI 0) h dX5_isMended_67 (by decide) ?_
          exact g_zretWv h hE dX5_isMended_68 (by rw [show (mendB s t) = false by first | (simp [mendB, c30, c41, c51, c60]; done) | (simp_all [mendB, c30, c41, c51, c60]; done)]; rfl) (mW_scr rfl)
        · skip
          show G X 0 0 (mW (xT X) o a s S) 63 [(0, .ref o), (1, .int (nI t)), (2, .int (nI (owr s t))), (3, .int (val s (owr s t) t)), (4, .int (s 14))] []
          refine g_iconst (v := nI 1) h dX5_isMended_63 (by decide) ?_
          refine g_goto h 68 dX5_isMended_64 (by decide) ?_
          exact g_zretWv h hE dX5_isMended_68 (by rw [show (mendB s t) = true by first | (simp [mendB, c30, c41, c51, c60]; done) | (simp_all [mendB, c30, c41, c51, c60]; done)]; rfl) (mW_scr rfl)
    · skip
      show G X 0 0 (mW (xT X) o a s S) 44 [(0, .ref o), (1, .int (nI t)), (2, .int (nI (owr s t))), (3, .int (val s (owr s t) t)), (4, .int (s 14))] []
      refine g_iconst (v := nI 0) h dX5_isMended_44 (by decide) ?_
      exact g_zretWv h hE dX5_isMended_45 (by rw [show (mendB s t) = false by first | (simp [mendB, c30, c41]; done) | (simp_all [mendB, c30, c41]; done)]; rfl) (mW_scr rfl)
set_option maxHeartbeats 4000000 in
set_option maxRecDepth 100000 in
theorem m5_mended (l : Launch) (D : va_G) (T : Nat → ClassId) (o : Nat) (a : Nat → Nat) (s : Nat → Int32) (S : Nat → Nat → Int32) (x : Int32) (h0 : Inv s) : MetW l D T yX5_mended cX5_mended 2 (some .int) 3 72 0 0 [.ref o, .int x] (mW T o a s S) (fun r_ w_ => r_ = some (.int ((o_mended s (S 3) x).1)) ∧ (∃ (N : Nat → Int32) (P : Nat → Int32), w_ = mW T o a ((o_mended s (S 3) x).2.1) (sU (scr S N P) 3 (o_mended s (S 3) x).2.2))) := by
  refine metW (own := RX5) rfl (by decide) rfl (fun X h hl hDx hTx hnm hE => ?_)
  subst hl; subst hDx; subst hTx
  have hnp := h0.npl; have hnt := h0.ntl; have hnq := h0.nql
  show G X 0 0 (mW (xT X) o a s S) 0 [(0, .ref o), (1, .int x)] []
  refine g_aload_n h dX5_mended_0 rfl ?_
  refine g_iload_n h dX5_mended_1 rfl ?_
  refine g_callVR h (m5_isThing _ _ _ o a s S x ) (fun _ q => q) 0 rfl rfl (lw_V q1514 q1516 qs45 q95 q1517) gy_X5_isThing ⟨Nat.le_of_ble_eq_true rfl, Nat.le_of_ble_eq_true rfl⟩ ⟨Nat.le_of_ble_eq_true rfl, Nat.le_of_ble_eq_true rfl⟩ rfl rfl (Nat.le_of_ble_eq_true rfl) dX5_mended_2 ?_
  refine g_if_neB h 16 dX5_mended_5 (by decide) (fun c5 => ?_) (fun c5 => ?_)
  · skip
    show G X 0 0 (mW (xT X) o a s S) 16 [(0, .ref o), (1, .int x)] []
    obtain ⟨xn, hx, rfl⟩ := isT_of h0 c5
    have vx : nv (nI xn) = xn := nv_nI (by omega)
    refine g_aload_n h dX5_mended_16 rfl ?_
    refine g_iload_n h dX5_mended_17 rfl ?_
    refine g_callVW0 h hE (m5_isMended _ _ _ o a s S xn h0 (by first | assumption | omega)) 0 rfl rfl (lw_V q1665 q1667 qs69 q95 q1668) gy_X5_isMended ⟨Nat.le_of_ble_eq_true rfl, Nat.le_of_ble_eq_true rfl⟩ ⟨Nat.le_of_ble_eq_true rfl, Nat.le_of_ble_eq_true rfl⟩ rfl rfl (Nat.le_of_ble_eq_true rfl) dX5_mended_18 (st' := [.int (bI (mendB s xn))]) rfl (fun _ e18 => ?_)
    obtain ⟨N_18, P_18, rfl⟩ := e18
    refine g_if_eqB h 28 dX5_mended_21 (by decide) (fun c21 => ?_) (fun c21 => ?_)
    · skip
      show G X 0 0 (mW (xT X) o a s (scr S N_18 P_18)) 28 [(0, .ref o), (1, .int (nI xn))] []
      refine g_iconst (v := nI 0) h dX5_mended_28 (by decide) ?_
      refine g_toI (y := 0) rfl ?_
      exact g_iretWv h hE dX5_mended_29 (by first | (simp [o_mended, bI, er, LOW, sU_self, nI_pred, nv_nI, c5, vx, c21]; done) | (simp_all [o_mended, bI, er, LOW, sU_self, nI_pred, nv_nI, c5, vx, c21]; done)) (⟨N_18, P_18, mW_eq (by first | (simp [o_mended, bI, er, LOW, sU_self, nI_pred, nv_nI, c5, vx, c21]; done) | (simp_all [o_mended, bI, er, LOW, sU_self, nI_pred, nv_nI, c5, vx, c21]; done)) (by first | (simp [o_mended, bI, er, LOW, sU_self, nI_pred, nv_nI, c5, vx, c21, scr3, scr_self]; done) | (simp_all [o_mended, bI, er, LOW, sU_self, nI_pred, nv_nI, c5, vx, c21, scr3, scr_self]; done))⟩)
    · skip
      show G X 0 0 (mW (xT X) o a s (scr S N_18 P_18)) 24 [(0, .ref o), (1, .int (nI xn))] []
      refine g_iconst (v := nI 1) h dX5_mended_24 (by decide) ?_
      refine g_goto h 29 dX5_mended_25 (by decide) ?_
      refine g_toI (y := 1) rfl ?_
      exact g_iretWv h hE dX5_mended_29 (by first | (simp [o_mended, bI, er, LOW, sU_self, nI_pred, nv_nI, c5, vx, c21]; done) | (simp_all [o_mended, bI, er, LOW, sU_self, nI_pred, nv_nI, c5, vx, c21]; done)) (⟨N_18, P_18, mW_eq (by first | (simp [o_mended, bI, er, LOW, sU_self, nI_pred, nv_nI, c5, vx, c21]; done) | (simp_all [o_mended, bI, er, LOW, sU_self, nI_pred, nv_nI, c5, vx, c21]; done)) (by first | (simp [o_mended, bI, er, LOW, sU_self, nI_pred, nv_nI, c5, vx, c21, scr3, scr_self]; done) | (simp_all [o_mended, bI, er, LOW, sU_self, nI_pred, nv_nI, c5, vx, c21, scr3, scr_self]; done))⟩)
  · skip
    show G X 0 0 (mW (xT X) o a s S) 8 [(0, .ref o), (1, .int x)] []
    refine g_aload_n h dX5_mended_8 rfl ?_
    refine g_iconst (v := nI 1) h dX5_mended_9 (by decide) ?_
    refine g_callVW0 h hE (m5_error _ _ _ o a s S 1 (by first | assumption | omega)) 0 rfl rfl (lw_V q1446 q1448 qs35 q95 q1449) gy_X5_error ⟨Nat.le_of_ble_eq_true rfl, Nat.le_of_ble_eq_true rfl⟩ ⟨Nat.le_of_ble_eq_true rfl, Nat.le_of_ble_eq_true rfl⟩ rfl rfl (Nat.le_of_ble_eq_true rfl) dX5_mended_10 (st' := [.int (LOW - nI 1)]) rfl (fun _ e10 => ?_)
    subst e10
    refine g_goto h 29 dX5_mended_13 (by decide) ?_
    exact g_iretWv h hE dX5_mended_29 (by first | (simp [o_mended, bI, er, LOW, sU_self, nI_pred, nv_nI, c5]; done) | (simp_all [o_mended, bI, er, LOW, sU_self, nI_pred, nv_nI, c5]; done)) (⟨S 5, S 6, mW_eq (by first | (simp [o_mended, bI, er, LOW, sU_self, nI_pred, nv_nI, c5]; done) | (simp_all [o_mended, bI, er, LOW, sU_self, nI_pred, nv_nI, c5]; done)) (by first | (simp [o_mended, bI, er, LOW, sU_self, nI_pred, nv_nI, c5, scr3, scr_self]; done) | (simp_all [o_mended, bI, er, LOW, sU_self, nI_pred, nv_nI, c5, scr3, scr_self]; done))⟩)
set_option maxHeartbeats 4000000 in
set_option maxRecDepth 100000 in
theorem m5_draw (l : Launch) (D : va_G) (T : Nat → ClassId) (o : Nat) (a : Nat → Nat) (s : Nat → Int32) (S : Nat → Nat → Int32) : MetW l D T yX5_draw cX5_draw 1 (some .int) 0 0 0 0 [.ref o] (mW T o a s S) (fun r_ w_ => r_ = some (.int (drw (dz (s 8)))) ∧ (w_ = mW T o a (upd s 8 (dz (s 8))) S)) := by
  refine metW (own := RX5) rfl (by decide) rfl (fun X h hl hDx hTx hnm hE => ?_)
  subst hl; subst hDx; subst hTx
  show G X 0 0 (mW (xT X) o a s S) 0 [(0, .ref o)] []
  refine g_aload_n h dX5_draw_0 rfl ?_
  refine g_get h in_X5 0 rfl rfl 0 rfl q1374 rfl rfl dX5_draw_1 ?_
  refine g_bipush (v := nI 8) h dX5_draw_4 (by decide) ?_
  refine g_aload_n h dX5_draw_6 rfl ?_
  refine g_get h in_X5 0 rfl rfl 0 rfl q1374 rfl rfl dX5_draw_7 ?_
  refine g_bipush (v := nI 8) h dX5_draw_10 (by decide) ?_
  refine g_iald h 1 rfl (by first | assumption | omega) (by decide) dX5_draw_12 ?_
  refine g_ldc h q1694 dX5_draw_13 ?_
  refine g_imul h dX5_draw_15 ?_
  refine g_sipush (v := nI 12345) h dX5_draw_16 (by decide) ?_
  refine g_toI (y := 12345) rfl ?_
  refine g_iadd h dX5_draw_19 ?_
  refine g_iast (ws' := mW (xT X) o a (upd s 8 (((s 8) * 1103515245) + 12345)) S) h hE.1 1 rfl (by first | assumption | omega) (by decide) dX5_draw_20 rfl ?_
  refine g_aload_n h dX5_draw_21 rfl ?_
  refine g_get h in_X5 0 rfl rfl 0 rfl q1374 rfl rfl dX5_draw_22 ?_
  refine g_bipush (v := nI 8) h dX5_draw_25 (by decide) ?_
  refine g_iald h 1 rfl (by first | assumption | omega) (by decide) dX5_draw_27 ?_
  refine g_toI (y := ((s 8) * 1103515245) + 12345) (show (upd s 8 (((s 8) * 1103515245) + 12345)) 8 = _ from (upd_s _ _ _)) ?_
  refine g_bipush (v := nI 8) h dX5_draw_28 (by decide) ?_
  refine g_toI (y := 8) rfl ?_
  refine g_iushr (v := (Int32.toUInt32 (((s 8) * 1103515245) + 12345) >>> (Int32.toUInt32 8 &&& Int32.toUInt32 31)).toInt32) h dX5_draw_30 rfl ?_
  exact g_iretWv h hE dX5_draw_31 rfl (mW_eq rfl rfl)
set_option maxHeartbeats 4000000 in
set_option maxRecDepth 100000 in
theorem m5_gets (l : Launch) (D : va_G) (T : Nat → ClassId) (o : Nat) (a : Nat → Nat) (s : Nat → Int32) (S : Nat → Nat → Int32) (p : Nat) (v : Int32) (h0 : p < 6) : MetW l D T yX5_gets cX5_gets 4 (none) 0 0 0 0 [.ref o, .int (nI p), .int v] (mW T o a s S) (fun r_ w_ => r_ = none ∧ (w_ = mW T o a (gets s p v) S)) := by
  refine metW (own := RX5) rfl (by decide) rfl (fun X h hl hDx hTx hnm hE => ?_)
  subst hl; subst hDx; subst hTx
  show G X 0 0 (mW (xT X) o a s S) 0 [(0, .ref o), (1, .int (nI p)), (2, .int v)] []
  refine g_bipush (v := nI 20) h dX5_gets_0 (by decide) ?_
  refine g_iconst (v := nI 4) h dX5_gets_2 (by decide) ?_
  refine g_iload_n h dX5_gets_3 rfl ?_
  refine g_imulN h dX5_gets_4 ?_
  refine g_iaddN h dX5_gets_5 ?_
  refine g_iconst (v := nI 1) h dX5_gets_6 (by decide) ?_
  refine g_iaddN h dX5_gets_7 ?_
  refine g_istore_n (lv' := [(0, .ref o), (1, .int (nI p)), (2, .int v), (3, .int (nI (20 + 4 * p + 1)))]) h dX5_gets_8 (by decide) rfl ?_
  refine g_aload_n h dX5_gets_9 rfl ?_
  refine g_get h in_X5 0 rfl rfl 0 rfl q1374 rfl rfl dX5_gets_10 ?_
  refine g_iload_n h dX5_gets_13 rfl ?_
  refine g_iload_n h dX5_gets_14 rfl ?_
  refine g_ldc h q1442 dX5_gets_15 ?_
  refine g_aload_n h dX5_gets_17 rfl ?_
  refine g_get h in_X5 0 rfl rfl 0 rfl q1374 rfl rfl dX5_gets_18 ?_
  refine g_iload_n h dX5_gets_21 rfl ?_
  refine g_iald h 1 rfl (by first | assumption | omega) (by decide) dX5_gets_22 ?_
  refine g_isub h dX5_gets_23 ?_
  refine g_icmp_leC h 32 dX5_gets_24 (by decide) (fun c24 => ?_) (fun c24 => ?_)
  · skip
    show G X 0 0 (mW (xT X) o a s S) 32 [(0, .ref o), (1, .int (nI p)), (2, .int v), (3, .int (nI (20 + 4 * p + 1)))] [.int (nI (20 + 4 * p + 1)), .ref (a 0)]
    refine g_aload_n h dX5_gets_32 rfl ?_
    refine g_get h in_X5 0 rfl rfl 0 rfl q1374 rfl rfl dX5_gets_33 ?_
    refine g_iload_n h dX5_gets_36 rfl ?_
    refine g_iald h 1 rfl (by first | assumption | omega) (by decide) dX5_gets_37 ?_
    refine g_iload_n h dX5_gets_38 rfl ?_
    refine g_iadd h dX5_gets_39 ?_
    refine g_iast (ws' := mW (xT X) o a (upd s (20 + 4 * p + 1) ((s (20 + 4 * p + 1)) + v)) S) h hE.1 1 rfl (by first | assumption | omega) (by decide) dX5_gets_40 rfl ?_
    exact g_vretWv h hE dX5_gets_41 (mW_eq (by first | (simp [gets, getV, c24]; done) | (simp_all [gets, getV, c24]; done)) rfl)
  · skip
    show G X 0 0 (mW (xT X) o a s S) 27 [(0, .ref o), (1, .int (nI p)), (2, .int v), (3, .int (nI (20 + 4 * p + 1)))] [.int (nI (20 + 4 * p + 1)), .ref (a 0)]
    refine g_ldc h q1442 dX5_gets_27 ?_
    refine g_goto h 40 dX5_gets_29 (by decide) ?_
    refine g_iast (ws' := mW (xT X) o a (upd s (20 + 4 * p + 1) 999999) S) h hE.1 1 rfl (by first | assumption | omega) (by decide) dX5_gets_40 rfl ?_
    exact g_vretWv h hE dX5_gets_41 (mW_eq (by first | (simp [gets, getV, c24]; done) | (simp_all [gets, getV, c24]; done)) rfl)
set_option maxHeartbeats 4000000 in
set_option maxRecDepth 100000 in
theorem m5_pays (l : Launch) (D : va_G) (T : Nat → ClassId) (o : Nat) (a : Nat → Nat) (s : Nat → Int32) (S : Nat → Nat → Int32) (t : Nat) (h0 : Inv s) (h1 : t < nT s) : MetW l D T yX5_pays cX5_pays 5 (none) 2 43 0 0 [.ref o, .int (nI t)] (mW T o a s S) (fun r_ w_ => r_ = none ∧ (w_ = mW T o a (pays s t) S)) := by
  refine metW (own := RX5) rfl (by decide) rfl (fun X h hl hDx hTx hnm hE => ?_)
  subst hl; subst hDx; subst hTx
  have hnp := h0.npl; have hnt := h0.ntl; have hnq := h0.nql
  have how := h0.owlE h1
  show G X 0 0 (mW (xT X) o a s S) 0 [(0, .ref o), (1, .int (nI t))] []
  refine g_aload_n h dX5_pays_0 rfl ?_
  refine g_iload_n h dX5_pays_1 rfl ?_
  refine g_callVR h (m5_owner _ _ _ o a s S t (by first | assumption | omega)) (fun _ q => q) 0 rfl rfl (lw_V q1475 q1477 qs41 q95 q1478) gy_X5_owner ⟨Nat.le_of_ble_eq_true rfl, Nat.le_of_ble_eq_true rfl⟩ ⟨Nat.le_of_ble_eq_true rfl, Nat.le_of_ble_eq_true rfl⟩ rfl rfl (Nat.le_of_ble_eq_true rfl) dX5_pays_2 ?_
  refine g_toN (a := owr s t) (h0.owE h1) ?_
  refine g_istore_n (lv' := [(0, .ref o), (1, .int (nI t)), (2, .int (nI (owr s t)))]) h dX5_pays_5 (by decide) rfl ?_
  refine g_aload_n h dX5_pays_6 rfl ?_
  refine g_get h in_X5 0 rfl rfl 0 rfl q1374 rfl rfl dX5_pays_7 ?_
  refine g_bipush (v := nI 10) h dX5_pays_10 (by decide) ?_
  refine g_iald h 1 rfl (by first | assumption | omega) (by decide) dX5_pays_12 ?_
  refine g_aload_n h dX5_pays_13 rfl ?_
  refine g_iload_n h dX5_pays_14 rfl ?_
  refine g_iconst (v := nI 1) h dX5_pays_15 (by decide) ?_
  refine g_callVR h (m5_its _ _ _ o a s S t 1 (by first | assumption | omega)) (fun _ q => q) 0 rfl rfl (lw_V q1479 q1481 qs42 q95 q1482) gy_X5_its ⟨Nat.le_of_ble_eq_true rfl, Nat.le_of_ble_eq_true rfl⟩ ⟨Nat.le_of_ble_eq_true rfl, Nat.le_of_ble_eq_true rfl⟩ rfl rfl (Nat.le_of_ble_eq_true rfl) dX5_pays_16 ?_
  refine g_imul h dX5_pays_19 ?_
  refine g_bipush (v := nI 100) h dX5_pays_20 (by decide) ?_
  refine g_toI (y := 100) rfl ?_
  refine g_idiv h dX5_pays_22 (by decide) ?_
  refine g_istore_n (lv' := [(0, .ref o), (1, .int (nI t)), (2, .int (nI (owr s t))), (3, .int (((s 10) * (s (44 + 4 * t + 1))) / 100))]) h dX5_pays_23 (by decide) rfl ?_
  refine g_iload_n h dX5_pays_24 rfl ?_
  refine g_aload_n h dX5_pays_25 rfl ?_
  refine g_iload_n h dX5_pays_26 rfl ?_
  refine g_iconst (v := nI 1) h dX5_pays_27 (by decide) ?_
  refine g_callVR h (m5_who _ _ _ o a s S (owr s t) 1 (by first | assumption | omega)) (fun _ q => q) 0 rfl rfl (lw_V q1459 q1461 qs37 q95 q1462) gy_X5_who ⟨Nat.le_of_ble_eq_true rfl, Nat.le_of_ble_eq_true rfl⟩ ⟨Nat.le_of_ble_eq_true rfl, Nat.le_of_ble_eq_true rfl⟩ rfl rfl (Nat.le_of_ble_eq_true rfl) dX5_pays_28 ?_
  refine g_icmp_geC h 38 dX5_pays_31 (by decide) (fun c31 => ?_) (fun c31 => ?_)
  · skip
    show G X 0 0 (mW (xT X) o a s S) 38 [(0, .ref o), (1, .int (nI t)), (2, .int (nI (owr s t))), (3, .int (((s 10) * (s (44 + 4 * t + 1))) / 100))] []
    refine g_aload_n h dX5_pays_38 rfl ?_
    refine g_iload_n h dX5_pays_39 rfl ?_
    refine g_iconst (v := nI 1) h dX5_pays_40 (by decide) ?_
    refine g_callVR h (m5_who _ _ _ o a s S (owr s t) 1 (by first | assumption | omega)) (fun _ q => q) 0 rfl rfl (lw_V q1459 q1461 qs37 q95 q1462) gy_X5_who ⟨Nat.le_of_ble_eq_true rfl, Nat.le_of_ble_eq_true rfl⟩ ⟨Nat.le_of_ble_eq_true rfl, Nat.le_of_ble_eq_true rfl⟩ rfl rfl (Nat.le_of_ble_eq_true rfl) dX5_pays_41 ?_
    refine g_istore (lv' := [(0, .ref o), (1, .int (nI t)), (2, .int (nI (owr s t))), (3, .int (((s 10) * (s (44 + 4 * t + 1))) / 100)), (4, .int (s (20 + 4 * (owr s t) + 1)))]) h dX5_pays_44 (by decide) rfl ?_
    refine g_aload_n h dX5_pays_46 rfl ?_
    refine g_get h in_X5 0 rfl rfl 0 rfl q1374 rfl rfl dX5_pays_47 ?_
    refine g_bipush (v := nI 20) h dX5_pays_50 (by decide) ?_
    refine g_iconst (v := nI 4) h dX5_pays_52 (by decide) ?_
    refine g_iload_n h dX5_pays_53 rfl ?_
    refine g_imulN h dX5_pays_54 ?_
    refine g_iaddN h dX5_pays_55 ?_
    refine g_iconst (v := nI 1) h dX5_pays_56 (by decide) ?_
    refine g_iaddN h dX5_pays_57 ?_
    refine g_dup2_11 h dX5_pays_58 rfl rfl ?_
    refine g_iald h 1 rfl (by first | assumption | omega) (by decide) dX5_pays_59 ?_
    refine g_iload h dX5_pays_60 rfl ?_
    refine g_isub h dX5_pays_62 ?_
    refine g_iast (ws' := mW (xT X) o a (upd s (20 + 4 * (owr s t) + 1) ((s (20 + 4 * (owr s t) + 1)) - (s (20 + 4 * (owr s t) + 1)))) S) h hE.1 1 rfl (by first | assumption | omega) (by decide) dX5_pays_63 rfl ?_
    refine g_aload_n h dX5_pays_64 rfl ?_
    refine g_get h in_X5 0 rfl rfl 0 rfl q1374 rfl rfl dX5_pays_65 ?_
    refine g_iconst (v := nI 5) h dX5_pays_68 (by decide) ?_
    refine g_iload h dX5_pays_69 rfl ?_
    refine g_ldc h q1685 dX5_pays_71 ?_
    refine g_aload_n h dX5_pays_73 rfl ?_
    refine g_get h in_X5 0 rfl rfl 0 rfl q1374 rfl rfl dX5_pays_74 ?_
    refine g_iconst (v := nI 5) h dX5_pays_77 (by decide) ?_
    refine g_iald h 1 rfl (by first | assumption | omega) (by decide) dX5_pays_78 ?_
    refine g_toI (y := s 5) (show (upd s (20 + 4 * (owr s t) + 1) ((s (20 + 4 * (owr s t) + 1)) - (s (20 + 4 * (owr s t) + 1)))) 5 = _ from (upd_n (by omega))) ?_
    refine g_isub h dX5_pays_79 ?_
    refine g_icmp_leC h 88 dX5_pays_80 (by decide) (fun c80 => ?_) (fun c80 => ?_)
    · skip
      show G X 0 0 (mW (xT X) o a (upd s (20 + 4 * (owr s t) + 1) ((s (20 + 4 * (owr s t) + 1)) - (s (20 + 4 * (owr s t) + 1)))) S) 88 [(0, .ref o), (1, .int (nI t)), (2, .int (nI (owr s t))), (3, .int (((s 10) * (s (44 + 4 * t + 1))) / 100)), (4, .int (s (20 + 4 * (owr s t) + 1)))] [.int (nI 5), .ref (a 0)]
      refine g_aload_n h dX5_pays_88 rfl ?_
      refine g_get h in_X5 0 rfl rfl 0 rfl q1374 rfl rfl dX5_pays_89 ?_
      refine g_iconst (v := nI 5) h dX5_pays_92 (by decide) ?_
      refine g_iald h 1 rfl (by first | assumption | omega) (by decide) dX5_pays_93 ?_
      refine g_toI (y := s 5) (show (upd s (20 + 4 * (owr s t) + 1) ((s (20 + 4 * (owr s t) + 1)) - (s (20 + 4 * (owr s t) + 1)))) 5 = _ from (upd_n (by omega))) ?_
      refine g_iload h dX5_pays_94 rfl ?_
      refine g_iadd h dX5_pays_96 ?_
      refine g_iast (ws' := mW (xT X) o a (upd (upd s (20 + 4 * (owr s t) + 1) ((s (20 + 4 * (owr s t) + 1)) - (s (20 + 4 * (owr s t) + 1)))) 5 ((s 5) + (s (20 + 4 * (owr s t) + 1)))) S) h hE.1 1 rfl (by first | assumption | omega) (by decide) dX5_pays_97 rfl ?_
      exact g_vretWv h hE dX5_pays_98 (mW_eq (by first | (simp [pays, payV, potV, c31, c80]; done) | (simp_all [pays, payV, potV, c31, c80]; done)) rfl)
    · skip
      show G X 0 0 (mW (xT X) o a (upd s (20 + 4 * (owr s t) + 1) ((s (20 + 4 * (owr s t) + 1)) - (s (20 + 4 * (owr s t) + 1)))) S) 83 [(0, .ref o), (1, .int (nI t)), (2, .int (nI (owr s t))), (3, .int (((s 10) * (s (44 + 4 * t + 1))) / 100)), (4, .int (s (20 + 4 * (owr s t) + 1)))] [.int (nI 5), .ref (a 0)]
      refine g_ldc h q1685 dX5_pays_83 ?_
      refine g_goto h 97 dX5_pays_85 (by decide) ?_
      refine g_iast (ws' := mW (xT X) o a (upd (upd s (20 + 4 * (owr s t) + 1) ((s (20 + 4 * (owr s t) + 1)) - (s (20 + 4 * (owr s t) + 1)))) 5 1999999999) S) h hE.1 1 rfl (by first | assumption | omega) (by decide) dX5_pays_97 rfl ?_
      exact g_vretWv h hE dX5_pays_98 (mW_eq (by first | (simp [pays, payV, potV, c31, c80]; done) | (simp_all [pays, payV, potV, c31, c80]; done)) rfl)
  · skip
    show G X 0 0 (mW (xT X) o a s S) 34 [(0, .ref o), (1, .int (nI t)), (2, .int (nI (owr s t))), (3, .int (((s 10) * (s (44 + 4 * t + 1))) / 100))] []
    refine g_iload_n h dX5_pays_34 rfl ?_
    refine g_goto h 44 dX5_pays_35 (by decide) ?_
    refine g_istore (lv' := [(0, .ref o), (1, .int (nI t)), (2, .int (nI (owr s t))), (3, .int (((s 10) * (s (44 + 4 * t + 1))) / 100)), (4, .int (((s 10) * (s (44 + 4 * t + 1))) / 100))]) h dX5_pays_44 (by decide) rfl ?_
    refine g_aload_n h dX5_pays_46 rfl ?_
    refine g_get h in_X5 0 rfl rfl 0 rfl q1374 rfl rfl dX5_pays_47 ?_
    refine g_bipush (v := nI 20) h dX5_pays_50 (by decide) ?_
    refine g_iconst (v := nI 4) h dX5_pays_52 (by decide) ?_
    refine g_iload_n h dX5_pays_53 rfl ?_
    refine g_imulN h dX5_pays_54 ?_
    refine g_iaddN h dX5_pays_55 ?_
    refine g_iconst (v := nI 1) h dX5_pays_56 (by decide) ?_
    refine g_iaddN h dX5_pays_57 ?_
    refine g_dup2_11 h dX5_pays_58 rfl rfl ?_
    refine g_iald h 1 rfl (by first | assumption | omega) (by decide) dX5_pays_59 ?_
    refine g_iload h dX5_pays_60 rfl ?_
    refine g_isub h dX5_pays_62 ?_
    refine g_iast (ws' := mW (xT X) o a (upd s (20 + 4 * (owr s t) + 1) ((s (20 + 4 * (owr s t) + 1)) - (((s 10) * (s (44 + 4 * t + 1))) / 100))) S) h hE.1 1 rfl (by first | assumption | omega) (by decide) dX5_pays_63 rfl ?_
    refine g_aload_n h dX5_pays_64 rfl ?_
    refine g_get h in_X5 0 rfl rfl 0 rfl q1374 rfl rfl dX5_pays_65 ?_
    refine g_iconst (v := nI 5) h dX5_pays_68 (by decide) ?_
    refine g_iload h dX5_pays_69 rfl ?_
    refine g_ldc h q1685 dX5_pays_71 ?_
    refine g_aload_n h dX5_pays_73 rfl ?_
    refine g_get h in_X5 0 rfl rfl 0 rfl q1374 rfl rfl dX5_pays_74 ?_
    refine g_iconst (v := nI 5) h dX5_pays_77 (by decide) ?_
    refine g_iald h 1 rfl (by first | assumption | omega) (by decide) dX5_pays_78 ?_
    refine g_toI (y := s 5) (show (upd s (20 + 4 * (owr s t) + 1) ((s (20 + 4 * (owr s t) + 1)) - (((s 10) * (s (44 + 4 * t + 1))) / 100))) 5 = _ from (upd_n (by omega))) ?_
    refine g_isub h dX5_pays_79 ?_
    refine g_icmp_leC h 88 dX5_pays_80 (by decide) (fun c80 => ?_) (fun c80 => ?_)
    · skip
      show G X 0 0 (mW (xT X) o a (upd s (20 + 4 * (owr s t) + 1) ((s (20 + 4 * (owr s t) + 1)) - (((s 10) * (s (44 + 4 * t + 1))) / 100))) S) 88 [(0, .ref o), (1, .int (nI t)), (2, .int (nI (owr s t))), (3, .int (((s 10) * (s (44 + 4 * t + 1))) / 100)), (4, .int (((s 10) * (s (44 + 4 * t + 1))) / 100))] [.int (nI 5), .ref (a 0)]
      refine g_aload_n h dX5_pays_88 rfl ?_
      refine g_get h in_X5 0 rfl rfl 0 rfl q1374 rfl rfl dX5_pays_89 ?_
      refine g_iconst (v := nI 5) h dX5_pays_92 (by decide) ?_
      refine g_iald h 1 rfl (by first | assumption | omega) (by decide) dX5_pays_93 ?_
      refine g_toI (y := s 5) (show (upd s (20 + 4 * (owr s t) + 1) ((s (20 + 4 * (owr s t) + 1)) - (((s 10) * (s (44 + 4 * t + 1))) / 100))) 5 = _ from (upd_n (by omega))) ?_
      refine g_iload h dX5_pays_94 rfl ?_
      refine g_iadd h dX5_pays_96 ?_
      refine g_iast (ws' := mW (xT X) o a (upd (upd s (20 + 4 * (owr s t) + 1) ((s (20 + 4 * (owr s t) + 1)) - (((s 10) * (s (44 + 4 * t + 1))) / 100))) 5 ((s 5) + (((s 10) * (s (44 + 4 * t + 1))) / 100))) S) h hE.1 1 rfl (by first | assumption | omega) (by decide) dX5_pays_97 rfl ?_
      exact g_vretWv h hE dX5_pays_98 (mW_eq (by first | (simp [pays, payV, potV, c31, c80]; done) | (simp_all [pays, payV, potV, c31, c80]; done)) rfl)
    · skip
      show G X 0 0 (mW (xT X) o a (upd s (20 + 4 * (owr s t) + 1) ((s (20 + 4 * (owr s t) + 1)) - (((s 10) * (s (44 + 4 * t + 1))) / 100))) S) 83 [(0, .ref o), (1, .int (nI t)), (2, .int (nI (owr s t))), (3, .int (((s 10) * (s (44 + 4 * t + 1))) / 100)), (4, .int (((s 10) * (s (44 + 4 * t + 1))) / 100))] [.int (nI 5), .ref (a 0)]
      refine g_ldc h q1685 dX5_pays_83 ?_
      refine g_goto h 97 dX5_pays_85 (by decide) ?_
      refine g_iast (ws' := mW (xT X) o a (upd (upd s (20 + 4 * (owr s t) + 1) ((s (20 + 4 * (owr s t) + 1)) - (((s 10) * (s (44 + 4 * t + 1))) / 100))) 5 1999999999) S) h hE.1 1 rfl (by first | assumption | omega) (by decide) dX5_pays_97 rfl ?_
      exact g_vretWv h hE dX5_pays_98 (mW_eq (by first | (simp [pays, payV, potV, c31, c80]; done) | (simp_all [pays, payV, potV, c31, c80]; done)) rfl)
set_option maxHeartbeats 4000000 in
set_option maxRecDepth 100000 in
theorem m5_isAsked (l : Launch) (D : va_G) (T : Nat → ClassId) (o : Nat) (a : Nat → Nat) (s : Nat → Int32) (S : Nat → Nat → Int32) (t : Nat) (h0 : Inv s) (h1 : t < nT s) : MetW l D T yX5_isAsked cX5_isAsked 6 (none) 2 44 0 0 [.ref o, .int (nI t)] (mW T o a s S) (fun r_ w_ => r_ = none ∧ (w_ = mW T o a (asks s t) S)) := by
  refine metW (own := RX5) rfl (by decide) rfl (fun X h hl hDx hTx hnm hE => ?_)
  subst hl; subst hDx; subst hTx
  have hnp := h0.npl; have hnt := h0.ntl; have hnq := h0.nql
  have how := h0.owlE h1
  have hpp := rg_pos (by decide) (h0.priceR (t := t) (by omega))
  show G X 0 0 (mW (xT X) o a s S) 0 [(0, .ref o), (1, .int (nI t))] []
  refine g_aload_n h dX5_isAsked_0 rfl ?_
  refine g_iload_n h dX5_isAsked_1 rfl ?_
  refine g_callVR h (m5_owner _ _ _ o a s S t (by first | assumption | omega)) (fun _ q => q) 0 rfl rfl (lw_V q1475 q1477 qs41 q95 q1478) gy_X5_owner ⟨Nat.le_of_ble_eq_true rfl, Nat.le_of_ble_eq_true rfl⟩ ⟨Nat.le_of_ble_eq_true rfl, Nat.le_of_ble_eq_true rfl⟩ rfl rfl (Nat.le_of_ble_eq_true rfl) dX5_isAsked_2 ?_
  refine g_toN (a := owr s t) (h0.owE h1) ?_
  refine g_istore_n (lv' := [(0, .ref o), (1, .int (nI t)), (2, .int (nI (owr s t)))]) h dX5_isAsked_5 (by decide) rfl ?_
  refine g_aload_n h dX5_isAsked_6 rfl ?_
  refine g_iload_n h dX5_isAsked_7 rfl ?_
  refine g_iconst (v := nI 1) h dX5_isAsked_8 (by decide) ?_
  refine g_callVR h (m5_its _ _ _ o a s S t 1 (by first | assumption | omega)) (fun _ q => q) 0 rfl rfl (lw_V q1479 q1481 qs42 q95 q1482) gy_X5_its ⟨Nat.le_of_ble_eq_true rfl, Nat.le_of_ble_eq_true rfl⟩ ⟨Nat.le_of_ble_eq_true rfl, Nat.le_of_ble_eq_true rfl⟩ rfl rfl (Nat.le_of_ble_eq_true rfl) dX5_isAsked_9 ?_
  refine g_istore_n (lv' := [(0, .ref o), (1, .int (nI t)), (2, .int (nI (owr s t))), (3, .int (s (44 + 4 * t + 1)))]) h dX5_isAsked_12 (by decide) rfl ?_
  refine g_iconst (v := nI 0) h dX5_isAsked_13 (by decide) ?_
  refine g_istore (lv' := [(0, .ref o), (1, .int (nI t)), (2, .int (nI (owr s t))), (3, .int (s (44 + 4 * t + 1))), (4, .int (nI 0))]) h dX5_isAsked_14 (by decide) rfl ?_
  have lp : ∀ i, i ≤ nP s → ∀ (_u : Unit) (s1 : Nat → Int32), (asks s t = askR t (owr s t) (s (44 + 4 * t + 1)) (nP s - i) i s1) → (Kp s s1) → G X 0 0 (mW (xT X) o a s1 S) 16 [(0, .ref o), (1, .int (nI t)), (2, .int (nI (owr s t))), (3, .int (s (44 + 4 * t + 1))), (4, .int (nI i))] [] := by
    refine g_ind (N := nP s) (fun i hi_i ih_lp => ?_)
    intro _u s1 e0_lp e1_lp
    have h9 := e1_lp.1
    have hn9 := e1_lp.2.1
    refine g_iload h dX5_isAsked_16 rfl ?_
    refine g_aload_n h dX5_isAsked_18 rfl ?_
    refine g_get h in_X5 0 rfl rfl 0 rfl q1374 rfl rfl dX5_isAsked_19 ?_
    refine g_iconst (v := nI 0) h dX5_isAsked_22 (by decide) ?_
    refine g_iald h 1 rfl (by first | assumption | omega) (by decide) dX5_isAsked_23 ?_
    refine g_toN (a := nP s1) (Inv.np h9) ?_
    refine g_icmp_geN h 176 dX5_isAsked_24 (by decide) (by first | omega | decide) (by first | omega | decide) (fun c24 => ?_) (fun c24 => ?_)
    · skip
      show G X 0 0 (mW (xT X) o a s1 S) 176 [(0, .ref o), (1, .int (nI t)), (2, .int (nI (owr s t))), (3, .int (s (44 + 4 * t + 1))), (4, .int (nI i))] []
      exact g_vretWv h hE dX5_isAsked_176 (mW_eq (by rw [e0_lp, show nP s - i = 0 by omega, askR]) rfl)
    · skip
      show G X 0 0 (mW (xT X) o a s1 S) 27 [(0, .ref o), (1, .int (nI t)), (2, .int (nI (owr s t))), (3, .int (s (44 + 4 * t + 1))), (4, .int (nI i))] []
      refine g_iload h dX5_isAsked_27 rfl ?_
      refine g_iload_n h dX5_isAsked_29 rfl ?_
      refine g_icmp_eqN h 170 dX5_isAsked_30 (by decide) (by first | omega | decide) (by first | omega | decide) (fun c30 => ?_) (fun c30 => ?_)
      · skip
        show G X 0 0 (mW (xT X) o a s1 S) 170 [(0, .ref o), (1, .int (nI t)), (2, .int (nI (owr s t))), (3, .int (s (44 + 4 * t + 1))), (4, .int (nI i))] []
        refine g_iincN (b := 1) (lv' := [(0, .ref o), (1, .int (nI t)), (2, .int (nI (owr s t))), (3, .int (s (44 + 4 * t + 1))), (4, .int (nI (i + 1)))]) h dX5_isAsked_170 rfl rfl (by decide) rfl ?_
        refine g_goto h 16 dX5_isAsked_173 (by decide) ?_
        exact ih_lp (i + 1) (by omega) (by omega) () s1 (by rw [e0_lp, show nP s - i = (nP s - (i + 1)) + 1 by omega, askR]; rw [if_pos c30]) e1_lp
      · skip
        show G X 0 0 (mW (xT X) o a s1 S) 33 [(0, .ref o), (1, .int (nI t)), (2, .int (nI (owr s t))), (3, .int (s (44 + 4 * t + 1))), (4, .int (nI i))] []
        refine g_aload_n h dX5_isAsked_33 rfl ?_
        refine g_callVW0 h hE (m5_draw _ _ _ o a s1 S ) 0 rfl rfl (lw_V q1690 q1692 qs74 q95 q1693) gy_X5_draw ⟨Nat.le_of_ble_eq_true rfl, Nat.le_of_ble_eq_true rfl⟩ ⟨Nat.le_of_ble_eq_true rfl, Nat.le_of_ble_eq_true rfl⟩ rfl rfl (Nat.le_of_ble_eq_true rfl) dX5_isAsked_34 (st' := [.int (drw (dz (s1 8)))]) rfl (fun _ e34 => ?_)
        subst e34
        refine g_aload_n h dX5_isAsked_37 rfl ?_
        refine g_iload h dX5_isAsked_38 rfl ?_
        refine g_iconst (v := nI 3) h dX5_isAsked_40 (by decide) ?_
        refine g_callVR h (m5_who _ _ _ o a (upd s1 8 (dz (s1 8))) S i 3 (by first | assumption | omega)) (fun _ q => q) 0 rfl rfl (lw_V q1459 q1461 qs37 q95 q1462) gy_X5_who ⟨Nat.le_of_ble_eq_true rfl, Nat.le_of_ble_eq_true rfl⟩ ⟨Nat.le_of_ble_eq_true rfl, Nat.le_of_ble_eq_true rfl⟩ rfl rfl (Nat.le_of_ble_eq_true rfl) dX5_isAsked_41 ?_
        refine g_toI (y := s1 (20 + 4 * i + 3)) (show (upd s1 8 (dz (s1 8))) (20 + 4 * i + 3) = _ from (upd_n (by omega))) ?_
        refine g_irem h dX5_isAsked_44 (qne h9 (by omega)) ?_
        refine g_aload_n h dX5_isAsked_45 rfl ?_
        refine g_iload h dX5_isAsked_46 rfl ?_
        refine g_iconst (v := nI 2) h dX5_isAsked_48 (by decide) ?_
        refine g_callVR h (m5_who _ _ _ o a (upd s1 8 (dz (s1 8))) S i 2 (by first | assumption | omega)) (fun _ q => q) 0 rfl rfl (lw_V q1459 q1461 qs37 q95 q1462) gy_X5_who ⟨Nat.le_of_ble_eq_true rfl, Nat.le_of_ble_eq_true rfl⟩ ⟨Nat.le_of_ble_eq_true rfl, Nat.le_of_ble_eq_true rfl⟩ rfl rfl (Nat.le_of_ble_eq_true rfl) dX5_isAsked_49 ?_
        refine g_toI (y := s1 (20 + 4 * i + 2)) (show (upd s1 8 (dz (s1 8))) (20 + 4 * i + 2) = _ from (upd_n (by omega))) ?_
        refine g_icmp_lt h 58 dX5_isAsked_52 (by decide) (fun c52 => ?_) (fun c52 => ?_)
        · skip
          show G X 0 0 (mW (xT X) o a (upd s1 8 (dz (s1 8))) S) 58 [(0, .ref o), (1, .int (nI t)), (2, .int (nI (owr s t))), (3, .int (s (44 + 4 * t + 1))), (4, .int (nI i))] []
          refine g_aload_n h dX5_isAsked_58 rfl ?_
          refine g_iload h dX5_isAsked_59 rfl ?_
          refine g_iload_n h dX5_isAsked_61 rfl ?_
          refine g_callVR h (m5_valueTo _ _ _ o a (upd s1 8 (dz (s1 8))) S i t (by first | assumption | omega) (by first | assumption | omega)) (fun _ q => q) 0 rfl rfl (lw_V q1487 q1489 qs44 q95 q1490) gy_X5_valueTo ⟨Nat.le_of_ble_eq_true rfl, Nat.le_of_ble_eq_true rfl⟩ ⟨Nat.le_of_ble_eq_true rfl, Nat.le_of_ble_eq_true rfl⟩ rfl rfl (Nat.le_of_ble_eq_true rfl) dX5_isAsked_62 ?_
          refine g_toI (y := val s1 i t) (val_z _ _ _ _) ?_
          refine g_iload_n h dX5_isAsked_65 rfl ?_
          refine g_icmp_leC h 170 dX5_isAsked_66 (by decide) (fun c66 => ?_) (fun c66 => ?_)
          · skip
            show G X 0 0 (mW (xT X) o a (upd s1 8 (dz (s1 8))) S) 170 [(0, .ref o), (1, .int (nI t)), (2, .int (nI (owr s t))), (3, .int (s (44 + 4 * t + 1))), (4, .int (nI i))] []
            refine g_iincN (b := 1) (lv' := [(0, .ref o), (1, .int (nI t)), (2, .int (nI (owr s t))), (3, .int (s (44 + 4 * t + 1))), (4, .int (nI (i + 1)))]) h dX5_isAsked_170 rfl rfl (by decide) rfl ?_
            refine g_goto h 16 dX5_isAsked_173 (by decide) ?_
            exact ih_lp (i + 1) (by omega) (by omega) () (upd s1 8 (dz (s1 8))) (by rw [e0_lp, show nP s - i = (nP s - (i + 1)) + 1 by omega, askR]; rw [if_neg c30, if_pos c52, if_neg c66]) (e1_lp.trans (h9.z _))
          · skip
            show G X 0 0 (mW (xT X) o a (upd s1 8 (dz (s1 8))) S) 69 [(0, .ref o), (1, .int (nI t)), (2, .int (nI (owr s t))), (3, .int (s (44 + 4 * t + 1))), (4, .int (nI i))] []
            refine g_aload_n h dX5_isAsked_69 rfl ?_
            refine g_iload h dX5_isAsked_70 rfl ?_
            refine g_iconst (v := nI 1) h dX5_isAsked_72 (by decide) ?_
            refine g_callVR h (m5_who _ _ _ o a (upd s1 8 (dz (s1 8))) S i 1 (by first | assumption | omega)) (fun _ q => q) 0 rfl rfl (lw_V q1459 q1461 qs37 q95 q1462) gy_X5_who ⟨Nat.le_of_ble_eq_true rfl, Nat.le_of_ble_eq_true rfl⟩ ⟨Nat.le_of_ble_eq_true rfl, Nat.le_of_ble_eq_true rfl⟩ rfl rfl (Nat.le_of_ble_eq_true rfl) dX5_isAsked_73 ?_
            refine g_toI (y := s1 (20 + 4 * i + 1)) (show (upd s1 8 (dz (s1 8))) (20 + 4 * i + 1) = _ from (upd_n (by omega))) ?_
            refine g_iload_n h dX5_isAsked_76 rfl ?_
            refine g_icmp_lt h 170 dX5_isAsked_77 (by decide) (fun c77 => ?_) (fun c77 => ?_)
            · skip
              show G X 0 0 (mW (xT X) o a (upd s1 8 (dz (s1 8))) S) 170 [(0, .ref o), (1, .int (nI t)), (2, .int (nI (owr s t))), (3, .int (s (44 + 4 * t + 1))), (4, .int (nI i))] []
              refine g_iincN (b := 1) (lv' := [(0, .ref o), (1, .int (nI t)), (2, .int (nI (owr s t))), (3, .int (s (44 + 4 * t + 1))), (4, .int (nI (i + 1)))]) h dX5_isAsked_170 rfl rfl (by decide) rfl ?_
              refine g_goto h 16 dX5_isAsked_173 (by decide) ?_
              exact ih_lp (i + 1) (by omega) (by omega) () (upd s1 8 (dz (s1 8))) (by rw [e0_lp, show nP s - i = (nP s - (i + 1)) + 1 by omega, askR]; rw [if_neg c30, if_pos c52, if_pos c66, if_pos c77]) (e1_lp.trans (h9.z _))
            · skip
              show G X 0 0 (mW (xT X) o a (upd s1 8 (dz (s1 8))) S) 80 [(0, .ref o), (1, .int (nI t)), (2, .int (nI (owr s t))), (3, .int (s (44 + 4 * t + 1))), (4, .int (nI i))] []
              refine g_aload_n h dX5_isAsked_80 rfl ?_
              refine g_get h in_X5 0 rfl rfl 0 rfl q1374 rfl rfl dX5_isAsked_81 ?_
              refine g_bipush (v := nI 20) h dX5_isAsked_84 (by decide) ?_
              refine g_iconst (v := nI 4) h dX5_isAsked_86 (by decide) ?_
              refine g_iload h dX5_isAsked_87 rfl ?_
              refine g_imulN h dX5_isAsked_89 ?_
              refine g_iaddN h dX5_isAsked_90 ?_
              refine g_iconst (v := nI 1) h dX5_isAsked_91 (by decide) ?_
              refine g_iaddN h dX5_isAsked_92 ?_
              refine g_dup2_11 h dX5_isAsked_93 rfl rfl ?_
              refine g_iald h 1 rfl (by first | assumption | omega) (by decide) dX5_isAsked_94 ?_
              refine g_toI (y := s1 (20 + 4 * i + 1)) (show (upd s1 8 (dz (s1 8))) (20 + 4 * i + 1) = _ from (upd_n (by omega))) ?_
              refine g_iload_n h dX5_isAsked_95 rfl ?_
              refine g_isub h dX5_isAsked_96 ?_
              refine g_iast (ws' := mW (xT X) o a (upd (upd s1 8 (dz (s1 8))) (20 + 4 * i + 1) ((s1 (20 + 4 * i + 1)) - (s (44 + 4 * t + 1)))) S) h hE.1 1 rfl (by first | assumption | omega) (by decide) dX5_isAsked_97 rfl ?_
              refine g_aload_n h dX5_isAsked_98 rfl ?_
              refine g_iload_n h dX5_isAsked_99 rfl ?_
              refine g_iload_n h dX5_isAsked_100 rfl ?_
              refine g_callVW0 h hE (m5_gets _ _ _ o a (upd (upd s1 8 (dz (s1 8))) (20 + 4 * i + 1) ((s1 (20 + 4 * i + 1)) - (s (44 + 4 * t + 1)))) S (owr s t) (s (44 + 4 * t + 1)) (by first | assumption | omega)) 0 rfl rfl (lw_V q1695 q1697 qs75 q95 q1698) gy_X5_gets ⟨Nat.le_of_ble_eq_true rfl, Nat.le_of_ble_eq_true rfl⟩ ⟨Nat.le_of_ble_eq_true rfl, Nat.le_of_ble_eq_true rfl⟩ rfl rfl (Nat.le_of_ble_eq_true rfl) dX5_isAsked_101 (st' := []) rfl (fun _ e101 => ?_)
              subst e101
              refine g_aload_n h dX5_isAsked_104 rfl ?_
              refine g_get h in_X5 0 rfl rfl 0 rfl q1374 rfl rfl dX5_isAsked_105 ?_
              refine g_bipush (v := nI 44) h dX5_isAsked_108 (by decide) ?_
              refine g_iconst (v := nI 4) h dX5_isAsked_110 (by decide) ?_
              refine g_iload_n h dX5_isAsked_111 rfl ?_
              refine g_imulN h dX5_isAsked_112 ?_
              refine g_iaddN h dX5_isAsked_113 ?_
              refine g_iconst (v := nI 0) h dX5_isAsked_114 (by decide) ?_
              refine g_iaddN h dX5_isAsked_115 ?_
              refine g_toN (a := 44 + 4 * t) rfl ?_
              refine g_iload h dX5_isAsked_116 rfl ?_
              refine g_iast (ws' := mW (xT X) o a (upd (gets (upd (upd s1 8 (dz (s1 8))) (20 + 4 * i + 1) ((s1 (20 + 4 * i + 1)) - (s (44 + 4 * t + 1)))) (owr s t) (s (44 + 4 * t + 1))) (44 + 4 * t) (nI i)) S) h hE.1 1 rfl (by first | assumption | omega) (by decide) dX5_isAsked_118 rfl ?_
              refine g_aload_n h dX5_isAsked_119 rfl ?_
              refine g_get h in_X5 0 rfl rfl 0 rfl q1374 rfl rfl dX5_isAsked_120 ?_
              refine g_iconst (v := nI 4) h dX5_isAsked_123 (by decide) ?_
              refine g_dup2_11 h dX5_isAsked_124 rfl rfl ?_
              refine g_iald h 1 rfl (by first | assumption | omega) (by decide) dX5_isAsked_125 ?_
              refine g_toI (y := (gets (upd (upd s1 8 (dz (s1 8))) (20 + 4 * i + 1) ((s1 (20 + 4 * i + 1)) - (s (44 + 4 * t + 1)))) (owr s t) (s (44 + 4 * t + 1))) 4) (show (upd (gets (upd (upd s1 8 (dz (s1 8))) (20 + 4 * i + 1) ((s1 (20 + 4 * i + 1)) - (s (44 + 4 * t + 1)))) (owr s t) (s (44 + 4 * t + 1))) (44 + 4 * t) (nI i)) 4 = _ from (upd_n (by omega))) ?_
              refine g_toI (y := (upd s1 8 (dz (s1 8))) 4) (by unfold gets; simp (discharger := omega) only [upd_n]) ?_
              refine g_iconst (v := nI 1) h dX5_isAsked_126 (by decide) ?_
              refine g_toI (y := 1) rfl ?_
              refine g_iadd h dX5_isAsked_127 ?_
              refine g_iast (ws' := mW (xT X) o a (upd (upd (gets (upd (upd s1 8 (dz (s1 8))) (20 + 4 * i + 1) ((s1 (20 + 4 * i + 1)) - (s (44 + 4 * t + 1)))) (owr s t) (s (44 + 4 * t + 1))) (44 + 4 * t) (nI i)) 4 (((upd s1 8 (dz (s1 8))) 4) + 1)) S) h hE.1 1 rfl (by first | assumption | omega) (by decide) dX5_isAsked_128 rfl ?_
              refine g_aload_n h dX5_isAsked_129 rfl ?_
              refine g_iload_n h dX5_isAsked_130 rfl ?_
              refine g_iconst (v := nI 2) h dX5_isAsked_131 (by decide) ?_
              refine g_callVR h (m5_its _ _ _ o a (upd (upd (gets (upd (upd s1 8 (dz (s1 8))) (20 + 4 * i + 1) ((s1 (20 + 4 * i + 1)) - (s (44 + 4 * t + 1)))) (owr s t) (s (44 + 4 * t + 1))) (44 + 4 * t) (nI i)) 4 (((upd s1 8 (dz (s1 8))) 4) + 1)) S t 2 (by first | assumption | omega)) (fun _ q => q) 0 rfl rfl (lw_V q1479 q1481 qs42 q95 q1482) gy_X5_its ⟨Nat.le_of_ble_eq_true rfl, Nat.le_of_ble_eq_true rfl⟩ ⟨Nat.le_of_ble_eq_true rfl, Nat.le_of_ble_eq_true rfl⟩ rfl rfl (Nat.le_of_ble_eq_true rfl) dX5_isAsked_132 ?_
              refine g_toI (y := (upd (gets (upd (upd s1 8 (dz (s1 8))) (20 + 4 * i + 1) ((s1 (20 + 4 * i + 1)) - (s (44 + 4 * t + 1)))) (owr s t) (s (44 + 4 * t + 1))) (44 + 4 * t) (nI i)) (44 + 4 * t + 2)) (show (upd (upd (gets (upd (upd s1 8 (dz (s1 8))) (20 + 4 * i + 1) ((s1 (20 + 4 * i + 1)) - (s (44 + 4 * t + 1)))) (owr s t) (s (44 + 4 * t + 1))) (44 + 4 * t) (nI i)) 4 (((upd s1 8 (dz (s1 8))) 4) + 1)) (44 + 4 * t + 2) = _ from (upd_n (by omega))) ?_
              refine g_toI (y := (upd s1 8 (dz (s1 8))) (44 + 4 * t + 2)) (by unfold gets; simp (discharger := omega) only [upd_n]) ?_
              refine g_aload_n h dX5_isAsked_135 rfl ?_
              refine g_get h in_X5 0 rfl rfl 0 rfl q1374 rfl rfl dX5_isAsked_136 ?_
              refine g_bipush (v := nI 11) h dX5_isAsked_139 (by decide) ?_
              refine g_iald h 1 rfl (by first | assumption | omega) (by decide) dX5_isAsked_141 ?_
              refine g_toI (y := (gets (upd (upd s1 8 (dz (s1 8))) (20 + 4 * i + 1) ((s1 (20 + 4 * i + 1)) - (s (44 + 4 * t + 1)))) (owr s t) (s (44 + 4 * t + 1))) 11) (show (upd (upd (gets (upd (upd s1 8 (dz (s1 8))) (20 + 4 * i + 1) ((s1 (20 + 4 * i + 1)) - (s (44 + 4 * t + 1)))) (owr s t) (s (44 + 4 * t + 1))) (44 + 4 * t) (nI i)) 4 (((upd s1 8 (dz (s1 8))) 4) + 1)) 11 = _ from ((upd_n (by omega)).trans (upd_n (by omega)))) ?_
              refine g_toI (y := (upd s1 8 (dz (s1 8))) 11) (by unfold gets; simp (discharger := omega) only [upd_n]) ?_
              refine g_isub h dX5_isAsked_142 ?_
              refine g_istore (lv' := [(0, .ref o), (1, .int (nI t)), (2, .int (nI (owr s t))), (3, .int (s (44 + 4 * t + 1))), (4, .int (nI i)), (5, .int (((upd s1 8 (dz (s1 8))) (44 + 4 * t + 2)) - ((upd s1 8 (dz (s1 8))) 11)))]) h dX5_isAsked_143 (by decide) rfl ?_
              refine g_aload_n h dX5_isAsked_145 rfl ?_
              refine g_get h in_X5 0 rfl rfl 0 rfl q1374 rfl rfl dX5_isAsked_146 ?_
              refine g_bipush (v := nI 44) h dX5_isAsked_149 (by decide) ?_
              refine g_iconst (v := nI 4) h dX5_isAsked_151 (by decide) ?_
              refine g_iload_n h dX5_isAsked_152 rfl ?_
              refine g_imulN h dX5_isAsked_153 ?_
              refine g_iaddN h dX5_isAsked_154 ?_
              refine g_iconst (v := nI 2) h dX5_isAsked_155 (by decide) ?_
              refine g_iaddN h dX5_isAsked_156 ?_
              refine g_iload h dX5_isAsked_157 rfl ?_
              refine g_if_geC h 166 dX5_isAsked_159 (by decide) (fun c159 => ?_) (fun c159 => ?_)
              · skip
                show G X 0 0 (mW (xT X) o a (upd (upd (gets (upd (upd s1 8 (dz (s1 8))) (20 + 4 * i + 1) ((s1 (20 + 4 * i + 1)) - (s (44 + 4 * t + 1)))) (owr s t) (s (44 + 4 * t + 1))) (44 + 4 * t) (nI i)) 4 (((upd s1 8 (dz (s1 8))) 4) + 1)) S) 166 [(0, .ref o), (1, .int (nI t)), (2, .int (nI (owr s t))), (3, .int (s (44 + 4 * t + 1))), (4, .int (nI i)), (5, .int (((upd s1 8 (dz (s1 8))) (44 + 4 * t + 2)) - ((upd s1 8 (dz (s1 8))) 11)))] [.int (nI (44 + 4 * t + 2)), .ref (a 0)]
                refine g_iload h dX5_isAsked_166 rfl ?_
                refine g_iast (ws' := mW (xT X) o a (upd (upd (upd (gets (upd (upd s1 8 (dz (s1 8))) (20 + 4 * i + 1) ((s1 (20 + 4 * i + 1)) - (s (44 + 4 * t + 1)))) (owr s t) (s (44 + 4 * t + 1))) (44 + 4 * t) (nI i)) 4 (((upd s1 8 (dz (s1 8))) 4) + 1)) (44 + 4 * t + 2) (((upd s1 8 (dz (s1 8))) (44 + 4 * t + 2)) - ((upd s1 8 (dz (s1 8))) 11))) S) h hE.1 1 rfl (by first | assumption | omega) (by decide) dX5_isAsked_168 rfl ?_
                exact g_vretWv h hE dX5_isAsked_169 (mW_eq (by rw [e0_lp, show nP s - i = (nP s - (i + 1)) + 1 by omega, askR, if_neg c30, if_pos c52, if_pos c66, if_neg c77]; unfold sell sndV; rw [show upd s1 8 (dz (s1 8)) (20 + 4 * i + 1) = s1 (20 + 4 * i + 1) from upd_n (by omega)]; first | rw [if_pos c159] | rw [if_neg c159]) rfl)
              · skip
                show G X 0 0 (mW (xT X) o a (upd (upd (gets (upd (upd s1 8 (dz (s1 8))) (20 + 4 * i + 1) ((s1 (20 + 4 * i + 1)) - (s (44 + 4 * t + 1)))) (owr s t) (s (44 + 4 * t + 1))) (44 + 4 * t) (nI i)) 4 (((upd s1 8 (dz (s1 8))) 4) + 1)) S) 162 [(0, .ref o), (1, .int (nI t)), (2, .int (nI (owr s t))), (3, .int (s (44 + 4 * t + 1))), (4, .int (nI i)), (5, .int (((upd s1 8 (dz (s1 8))) (44 + 4 * t + 2)) - ((upd s1 8 (dz (s1 8))) 11)))] [.int (nI (44 + 4 * t + 2)), .ref (a 0)]
                refine g_iconst (v := nI 0) h dX5_isAsked_162 (by decide) ?_
                refine g_goto h 168 dX5_isAsked_163 (by decide) ?_
                refine g_iast (ws' := mW (xT X) o a (upd (upd (upd (gets (upd (upd s1 8 (dz (s1 8))) (20 + 4 * i + 1) ((s1 (20 + 4 * i + 1)) - (s (44 + 4 * t + 1)))) (owr s t) (s (44 + 4 * t + 1))) (44 + 4 * t) (nI i)) 4 (((upd s1 8 (dz (s1 8))) 4) + 1)) (44 + 4 * t + 2) 0) S) h hE.1 1 rfl (by first | assumption | omega) (by decide) dX5_isAsked_168 rfl ?_
                exact g_vretWv h hE dX5_isAsked_169 (mW_eq (by rw [e0_lp, show nP s - i = (nP s - (i + 1)) + 1 by omega, askR, if_neg c30, if_pos c52, if_pos c66, if_neg c77]; unfold sell sndV; rw [show upd s1 8 (dz (s1 8)) (20 + 4 * i + 1) = s1 (20 + 4 * i + 1) from upd_n (by omega)]; first | rw [if_pos c159] | rw [if_neg c159]) rfl)
        · skip
          show G X 0 0 (mW (xT X) o a (upd s1 8 (dz (s1 8))) S) 55 [(0, .ref o), (1, .int (nI t)), (2, .int (nI (owr s t))), (3, .int (s (44 + 4 * t + 1))), (4, .int (nI i))] []
          refine g_goto h 170 dX5_isAsked_55 (by decide) ?_
          refine g_iincN (b := 1) (lv' := [(0, .ref o), (1, .int (nI t)), (2, .int (nI (owr s t))), (3, .int (s (44 + 4 * t + 1))), (4, .int (nI (i + 1)))]) h dX5_isAsked_170 rfl rfl (by decide) rfl ?_
          refine g_goto h 16 dX5_isAsked_173 (by decide) ?_
          exact ih_lp (i + 1) (by omega) (by omega) () (upd s1 8 (dz (s1 8))) (by rw [e0_lp, show nP s - i = (nP s - (i + 1)) + 1 by omega, askR]; rw [if_neg c30, if_neg c52]) (e1_lp.trans (h9.z _))
  exact lp (0) (by omega) () s rfl (Kp.rfl h0)
set_option maxHeartbeats 4000000 in
set_option maxRecDepth 100000 in
theorem m5_mends (l : Launch) (D : va_G) (T : Nat → ClassId) (o : Nat) (a : Nat → Nat) (s : Nat → Int32) (S : Nat → Nat → Int32) (t : Nat) (h0 : Inv s) (h1 : t < nT s) : MetW l D T yX5_mends cX5_mends 3 (none) 3 72 0 0 [.ref o, .int (nI t)] (mW T o a s S) (fun r_ w_ => r_ = none ∧ (∃ (N : Nat → Int32) (P : Nat → Int32), w_ = mW T o a (mends s t) (scr S N P))) := by
  refine metW (own := RX5) rfl (by decide) rfl (fun X h hl hDx hTx hnm hE => ?_)
  subst hl; subst hDx; subst hTx
  have hnp := h0.npl; have hnt := h0.ntl; have hnq := h0.nql
  have how := h0.owlE h1
  show G X 0 0 (mW (xT X) o a s S) 0 [(0, .ref o), (1, .int (nI t))] []
  refine g_aload_n h dX5_mends_0 rfl ?_
  refine g_iload_n h dX5_mends_1 rfl ?_
  refine g_callVW0 h hE (m5_isMended _ _ _ o a s S t h0 (by first | assumption | omega)) 0 rfl rfl (lw_V q1665 q1667 qs69 q95 q1668) gy_X5_isMended ⟨Nat.le_of_ble_eq_true rfl, Nat.le_of_ble_eq_true rfl⟩ ⟨Nat.le_of_ble_eq_true rfl, Nat.le_of_ble_eq_true rfl⟩ rfl rfl (Nat.le_of_ble_eq_true rfl) dX5_mends_2 (st' := [.int (bI (mendB s t))]) rfl (fun _ e2 => ?_)
  obtain ⟨N_2, P_2, rfl⟩ := e2
  refine g_if_eqB h 70 dX5_mends_5 (by decide) (fun c5 => ?_) (fun c5 => ?_)
  · skip
    show G X 0 0 (mW (xT X) o a s (scr S N_2 P_2)) 70 [(0, .ref o), (1, .int (nI t))] []
    exact g_vretWv h hE dX5_mends_70 (⟨N_2, P_2, mW_eq (by first | (simp [mends, c5]; done) | (simp_all [mends, c5]; done)) rfl⟩)
  · skip
    show G X 0 0 (mW (xT X) o a s (scr S N_2 P_2)) 8 [(0, .ref o), (1, .int (nI t))] []
    refine g_aload_n h dX5_mends_8 rfl ?_
    refine g_get h in_X5 0 rfl rfl 0 rfl q1374 rfl rfl dX5_mends_9 ?_
    refine g_bipush (v := nI 20) h dX5_mends_12 (by decide) ?_
    refine g_iconst (v := nI 4) h dX5_mends_14 (by decide) ?_
    refine g_aload_n h dX5_mends_15 rfl ?_
    refine g_iload_n h dX5_mends_16 rfl ?_
    refine g_callVR h (m5_owner _ _ _ o a s (scr S N_2 P_2) t (by first | assumption | omega)) (fun _ q => q) 0 rfl rfl (lw_V q1475 q1477 qs41 q95 q1478) gy_X5_owner ⟨Nat.le_of_ble_eq_true rfl, Nat.le_of_ble_eq_true rfl⟩ ⟨Nat.le_of_ble_eq_true rfl, Nat.le_of_ble_eq_true rfl⟩ rfl rfl (Nat.le_of_ble_eq_true rfl) dX5_mends_17 ?_
    refine g_toN (a := owr s t) (h0.owE h1) ?_
    refine g_imulN h dX5_mends_20 ?_
    refine g_iaddN h dX5_mends_21 ?_
    refine g_iconst (v := nI 1) h dX5_mends_22 (by decide) ?_
    refine g_iaddN h dX5_mends_23 ?_
    refine g_dup2_11 h dX5_mends_24 rfl rfl ?_
    refine g_iald h 1 rfl (by first | assumption | omega) (by decide) dX5_mends_25 ?_
    refine g_aload_n h dX5_mends_26 rfl ?_
    refine g_get h in_X5 0 rfl rfl 0 rfl q1374 rfl rfl dX5_mends_27 ?_
    refine g_bipush (v := nI 14) h dX5_mends_30 (by decide) ?_
    refine g_iald h 1 rfl (by first | assumption | omega) (by decide) dX5_mends_32 ?_
    refine g_isub h dX5_mends_33 ?_
    refine g_iast (ws' := mW (xT X) o a (upd s (20 + 4 * (owr s t) + 1) ((s (20 + 4 * (owr s t) + 1)) - (s 14))) (scr S N_2 P_2)) h hE.1 1 rfl (by first | assumption | omega) (by decide) dX5_mends_34 rfl ?_
    refine g_aload_n h dX5_mends_35 rfl ?_
    refine g_iload_n h dX5_mends_36 rfl ?_
    refine g_iconst (v := nI 2) h dX5_mends_37 (by decide) ?_
    refine g_callVR h (m5_its _ _ _ o a (upd s (20 + 4 * (owr s t) + 1) ((s (20 + 4 * (owr s t) + 1)) - (s 14))) (scr S N_2 P_2) t 2 (by first | assumption | omega)) (fun _ q => q) 0 rfl rfl (lw_V q1479 q1481 qs42 q95 q1482) gy_X5_its ⟨Nat.le_of_ble_eq_true rfl, Nat.le_of_ble_eq_true rfl⟩ ⟨Nat.le_of_ble_eq_true rfl, Nat.le_of_ble_eq_true rfl⟩ rfl rfl (Nat.le_of_ble_eq_true rfl) dX5_mends_38 ?_
    refine g_toI (y := s (44 + 4 * t + 2)) (show (upd s (20 + 4 * (owr s t) + 1) ((s (20 + 4 * (owr s t) + 1)) - (s 14))) (44 + 4 * t + 2) = _ from (upd_n (by omega))) ?_
    refine g_bipush (v := nI 10) h dX5_mends_41 (by decide) ?_
    refine g_toI (y := 10) rfl ?_
    refine g_iadd h dX5_mends_43 ?_
    refine g_istore_n (lv' := [(0, .ref o), (1, .int (nI t)), (2, .int ((s (44 + 4 * t + 2)) + 10))]) h dX5_mends_44 (by decide) rfl ?_
    refine g_aload_n h dX5_mends_45 rfl ?_
    refine g_get h in_X5 0 rfl rfl 0 rfl q1374 rfl rfl dX5_mends_46 ?_
    refine g_bipush (v := nI 44) h dX5_mends_49 (by decide) ?_
    refine g_iconst (v := nI 4) h dX5_mends_51 (by decide) ?_
    refine g_iload_n h dX5_mends_52 rfl ?_
    refine g_imulN h dX5_mends_53 ?_
    refine g_iaddN h dX5_mends_54 ?_
    refine g_iconst (v := nI 2) h dX5_mends_55 (by decide) ?_
    refine g_iaddN h dX5_mends_56 ?_
    refine g_iload_n h dX5_mends_57 rfl ?_
    refine g_bipush (v := nI 100) h dX5_mends_58 (by decide) ?_
    refine g_toI (y := 100) rfl ?_
    refine g_icmp_leC h 68 dX5_mends_60 (by decide) (fun c60 => ?_) (fun c60 => ?_)
    · skip
      show G X 0 0 (mW (xT X) o a (upd s (20 + 4 * (owr s t) + 1) ((s (20 + 4 * (owr s t) + 1)) - (s 14))) (scr S N_2 P_2)) 68 [(0, .ref o), (1, .int (nI t)), (2, .int ((s (44 + 4 * t + 2)) + 10))] [.int (nI (44 + 4 * t + 2)), .ref (a 0)]
      refine g_iload_n h dX5_mends_68 rfl ?_
      refine g_iast (ws' := mW (xT X) o a (upd (upd s (20 + 4 * (owr s t) + 1) ((s (20 + 4 * (owr s t) + 1)) - (s 14))) (44 + 4 * t + 2) ((s (44 + 4 * t + 2)) + 10)) (scr S N_2 P_2)) h hE.1 1 rfl (by first | assumption | omega) (by decide) dX5_mends_69 rfl ?_
      exact g_vretWv h hE dX5_mends_70 (⟨N_2, P_2, mW_eq (by first | (simp [mends, c5, c60]; done) | (simp_all [mends, c5, c60]; done)) rfl⟩)
    · skip
      show G X 0 0 (mW (xT X) o a (upd s (20 + 4 * (owr s t) + 1) ((s (20 + 4 * (owr s t) + 1)) - (s 14))) (scr S N_2 P_2)) 63 [(0, .ref o), (1, .int (nI t)), (2, .int ((s (44 + 4 * t + 2)) + 10))] [.int (nI (44 + 4 * t + 2)), .ref (a 0)]
      refine g_bipush (v := nI 100) h dX5_mends_63 (by decide) ?_
      refine g_goto h 69 dX5_mends_65 (by decide) ?_
      refine g_iast (ws' := mW (xT X) o a (upd (upd s (20 + 4 * (owr s t) + 1) ((s (20 + 4 * (owr s t) + 1)) - (s 14))) (44 + 4 * t + 2) 100) (scr S N_2 P_2)) h hE.1 1 rfl (by first | assumption | omega) (by decide) dX5_mends_69 rfl ?_
      exact g_vretWv h hE dX5_mends_70 (⟨N_2, P_2, mW_eq (by first | (simp [mends, c5, c60]; done) | (simp_all [mends, c5, c60]; done)) rfl⟩)
set_option maxHeartbeats 4000000 in
set_option maxRecDepth 100000 in
theorem m5_sharesOut (l : Launch) (D : va_G) (T : Nat → ClassId) (o : Nat) (a : Nat → Nat) (s : Nat → Int32) (S : Nat → Nat → Int32) (h0 : Inv s) : MetW l D T yX5_sharesOut cX5_sharesOut 4 (none) 1 23 0 0 [.ref o] (mW T o a s S) (fun r_ w_ => r_ = none ∧ (w_ = mW T o a (shares s) S)) := by
  refine metW (own := RX5) rfl (by decide) rfl (fun X h hl hDx hTx hnm hE => ?_)
  subst hl; subst hDx; subst hTx
  have hnp := h0.npl; have hnt := h0.ntl; have hnq := h0.nql
  show G X 0 0 (mW (xT X) o a s S) 0 [(0, .ref o)] []
  refine g_aload_n h dX5_sharesOut_0 rfl ?_
  refine g_get h in_X5 0 rfl rfl 0 rfl q1374 rfl rfl dX5_sharesOut_1 ?_
  refine g_iconst (v := nI 0) h dX5_sharesOut_4 (by decide) ?_
  refine g_iald h 1 rfl (by first | assumption | omega) (by decide) dX5_sharesOut_5 ?_
  refine g_toN (a := nP s) (Inv.np h0) ?_
  refine g_istore_n (lv' := [(0, .ref o), (1, .int (nI (nP s)))]) h dX5_sharesOut_6 (by decide) rfl ?_
  refine g_aload_n h dX5_sharesOut_7 rfl ?_
  refine g_get h in_X5 0 rfl rfl 0 rfl q1374 rfl rfl dX5_sharesOut_8 ?_
  refine g_bipush (v := nI 12) h dX5_sharesOut_11 (by decide) ?_
  refine g_iald h 1 rfl (by first | assumption | omega) (by decide) dX5_sharesOut_13 ?_
  refine g_if_eq h 21 dX5_sharesOut_14 (by decide) (fun c14 => ?_) (fun c14 => ?_)
  · skip
    show G X 0 0 (mW (xT X) o a s S) 21 [(0, .ref o), (1, .int (nI (nP s)))] []
    exact g_vretWv h hE dX5_sharesOut_21 (mW_eq (by first | (simp [shares, c14]; done) | (simp_all [shares, c14]; done)) rfl)
  · skip
    show G X 0 0 (mW (xT X) o a s S) 17 [(0, .ref o), (1, .int (nI (nP s)))] []
    refine g_iload_n h dX5_sharesOut_17 rfl ?_
    refine g_if_neN h 22 dX5_sharesOut_18 (by decide) (by first | omega | decide) (fun c18 => ?_) (fun c18 => ?_)
    · skip
      show G X 0 0 (mW (xT X) o a s S) 22 [(0, .ref o), (1, .int (nI (nP s)))] []
      refine g_aload_n h dX5_sharesOut_22 rfl ?_
      refine g_get h in_X5 0 rfl rfl 0 rfl q1374 rfl rfl dX5_sharesOut_23 ?_
      refine g_bipush (v := nI 12) h dX5_sharesOut_26 (by decide) ?_
      refine g_iald h 1 rfl (by first | assumption | omega) (by decide) dX5_sharesOut_28 ?_
      refine g_iconst (v := nI 1) h dX5_sharesOut_29 (by decide) ?_
      refine g_toI (y := 1) rfl ?_
      refine g_icmp_ne h 74 dX5_sharesOut_30 (by decide) (fun c30 => ?_) (fun c30 => ?_)
      · skip
        show G X 0 0 (mW (xT X) o a s S) 74 [(0, .ref o), (1, .int (nI (nP s)))] []
        refine g_iconst (v := nI 0) h dX5_sharesOut_74 (by decide) ?_
        refine g_istore_n (lv' := [(0, .ref o), (1, .int (nI (nP s))), (2, .int (nI 0))]) h dX5_sharesOut_75 (by decide) rfl ?_
        refine g_iconst (v := nI 1) h dX5_sharesOut_76 (by decide) ?_
        refine g_istore_n (lv' := [(0, .ref o), (1, .int (nI (nP s))), (2, .int (nI 0)), (3, .int (nI 1))]) h dX5_sharesOut_77 (by decide) rfl ?_
        have lb : ∀ i, i ≤ nP s → ∀ (_u : Unit) (b : Nat), (b = fo i (poorF s) 0) → (b < nP s) → G X 0 0 (mW (xT X) o a s S) 78 [(0, .ref o), (1, .int (nI (nP s))), (2, .int (nI b)), (3, .int (nI i))] [] := by
          refine g_ind (N := nP s) (fun i hi_i ih_lb => ?_)
          intro _u b e0_lb e1_lb
          refine g_iload_n h dX5_sharesOut_78 rfl ?_
          refine g_iload_n h dX5_sharesOut_79 rfl ?_
          refine g_icmp_geN h 110 dX5_sharesOut_80 (by decide) (by first | omega | decide) (by first | omega | decide) (fun c80 => ?_) (fun c80 => ?_)
          · skip
            show G X 0 0 (mW (xT X) o a s S) 110 [(0, .ref o), (1, .int (nI (nP s))), (2, .int (nI b)), (3, .int (nI i))] []
            refine g_aload_n h dX5_sharesOut_110 rfl ?_
            refine g_iload_n h dX5_sharesOut_111 rfl ?_
            refine g_aload_n h dX5_sharesOut_112 rfl ?_
            refine g_get h in_X5 0 rfl rfl 0 rfl q1374 rfl rfl dX5_sharesOut_113 ?_
            refine g_iconst (v := nI 5) h dX5_sharesOut_116 (by decide) ?_
            refine g_iald h 1 rfl (by first | assumption | omega) (by decide) dX5_sharesOut_117 ?_
            refine g_callVW0 h hE (m5_gets _ _ _ o a s S b (s 5) (by first | assumption | omega)) 0 rfl rfl (lw_V q1695 q1697 qs75 q95 q1698) gy_X5_gets ⟨Nat.le_of_ble_eq_true rfl, Nat.le_of_ble_eq_true rfl⟩ ⟨Nat.le_of_ble_eq_true rfl, Nat.le_of_ble_eq_true rfl⟩ rfl rfl (Nat.le_of_ble_eq_true rfl) dX5_sharesOut_118 (st' := []) rfl (fun _ e118 => ?_)
            subst e118
            refine g_aload_n h dX5_sharesOut_121 rfl ?_
            refine g_get h in_X5 0 rfl rfl 0 rfl q1374 rfl rfl dX5_sharesOut_122 ?_
            refine g_iconst (v := nI 5) h dX5_sharesOut_125 (by decide) ?_
            refine g_iconst (v := nI 0) h dX5_sharesOut_126 (by decide) ?_
            refine g_iast (ws' := mW (xT X) o a (upd (gets s b (s 5)) 5 0) S) h hE.1 1 rfl (by first | assumption | omega) (by decide) dX5_sharesOut_127 rfl ?_
            exact g_vretWv h hE dX5_sharesOut_128 (mW_eq (by rw [e0_lb, show i = nP s by omega]; simp [shares, c14, c18, c30]; rfl) rfl)
          · skip
            show G X 0 0 (mW (xT X) o a s S) 83 [(0, .ref o), (1, .int (nI (nP s))), (2, .int (nI b)), (3, .int (nI i))] []
            refine g_aload_n h dX5_sharesOut_83 rfl ?_
            refine g_iload_n h dX5_sharesOut_84 rfl ?_
            refine g_iconst (v := nI 1) h dX5_sharesOut_85 (by decide) ?_
            refine g_callVR h (m5_who _ _ _ o a s S i 1 (by first | assumption | omega)) (fun _ q => q) 0 rfl rfl (lw_V q1459 q1461 qs37 q95 q1462) gy_X5_who ⟨Nat.le_of_ble_eq_true rfl, Nat.le_of_ble_eq_true rfl⟩ ⟨Nat.le_of_ble_eq_true rfl, Nat.le_of_ble_eq_true rfl⟩ rfl rfl (Nat.le_of_ble_eq_true rfl) dX5_sharesOut_86 ?_
            refine g_aload_n h dX5_sharesOut_89 rfl ?_
            refine g_iload_n h dX5_sharesOut_90 rfl ?_
            refine g_iconst (v := nI 1) h dX5_sharesOut_91 (by decide) ?_
            refine g_callVR h (m5_who _ _ _ o a s S b 1 (by first | assumption | omega)) (fun _ q => q) 0 rfl rfl (lw_V q1459 q1461 qs37 q95 q1462) gy_X5_who ⟨Nat.le_of_ble_eq_true rfl, Nat.le_of_ble_eq_true rfl⟩ ⟨Nat.le_of_ble_eq_true rfl, Nat.le_of_ble_eq_true rfl⟩ rfl rfl (Nat.le_of_ble_eq_true rfl) dX5_sharesOut_92 ?_
            refine g_icmp_geC h 102 dX5_sharesOut_95 (by decide) (fun c95 => ?_) (fun c95 => ?_)
            · skip
              show G X 0 0 (mW (xT X) o a s S) 102 [(0, .ref o), (1, .int (nI (nP s))), (2, .int (nI b)), (3, .int (nI i))] []
              refine g_iload_n h dX5_sharesOut_102 rfl ?_
              refine g_istore_n (lv' := [(0, .ref o), (1, .int (nI (nP s))), (2, .int (nI b)), (3, .int (nI i))]) h dX5_sharesOut_103 (by decide) rfl ?_
              refine g_iincN (b := 1) (lv' := [(0, .ref o), (1, .int (nI (nP s))), (2, .int (nI b)), (3, .int (nI (i + 1)))]) h dX5_sharesOut_104 rfl rfl (by decide) rfl ?_
              refine g_goto h 78 dX5_sharesOut_107 (by decide) ?_
              exact ih_lb (i + 1) (by omega) (by omega) () b (by rw [fo_s, ← e0_lb]; simp [poorF, shares, c14, c18, c30, c80, c95]) (by assumption)
            · skip
              show G X 0 0 (mW (xT X) o a s S) 98 [(0, .ref o), (1, .int (nI (nP s))), (2, .int (nI b)), (3, .int (nI i))] []
              refine g_iload_n h dX5_sharesOut_98 rfl ?_
              refine g_goto h 103 dX5_sharesOut_99 (by decide) ?_
              refine g_istore_n (lv' := [(0, .ref o), (1, .int (nI (nP s))), (2, .int (nI i)), (3, .int (nI i))]) h dX5_sharesOut_103 (by decide) rfl ?_
              refine g_iincN (b := 1) (lv' := [(0, .ref o), (1, .int (nI (nP s))), (2, .int (nI i)), (3, .int (nI (i + 1)))]) h dX5_sharesOut_104 rfl rfl (by decide) rfl ?_
              refine g_goto h 78 dX5_sharesOut_107 (by decide) ?_
              exact ih_lb (i + 1) (by omega) (by omega) () i (by rw [fo_s, ← e0_lb]; simp [poorF, shares, c14, c18, c30, c80, c95]) (by assumption)
        exact lb (1) (by omega) () 0 (by simp [fo, poorF]) (by omega)
      · skip
        show G X 0 0 (mW (xT X) o a s S) 33 [(0, .ref o), (1, .int (nI (nP s)))] []
        refine g_aload_n h dX5_sharesOut_33 rfl ?_
        refine g_get h in_X5 0 rfl rfl 0 rfl q1374 rfl rfl dX5_sharesOut_34 ?_
        refine g_iconst (v := nI 5) h dX5_sharesOut_37 (by decide) ?_
        refine g_iald h 1 rfl (by first | assumption | omega) (by decide) dX5_sharesOut_38 ?_
        refine g_iload_n h dX5_sharesOut_39 rfl ?_
        refine g_idiv h dX5_sharesOut_40 (nI_ne0 (by omega) (by omega)) ?_
        refine g_istore_n (lv' := [(0, .ref o), (1, .int (nI (nP s))), (2, .int ((s 5) / (nI (nP s))))]) h dX5_sharesOut_41 (by decide) rfl ?_
        refine g_iconst (v := nI 0) h dX5_sharesOut_42 (by decide) ?_
        refine g_istore_n (lv' := [(0, .ref o), (1, .int (nI (nP s))), (2, .int ((s 5) / (nI (nP s)))), (3, .int (nI 0))]) h dX5_sharesOut_43 (by decide) rfl ?_
        have la : ∀ i, i ≤ nP s → ∀ (_u : Unit) (s1 : Nat → Int32), (s1 = fo i (fun k s' => gets s' k (s 5 / nI (nP s))) s) → G X 0 0 (mW (xT X) o a s1 S) 44 [(0, .ref o), (1, .int (nI (nP s))), (2, .int ((s 5) / (nI (nP s)))), (3, .int (nI i))] [] := by
          refine g_ind (N := nP s) (fun i hi_i ih_la => ?_)
          intro _u s1 e0_la
          refine g_iload_n h dX5_sharesOut_44 rfl ?_
          refine g_iload_n h dX5_sharesOut_45 rfl ?_
          refine g_icmp_geN h 61 dX5_sharesOut_46 (by decide) (by first | omega | decide) (by first | omega | decide) (fun c46 => ?_) (fun c46 => ?_)
          · skip
            show G X 0 0 (mW (xT X) o a s1 S) 61 [(0, .ref o), (1, .int (nI (nP s))), (2, .int ((s 5) / (nI (nP s)))), (3, .int (nI i))] []
            refine g_aload_n h dX5_sharesOut_61 rfl ?_
            refine g_get h in_X5 0 rfl rfl 0 rfl q1374 rfl rfl dX5_sharesOut_62 ?_
            refine g_iconst (v := nI 5) h dX5_sharesOut_65 (by decide) ?_
            refine g_dup2_11 h dX5_sharesOut_66 rfl rfl ?_
            refine g_iald h 1 rfl (by first | assumption | omega) (by decide) dX5_sharesOut_67 ?_
            refine g_toI (y := s 5) (by rw [e0_la]; exact foget5 _ _ _ (by omega)) ?_
            refine g_iload_n h dX5_sharesOut_68 rfl ?_
            refine g_iload_n h dX5_sharesOut_69 rfl ?_
            refine g_imul h dX5_sharesOut_70 ?_
            refine g_isub h dX5_sharesOut_71 ?_
            refine g_iast (ws' := mW (xT X) o a (upd s1 5 ((s 5) - (((s 5) / (nI (nP s))) * (nI (nP s))))) S) h hE.1 1 rfl (by first | assumption | omega) (by decide) dX5_sharesOut_72 rfl ?_
            exact g_vretWv h hE dX5_sharesOut_73 (mW_eq (by rw [e0_la, show i = nP s by omega]; simp [shares, c14, c18, c30]) rfl)
          · skip
            show G X 0 0 (mW (xT X) o a s1 S) 49 [(0, .ref o), (1, .int (nI (nP s))), (2, .int ((s 5) / (nI (nP s)))), (3, .int (nI i))] []
            refine g_aload_n h dX5_sharesOut_49 rfl ?_
            refine g_iload_n h dX5_sharesOut_50 rfl ?_
            refine g_iload_n h dX5_sharesOut_51 rfl ?_
            refine g_callVW0 h hE (m5_gets _ _ _ o a s1 S i ((s 5) / (nI (nP s))) (by first | assumption | omega)) 0 rfl rfl (lw_V q1695 q1697 qs75 q95 q1698) gy_X5_gets ⟨Nat.le_of_ble_eq_true rfl, Nat.le_of_ble_eq_true rfl⟩ ⟨Nat.le_of_ble_eq_true rfl, Nat.le_of_ble_eq_true rfl⟩ rfl rfl (Nat.le_of_ble_eq_true rfl) dX5_sharesOut_52 (st' := []) rfl (fun _ e52 => ?_)
            subst e52
            refine g_iincN (b := 1) (lv' := [(0, .ref o), (1, .int (nI (nP s))), (2, .int ((s 5) / (nI (nP s)))), (3, .int (nI (i + 1)))]) h dX5_sharesOut_55 rfl rfl (by decide) rfl ?_
            refine g_goto h 44 dX5_sharesOut_58 (by decide) ?_
            exact ih_la (i + 1) (by omega) (by omega) () (gets s1 i ((s 5) / (nI (nP s)))) (by rw [fo_s, ← e0_la])
        exact la (0) (by omega) () s rfl
    · skip
      show G X 0 0 (mW (xT X) o a s S) 21 [(0, .ref o), (1, .int (nI (nP s)))] []
      exact g_vretWv h hE dX5_sharesOut_21 (mW_eq (by first | (simp [shares, c14, c18]; done) | (simp_all [shares, c14, c18]; done)) rfl)
set_option maxHeartbeats 4000000 in
set_option maxRecDepth 100000 in
theorem m5_year (l : Launch) (D : va_G) (T : Nat → ClassId) (o : Nat) (a : Nat → Nat) (s : Nat → Int32) (S : Nat → Nat → Int32) (h0 : Inv s) : MetW l D T yX5_year cX5_year 2 (none) 9 216 0 0 [.ref o] (mW T o a s S) (fun r_ w_ => r_ = none ∧ (∃ (N : Nat → Int32) (P : Nat → Int32), w_ = mW T o a (year s) (scr S N P))) := by
  refine metW (own := RX5) rfl (by decide) rfl (fun X h hl hDx hTx hnm hE => ?_)
  subst hl; subst hDx; subst hTx
  have hnp := h0.npl; have hnt := h0.ntl; have hnq := h0.nql
  show G X 0 0 (mW (xT X) o a s S) 0 [(0, .ref o)] []
  rw [← scr_self S]
  refine g_iconst (v := nI 0) h dX5_year_0 (by decide) ?_
  refine g_istore_n (lv' := [(0, .ref o), (1, .int (nI 0))]) h dX5_year_1 (by decide) rfl ?_
  have lA : ∀ i, i ≤ nT s → ∀ (_u : Unit) (sA : Nat → Int32) (NA : Nat → Int32) (PA : Nat → Int32), (sA = fo i (fun t s' => upd s' (44 + 4 * t + 1) (nameV s' t)) s) → G X 0 0 (mW (xT X) o a sA (scr S NA PA)) 2 [(0, .ref o), (1, .int (nI i))] [] := by
    refine g_ind (N := nT s) (fun i hi_i ih_lA => ?_)
    intro _u sA NA PA e0_lA
    have kA : Kp s sA := by rw [e0_lA]; exact y1_kp h0 i hi_i
    have hnA := kA.2.2.1; have hiA := kA.1; have hmA := hiA.ntl
    refine g_iload_n h dX5_year_2 rfl ?_
    refine g_aload_n h dX5_year_3 rfl ?_
    refine g_get h in_X5 0 rfl rfl 0 rfl q1374 rfl rfl dX5_year_4 ?_
    refine g_iconst (v := nI 1) h dX5_year_7 (by decide) ?_
    refine g_iald h 1 rfl (by first | assumption | omega) (by decide) dX5_year_8 ?_
    refine g_toN (a := nT sA) (Inv.nt hiA) ?_
    refine g_icmp_geN h 36 dX5_year_9 (by decide) (by first | omega | decide) (by first | omega | decide) (fun c9 => ?_) (fun c9 => ?_)
    · skip
      show G X 0 0 (mW (xT X) o a sA (scr S NA PA)) 36 [(0, .ref o), (1, .int (nI i))] []
      have fA : sA = y1 s := by rw [e0_lA, show i = nT s by omega]; rfl
      refine g_iconst (v := nI 0) h dX5_year_36 (by decide) ?_
      refine g_istore_n (lv' := [(0, .ref o), (1, .int (nI 0))]) h dX5_year_37 (by decide) rfl ?_
      have lB : ∀ i, i ≤ nT sA → ∀ (_u : Unit) (sB : Nat → Int32) (NB : Nat → Int32) (PB : Nat → Int32), (sB = fo i (fun t s' => pays s' t) sA) → G X 0 0 (mW (xT X) o a sB (scr S NB PB)) 38 [(0, .ref o), (1, .int (nI i))] [] := by
        refine g_ind (N := nT sA) (fun i hi_i ih_lB => ?_)
        intro _u sB NB PB e0_lB
        have kB : Kp sA sB := by rw [e0_lB]; exact y2_kp hiA i hi_i
        have hnB := kB.2.2.1; have hiB := kB.1; have hmB := hiB.ntl
        refine g_iload_n h dX5_year_38 rfl ?_
        refine g_aload_n h dX5_year_39 rfl ?_
        refine g_get h in_X5 0 rfl rfl 0 rfl q1374 rfl rfl dX5_year_40 ?_
        refine g_iconst (v := nI 1) h dX5_year_43 (by decide) ?_
        refine g_iald h 1 rfl (by first | assumption | omega) (by decide) dX5_year_44 ?_
        refine g_toN (a := nT sB) (Inv.nt hiB) ?_
        refine g_icmp_geN h 59 dX5_year_45 (by decide) (by first | omega | decide) (by first | omega | decide) (fun c45 => ?_) (fun c45 => ?_)
        · skip
          show G X 0 0 (mW (xT X) o a sB (scr S NB PB)) 59 [(0, .ref o), (1, .int (nI i))] []
          have fB : sB = y2 sA := by rw [e0_lB, show i = nT sA by omega]; rfl
          refine g_iconst (v := nI 0) h dX5_year_59 (by decide) ?_
          refine g_istore_n (lv' := [(0, .ref o), (1, .int (nI 0))]) h dX5_year_60 (by decide) rfl ?_
          have lC : ∀ i, i ≤ nT sB → ∀ (_u : Unit) (sC : Nat → Int32) (NC : Nat → Int32) (PC : Nat → Int32), (sC = fo i (fun t s' => if s' (44 + 4 * t + 3) = 0 then asks s' t else s') sB) → G X 0 0 (mW (xT X) o a sC (scr S NC PC)) 61 [(0, .ref o), (1, .int (nI i))] [] := by
            refine g_ind (N := nT sB) (fun i hi_i ih_lC => ?_)
            intro _u sC NC PC e0_lC
            have kC : Kp sB sC := by rw [e0_lC]; exact y3_kp hiB i hi_i
            have hnC := kC.2.2.1; have hiC := kC.1; have hmC := hiC.ntl
            refine g_iload_n h dX5_year_61 rfl ?_
            refine g_aload_n h dX5_year_62 rfl ?_
            refine g_get h in_X5 0 rfl rfl 0 rfl q1374 rfl rfl dX5_year_63 ?_
            refine g_iconst (v := nI 1) h dX5_year_66 (by decide) ?_
            refine g_iald h 1 rfl (by first | assumption | omega) (by decide) dX5_year_67 ?_
            refine g_toN (a := nT sC) (Inv.nt hiC) ?_
            refine g_icmp_geN h 91 dX5_year_68 (by decide) (by first | omega | decide) (by first | omega | decide) (fun c68 => ?_) (fun c68 => ?_)
            · skip
              show G X 0 0 (mW (xT X) o a sC (scr S NC PC)) 91 [(0, .ref o), (1, .int (nI i))] []
              have fC : sC = y3 sB := by rw [e0_lC, show i = nT sB by omega]; rfl
              refine g_iconst (v := nI 0) h dX5_year_91 (by decide) ?_
              refine g_istore_n (lv' := [(0, .ref o), (1, .int (nI 0))]) h dX5_year_92 (by decide) rfl ?_
              have lD : ∀ i, i ≤ nT sC → ∀ (_u : Unit) (sD : Nat → Int32) (ND : Nat → Int32) (PD : Nat → Int32), (sD = fo i (fun t s' => mends s' t) sC) → G X 0 0 (mW (xT X) o a sD (scr S ND PD)) 93 [(0, .ref o), (1, .int (nI i))] [] := by
                refine g_ind (N := nT sC) (fun i hi_i ih_lD => ?_)
                intro _u sD ND PD e0_lD
                have kD : Kp sC sD := by rw [e0_lD]; exact y4_kp hiC i hi_i
                have hnD := kD.2.2.1; have hiD := kD.1; have hmD := hiD.ntl
                refine g_iload_n h dX5_year_93 rfl ?_
                refine g_aload_n h dX5_year_94 rfl ?_
                refine g_get h in_X5 0 rfl rfl 0 rfl q1374 rfl rfl dX5_year_95 ?_
                refine g_iconst (v := nI 1) h dX5_year_98 (by decide) ?_
                refine g_iald h 1 rfl (by first | assumption | omega) (by decide) dX5_year_99 ?_
                refine g_toN (a := nT sD) (Inv.nt hiD) ?_
                refine g_icmp_geN h 114 dX5_year_100 (by decide) (by first | omega | decide) (by first | omega | decide) (fun c100 => ?_) (fun c100 => ?_)
                · skip
                  show G X 0 0 (mW (xT X) o a sD (scr S ND PD)) 114 [(0, .ref o), (1, .int (nI i))] []
                  have fD : sD = y4 sC := by rw [e0_lD, show i = nT sC by omega]; rfl
                  have kS := shares_kp hiD
                  refine g_aload_n h dX5_year_114 rfl ?_
                  refine g_callVW0 h hE (m5_sharesOut _ _ _ o a sD (scr S ND PD) hiD) 0 rfl rfl (lw_V q1703 q1705 qs77 q95 q1706) gy_X5_sharesOut ⟨Nat.le_of_ble_eq_true rfl, Nat.le_of_ble_eq_true rfl⟩ ⟨Nat.le_of_ble_eq_true rfl, Nat.le_of_ble_eq_true rfl⟩ rfl rfl (Nat.le_of_ble_eq_true rfl) dX5_year_115 (st' := []) rfl (fun _ e115 => ?_)
                  subst e115
                  refine g_aload_n h dX5_year_118 rfl ?_
                  refine g_get h in_X5 0 rfl rfl 0 rfl q1374 rfl rfl dX5_year_119 ?_
                  refine g_iconst (v := nI 3) h dX5_year_122 (by decide) ?_
                  refine g_dup2_11 h dX5_year_123 rfl rfl ?_
                  refine g_iald h 1 rfl (by first | assumption | omega) (by decide) dX5_year_124 ?_
                  refine g_iconst (v := nI 1) h dX5_year_125 (by decide) ?_
                  refine g_toI (y := 1) rfl ?_
                  refine g_iadd h dX5_year_126 ?_
                  refine g_iast (ws' := mW (xT X) o a (upd (shares sD) 3 (((shares sD) 3) + 1)) (scr S ND PD)) h hE.1 1 rfl (by first | assumption | omega) (by decide) dX5_year_127 rfl ?_
                  exact g_vretWv h hE dX5_year_128 (⟨ND, PD, mW_eq (by rw [fD, fC, fB, fA]; rfl) rfl⟩)
                · skip
                  show G X 0 0 (mW (xT X) o a sD (scr S ND PD)) 103 [(0, .ref o), (1, .int (nI i))] []
                  refine g_aload_n h dX5_year_103 rfl ?_
                  refine g_iload_n h dX5_year_104 rfl ?_
                  refine g_callVW0 h hE (m5_mends _ _ _ o a sD (scr S ND PD) i hiD (by first | assumption | omega)) 0 rfl rfl (lw_V q1699 q1701 qs76 q95 q1702) gy_X5_mends ⟨Nat.le_of_ble_eq_true rfl, Nat.le_of_ble_eq_true rfl⟩ ⟨Nat.le_of_ble_eq_true rfl, Nat.le_of_ble_eq_true rfl⟩ rfl rfl (Nat.le_of_ble_eq_true rfl) dX5_year_105 (st' := []) rfl (fun _ e105 => ?_)
                  obtain ⟨N_105, P_105, rfl⟩ := e105
                  rw [scr_scr]
                  refine g_iincN (b := 1) (lv' := [(0, .ref o), (1, .int (nI (i + 1)))]) h dX5_year_108 rfl rfl (by decide) rfl ?_
                  refine g_goto h 93 dX5_year_111 (by decide) ?_
                  exact ih_lD (i + 1) (by omega) (by omega) () (mends sD i) N_105 P_105 (by rw [fo_s, ← e0_lD])
              exact lD (0) (by omega) () sC NC PC rfl
            · skip
              show G X 0 0 (mW (xT X) o a sC (scr S NC PC)) 71 [(0, .ref o), (1, .int (nI i))] []
              refine g_aload_n h dX5_year_71 rfl ?_
              refine g_iload_n h dX5_year_72 rfl ?_
              refine g_iconst (v := nI 3) h dX5_year_73 (by decide) ?_
              refine g_callVR h (m5_its _ _ _ o a sC (scr S NC PC) i 3 (by first | assumption | omega)) (fun _ q => q) 0 rfl rfl (lw_V q1479 q1481 qs42 q95 q1482) gy_X5_its ⟨Nat.le_of_ble_eq_true rfl, Nat.le_of_ble_eq_true rfl⟩ ⟨Nat.le_of_ble_eq_true rfl, Nat.le_of_ble_eq_true rfl⟩ rfl rfl (Nat.le_of_ble_eq_true rfl) dX5_year_74 ?_
              refine g_if_ne h 85 dX5_year_77 (by decide) (fun c77 => ?_) (fun c77 => ?_)
              · skip
                show G X 0 0 (mW (xT X) o a sC (scr S NC PC)) 85 [(0, .ref o), (1, .int (nI i))] []
                refine g_iincN (b := 1) (lv' := [(0, .ref o), (1, .int (nI (i + 1)))]) h dX5_year_85 rfl rfl (by decide) rfl ?_
                refine g_goto h 61 dX5_year_88 (by decide) ?_
                exact ih_lC (i + 1) (by omega) (by omega) () sC NC PC (by rw [fo_s, ← e0_lC]; first | rw [if_pos c77] | rw [if_neg c77])
              · skip
                show G X 0 0 (mW (xT X) o a sC (scr S NC PC)) 80 [(0, .ref o), (1, .int (nI i))] []
                refine g_aload_n h dX5_year_80 rfl ?_
                refine g_iload_n h dX5_year_81 rfl ?_
                refine g_callVW0 h hE (m5_isAsked _ _ _ o a sC (scr S NC PC) i hiC (by first | assumption | omega)) 0 rfl rfl (lw_V q1686 q1688 qs73 q95 q1689) gy_X5_isAsked ⟨Nat.le_of_ble_eq_true rfl, Nat.le_of_ble_eq_true rfl⟩ ⟨Nat.le_of_ble_eq_true rfl, Nat.le_of_ble_eq_true rfl⟩ rfl rfl (Nat.le_of_ble_eq_true rfl) dX5_year_82 (st' := []) rfl (fun _ e82 => ?_)
                subst e82
                refine g_iincN (b := 1) (lv' := [(0, .ref o), (1, .int (nI (i + 1)))]) h dX5_year_85 rfl rfl (by decide) rfl ?_
                refine g_goto h 61 dX5_year_88 (by decide) ?_
                exact ih_lC (i + 1) (by omega) (by omega) () (asks sC i) NC PC (by rw [fo_s, ← e0_lC]; first | rw [if_pos c77] | rw [if_neg c77])
          exact lC (0) (by omega) () sB NB PB rfl
        · skip
          show G X 0 0 (mW (xT X) o a sB (scr S NB PB)) 48 [(0, .ref o), (1, .int (nI i))] []
          refine g_aload_n h dX5_year_48 rfl ?_
          refine g_iload_n h dX5_year_49 rfl ?_
          refine g_callVW0 h hE (m5_pays _ _ _ o a sB (scr S NB PB) i hiB (by first | assumption | omega)) 0 rfl rfl (lw_V q1681 q1683 qs72 q95 q1684) gy_X5_pays ⟨Nat.le_of_ble_eq_true rfl, Nat.le_of_ble_eq_true rfl⟩ ⟨Nat.le_of_ble_eq_true rfl, Nat.le_of_ble_eq_true rfl⟩ rfl rfl (Nat.le_of_ble_eq_true rfl) dX5_year_50 (st' := []) rfl (fun _ e50 => ?_)
          subst e50
          refine g_iincN (b := 1) (lv' := [(0, .ref o), (1, .int (nI (i + 1)))]) h dX5_year_53 rfl rfl (by decide) rfl ?_
          refine g_goto h 38 dX5_year_56 (by decide) ?_
          exact ih_lB (i + 1) (by omega) (by omega) () (pays sB i) NB PB (by rw [fo_s, ← e0_lB])
      exact lB (0) (by omega) () sA NA PA rfl
    · skip
      show G X 0 0 (mW (xT X) o a sA (scr S NA PA)) 12 [(0, .ref o), (1, .int (nI i))] []
      refine g_aload_n h dX5_year_12 rfl ?_
      refine g_get h in_X5 0 rfl rfl 0 rfl q1374 rfl rfl dX5_year_13 ?_
      refine g_bipush (v := nI 44) h dX5_year_16 (by decide) ?_
      refine g_iconst (v := nI 4) h dX5_year_18 (by decide) ?_
      refine g_iload_n h dX5_year_19 rfl ?_
      refine g_imulN h dX5_year_20 ?_
      refine g_iaddN h dX5_year_21 ?_
      refine g_iconst (v := nI 1) h dX5_year_22 (by decide) ?_
      refine g_iaddN h dX5_year_23 ?_
      refine g_aload_n h dX5_year_24 rfl ?_
      refine g_iload_n h dX5_year_25 rfl ?_
      refine g_callVW0 h hE (m5_names _ _ _ o a sA (scr S NA PA) i hiA (by first | assumption | omega)) 0 rfl rfl (lw_V q1614 q1616 qs59 q95 q1617) gy_X5_names ⟨Nat.le_of_ble_eq_true rfl, Nat.le_of_ble_eq_true rfl⟩ ⟨Nat.le_of_ble_eq_true rfl, Nat.le_of_ble_eq_true rfl⟩ rfl rfl (Nat.le_of_ble_eq_true rfl) dX5_year_26 (st' := [.int (nameV sA i), .int (nI (44 + 4 * i + 1)), .ref (a 0)]) rfl (fun _ e26 => ?_)
      obtain ⟨N_26, P_26, rfl⟩ := e26
      rw [scr_scr]
      refine g_iast (ws' := mW (xT X) o a (upd sA (44 + 4 * i + 1) (nameV sA i)) (scr S N_26 P_26)) h hE.1 1 rfl (by first | assumption | omega) (by decide) dX5_year_29 rfl ?_
      refine g_iincN (b := 1) (lv' := [(0, .ref o), (1, .int (nI (i + 1)))]) h dX5_year_30 rfl rfl (by decide) rfl ?_
      refine g_goto h 2 dX5_year_33 (by decide) ?_
      exact ih_lA (i + 1) (by omega) (by omega) () (upd sA (44 + 4 * i + 1) (nameV sA i)) N_26 P_26 (by rw [fo_s, ← e0_lA])
  exact lA (0) (by omega) () s (S 5) (S 6) rfl
set_option maxHeartbeats 4000000 in
set_option maxRecDepth 100000 in
theorem m5_go (l : Launch) (D : va_G) (T : Nat → ClassId) (o : Nat) (a : Nat → Nat) (s : Nat → Int32) (S : Nat → Nat → Int32) (n : Nat) (h0 : Inv s) (h1 : n < 2 ^ 31) : MetW l D T yX5_go cX5_go 3 (none) 10 237 0 0 [.ref o, .int (nI n)] (mW T o a s S) (fun r_ w_ => r_ = none ∧ (∃ (N : Nat → Int32) (P : Nat → Int32), w_ = mW T o a (yearN n s) (scr S N P))) := by
  refine metW (own := RX5) rfl (by decide) rfl (fun X h hl hDx hTx hnm hE => ?_)
  subst hl; subst hDx; subst hTx
  have hnp := h0.npl; have hnt := h0.ntl; have hnq := h0.nql
  show G X 0 0 (mW (xT X) o a s S) 0 [(0, .ref o), (1, .int (nI n))] []
  rw [← scr_self S]
  refine g_iconst (v := nI 0) h dX5_go_0 (by decide) ?_
  refine g_istore_n (lv' := [(0, .ref o), (1, .int (nI n)), (2, .int (nI 0))]) h dX5_go_1 (by decide) rfl ?_
  have lA : ∀ i, i ≤ n → ∀ (_u : Unit) (sA : Nat → Int32) (NA : Nat → Int32) (PA : Nat → Int32), (sA = yearN i s) → G X 0 0 (mW (xT X) o a sA (scr S NA PA)) 2 [(0, .ref o), (1, .int (nI n)), (2, .int (nI i))] [] := by
    refine g_ind (N := n) (fun i hi_i ih_lA => ?_)
    intro _u sA NA PA e0_lA
    have hiA : Inv sA := by rw [e0_lA]; exact (yearN_kp h0 i).1
    refine g_iload_n h dX5_go_2 rfl ?_
    refine g_iload_n h dX5_go_3 rfl ?_
    refine g_icmp_geN h 17 dX5_go_4 (by decide) (by first | omega | decide) (by first | omega | decide) (fun c4 => ?_) (fun c4 => ?_)
    · skip
      show G X 0 0 (mW (xT X) o a sA (scr S NA PA)) 17 [(0, .ref o), (1, .int (nI n)), (2, .int (nI i))] []
      exact g_vretWv h hE dX5_go_17 (⟨NA, PA, mW_eq (by rw [e0_lA, show i = n by omega]) rfl⟩)
    · skip
      show G X 0 0 (mW (xT X) o a sA (scr S NA PA)) 7 [(0, .ref o), (1, .int (nI n)), (2, .int (nI i))] []
      refine g_aload_n h dX5_go_7 rfl ?_
      refine g_callVW0 h hE (m5_year _ _ _ o a sA (scr S NA PA) hiA) 0 rfl rfl (lw_V q1677 q1679 qs71 q95 q1680) gy_X5_year ⟨Nat.le_of_ble_eq_true rfl, Nat.le_of_ble_eq_true rfl⟩ ⟨Nat.le_of_ble_eq_true rfl, Nat.le_of_ble_eq_true rfl⟩ rfl rfl (Nat.le_of_ble_eq_true rfl) dX5_go_8 (st' := []) rfl (fun _ e8 => ?_)
      obtain ⟨N_8, P_8, rfl⟩ := e8
      rw [scr_scr]
      refine g_iincN (b := 1) (lv' := [(0, .ref o), (1, .int (nI n)), (2, .int (nI (i + 1)))]) h dX5_go_11 rfl rfl (by decide) rfl ?_
      refine g_goto h 2 dX5_go_14 (by decide) ?_
      exact ih_lA (i + 1) (by omega) (by omega) () (year sA) N_8 P_8 (by rw [e0_lA]; rfl)
  exact lA (0) (by omega) () s (S 5) (S 6) rfl
set_option maxHeartbeats 4000000 in
set_option maxRecDepth 100000 in
theorem m5_years (l : Launch) (D : va_G) (T : Nat → ClassId) (o : Nat) (a : Nat → Nat) (s : Nat → Int32) (S : Nat → Nat → Int32) (n : Int32) (h0 : Inv s) : MetW l D T yX5_years cX5_years 2 (some .int) 11 259 0 0 [.ref o, .int n] (mW T o a s S) (fun r_ w_ => r_ = some (.int ((o_years s (S 3) n).1)) ∧ (∃ (N : Nat → Int32) (P : Nat → Int32), w_ = mW T o a ((o_years s (S 3) n).2.1) (sU (scr S N P) 3 (o_years s (S 3) n).2.2))) := by
  refine metW (own := RX5) rfl (by decide) rfl (fun X h hl hDx hTx hnm hE => ?_)
  subst hl; subst hDx; subst hTx
  have hnp := h0.npl; have hnt := h0.ntl; have hnq := h0.nql
  show G X 0 0 (mW (xT X) o a s S) 0 [(0, .ref o), (1, .int n)] []
  refine g_iload_n h dX5_years_0 rfl ?_
  refine g_iconst (v := nI 1) h dX5_years_1 (by decide) ?_
  refine g_bipush (v := nI 40) h dX5_years_2 (by decide) ?_
  refine g_callSR h (m5_in _ _ _ n 1 40 ) (fun _ q => nomatch q) (lw_S q1439 q1440 q95 q1441) gy_X5_in ⟨Nat.le_of_ble_eq_true rfl, Nat.le_of_ble_eq_true rfl⟩ ⟨Nat.le_of_ble_eq_true rfl, Nat.le_of_ble_eq_true rfl⟩ rfl rfl (Nat.le_of_ble_eq_true rfl) dX5_years_4 ?_
  refine g_if_neB h 16 dX5_years_7 (by decide) (fun c7 => ?_) (fun c7 => ?_)
  · skip
    show G X 0 0 (mW (xT X) o a s S) 16 [(0, .ref o), (1, .int n)] []
    obtain ⟨nn, hn1, hn8, rfl⟩ := inB1_of (n := 40) (by decide) c7
    have vn : nv (nI nn) = nn := nv_nI (by omega)
    refine g_aload_n h dX5_years_16 rfl ?_
    refine g_get h in_X5 0 rfl rfl 0 rfl q1374 rfl rfl dX5_years_17 ?_
    refine g_iconst (v := nI 3) h dX5_years_20 (by decide) ?_
    refine g_iald h 1 rfl (by first | assumption | omega) (by decide) dX5_years_21 ?_
    refine g_iload_n h dX5_years_22 rfl ?_
    refine g_iadd h dX5_years_23 ?_
    refine g_sipush (v := nI 9999) h dX5_years_24 (by decide) ?_
    refine g_toI (y := 9999) rfl ?_
    refine g_icmp_leC h 36 dX5_years_27 (by decide) (fun c27 => ?_) (fun c27 => ?_)
    · skip
      show G X 0 0 (mW (xT X) o a s S) 36 [(0, .ref o), (1, .int (nI nn))] []
      refine g_aload_n h dX5_years_36 rfl ?_
      refine g_iload_n h dX5_years_37 rfl ?_
      refine g_callVW0 h hE (m5_go _ _ _ o a s S nn h0 (by first | assumption | omega)) 0 rfl rfl (lw_V q1673 q1675 qs70 q95 q1676) gy_X5_go ⟨Nat.le_of_ble_eq_true rfl, Nat.le_of_ble_eq_true rfl⟩ ⟨Nat.le_of_ble_eq_true rfl, Nat.le_of_ble_eq_true rfl⟩ rfl rfl (Nat.le_of_ble_eq_true rfl) dX5_years_38 (st' := []) rfl (fun _ e38 => ?_)
      obtain ⟨N_38, P_38, rfl⟩ := e38
      refine g_aload_n h dX5_years_41 rfl ?_
      refine g_get h in_X5 0 rfl rfl 0 rfl q1374 rfl rfl dX5_years_42 ?_
      refine g_iconst (v := nI 4) h dX5_years_45 (by decide) ?_
      refine g_iald h 1 rfl (by first | assumption | omega) (by decide) dX5_years_46 ?_
      exact g_iretWv h hE dX5_years_47 (by first | (simp [o_years, er, LOW, sU_self, nI_pred, nv_nI, c7, vn, c27]; done) | (simp_all [o_years, er, LOW, sU_self, nI_pred, nv_nI, c7, vn, c27]; done)) (⟨N_38, P_38, mW_eq (by first | (simp [o_years, er, LOW, sU_self, nI_pred, nv_nI, c7, vn, c27]; done) | (simp_all [o_years, er, LOW, sU_self, nI_pred, nv_nI, c7, vn, c27]; done)) (by first | (simp [o_years, er, LOW, sU_self, nI_pred, nv_nI, c7, vn, c27, scr3, scr_self]; done) | (simp_all [o_years, er, LOW, sU_self, nI_pred, nv_nI, c7, vn, c27, scr3, scr_self]; done))⟩)
    · skip
      show G X 0 0 (mW (xT X) o a s S) 30 [(0, .ref o), (1, .int (nI nn))] []
      refine g_aload_n h dX5_years_30 rfl ?_
      refine g_iconst (v := nI 3) h dX5_years_31 (by decide) ?_
      refine g_callVW0 h hE (m5_error _ _ _ o a s S 3 (by first | assumption | omega)) 0 rfl rfl (lw_V q1446 q1448 qs35 q95 q1449) gy_X5_error ⟨Nat.le_of_ble_eq_true rfl, Nat.le_of_ble_eq_true rfl⟩ ⟨Nat.le_of_ble_eq_true rfl, Nat.le_of_ble_eq_true rfl⟩ rfl rfl (Nat.le_of_ble_eq_true rfl) dX5_years_32 (st' := [.int (LOW - nI 3)]) rfl (fun _ e32 => ?_)
      subst e32
      exact g_iretWv h hE dX5_years_35 (by first | (simp [o_years, er, LOW, sU_self, nI_pred, nv_nI, c7, vn, c27]; done) | (simp_all [o_years, er, LOW, sU_self, nI_pred, nv_nI, c7, vn, c27]; done)) (⟨S 5, S 6, mW_eq (by first | (simp [o_years, er, LOW, sU_self, nI_pred, nv_nI, c7, vn, c27]; done) | (simp_all [o_years, er, LOW, sU_self, nI_pred, nv_nI, c7, vn, c27]; done)) (by first | (simp [o_years, er, LOW, sU_self, nI_pred, nv_nI, c7, vn, c27, scr3, scr_self]; done) | (simp_all [o_years, er, LOW, sU_self, nI_pred, nv_nI, c7, vn, c27, scr3, scr_self]; done))⟩)
  · skip
    show G X 0 0 (mW (xT X) o a s S) 10 [(0, .ref o), (1, .int n)] []
    refine g_aload_n h dX5_years_10 rfl ?_
    refine g_iconst (v := nI 1) h dX5_years_11 (by decide) ?_
    refine g_callVW0 h hE (m5_error _ _ _ o a s S 1 (by first | assumption | omega)) 0 rfl rfl (lw_V q1446 q1448 qs35 q95 q1449) gy_X5_error ⟨Nat.le_of_ble_eq_true rfl, Nat.le_of_ble_eq_true rfl⟩ ⟨Nat.le_of_ble_eq_true rfl, Nat.le_of_ble_eq_true rfl⟩ rfl rfl (Nat.le_of_ble_eq_true rfl) dX5_years_12 (st' := [.int (LOW - nI 1)]) rfl (fun _ e12 => ?_)
    subst e12
    exact g_iretWv h hE dX5_years_15 (by first | (simp [o_years, er, LOW, sU_self, nI_pred, nv_nI, c7]; done) | (simp_all [o_years, er, LOW, sU_self, nI_pred, nv_nI, c7]; done)) (⟨S 5, S 6, mW_eq (by first | (simp [o_years, er, LOW, sU_self, nI_pred, nv_nI, c7]; done) | (simp_all [o_years, er, LOW, sU_self, nI_pred, nv_nI, c7]; done)) (by first | (simp [o_years, er, LOW, sU_self, nI_pred, nv_nI, c7, scr3, scr_self]; done) | (simp_all [o_years, er, LOW, sU_self, nI_pred, nv_nI, c7, scr3, scr_self]; done))⟩)
set_option maxHeartbeats 4000000 in
set_option maxRecDepth 100000 in
theorem m5_seed (l : Launch) (D : va_G) (T : Nat → ClassId) (o : Nat) (a : Nat → Nat) (s : Nat → Int32) (S : Nat → Nat → Int32) (v : Int32) (h0 : Inv s) : MetW l D T yX5_seed cX5_seed 3 (some .int) 0 0 0 0 [.ref o, .int v] (mW T o a s S) (fun r_ w_ => r_ = some (.int ((o_seed s (S 3) v).1)) ∧ (w_ = mW T o a ((o_seed s (S 3) v).2.1) (sU S 3 (o_seed s (S 3) v).2.2))) := by
  refine metW (own := RX5) rfl (by decide) rfl (fun X h hl hDx hTx hnm hE => ?_)
  subst hl; subst hDx; subst hTx
  have hnp := h0.npl; have hnt := h0.ntl; have hnq := h0.nql
  show G X 0 0 (mW (xT X) o a s S) 0 [(0, .ref o), (1, .int v)] []
  refine g_aload_n h dX5_seed_0 rfl ?_
  refine g_get h in_X5 0 rfl rfl 0 rfl q1374 rfl rfl dX5_seed_1 ?_
  refine g_bipush (v := nI 8) h dX5_seed_4 (by decide) ?_
  refine g_iald h 1 rfl (by first | assumption | omega) (by decide) dX5_seed_6 ?_
  refine g_istore_n (lv' := [(0, .ref o), (1, .int v), (2, .int (s 8))]) h dX5_seed_7 (by decide) rfl ?_
  refine g_aload_n h dX5_seed_8 rfl ?_
  refine g_get h in_X5 0 rfl rfl 0 rfl q1374 rfl rfl dX5_seed_9 ?_
  refine g_bipush (v := nI 8) h dX5_seed_12 (by decide) ?_
  refine g_iload_n h dX5_seed_14 rfl ?_
  refine g_iast (ws' := mW (xT X) o a (upd s 8 v) S) h hE.1 1 rfl (by first | assumption | omega) (by decide) dX5_seed_15 rfl ?_
  refine g_iload_n h dX5_seed_16 rfl ?_
  exact g_iretWv h hE dX5_seed_17 (by first | (simp [o_seed, er, LOW, sU_self, nI_pred, nv_nI]; done) | (simp_all [o_seed, er, LOW, sU_self, nI_pred, nv_nI]; done)) (mW_eq (by first | (simp [o_seed, er, LOW, sU_self, nI_pred, nv_nI]; done) | (simp_all [o_seed, er, LOW, sU_self, nI_pred, nv_nI]; done)) (by first | (simp [o_seed, er, LOW, sU_self, nI_pred, nv_nI]; done) | (simp_all [o_seed, er, LOW, sU_self, nI_pred, nv_nI]; done)))
