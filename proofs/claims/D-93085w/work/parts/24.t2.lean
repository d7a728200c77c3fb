
theorem gy_X5_person : gY yX5_person RX5 3 := ⟨rfl, by decide +kernel, by decide +kernel, by decide +kernel⟩
theorem gy_X5_pairIts : gY yX5_pairIts RX5 2 := ⟨rfl, by decide +kernel, by decide +kernel, by decide +kernel⟩
theorem gy_X5_hasOne : gY yX5_hasOne RX5 3 := ⟨rfl, by decide +kernel, by decide +kernel, by decide +kernel⟩
theorem gy_X5_lacks : gY yX5_lacks RX5 1 := ⟨rfl, by decide +kernel, by decide +kernel, by decide +kernel⟩
theorem gy_X5_owns : gY yX5_owns RX5 2 := ⟨rfl, by decide +kernel, by decide +kernel, by decide +kernel⟩
set_option maxHeartbeats 4000000 in
set_option maxRecDepth 100000 in
theorem m5_person (l : Launch) (D : va_G) (T : Nat → ClassId) (o : Nat) (a : Nat → Nat) (s : Nat → Int32) (S : Nat → Nat → Int32) (kind : Int32) (purse : Int32) (pq : Int32) (h0 : Inv s) : MetW l D T yX5_person cX5_person 5 (some .int) 1 22 0 0 [.ref o, .int kind, .int purse, .int pq] (mW T o a s S) (fun r_ w_ => r_ = some (.int ((o_person s (S 3) kind purse pq).1)) ∧ (w_ = mW T o a ((o_person s (S 3) kind purse pq).2.1) (sU S 3 (o_person s (S 3) kind purse pq).2.2))) := by
  refine metW (own := RX5) rfl (by decide) rfl (fun X h hl hDx hTx hnm hE => ?_)
  subst hl; subst hDx; subst hTx
  have hnp := h0.npl; have hnt := h0.ntl; have hnq := h0.nql
  show G X 0 0 (mW (xT X) o a s S) 0 [(0, .ref o), (1, .int kind), (2, .int purse), (3, .int pq)] []
  refine g_iload_n h dX5_person_0 rfl ?_
  refine g_iconst (v := nI 0) h dX5_person_1 (by decide) ?_
  refine g_bipush (v := nI 6) h dX5_person_2 (by decide) ?_
  refine g_callSR h (m5_in _ _ _ kind 0 6 ) (fun _ q => nomatch q) (lw_S q1439 q1440 q95 q1441) gy_X5_in ⟨Nat.le_of_ble_eq_true rfl, Nat.le_of_ble_eq_true rfl⟩ ⟨Nat.le_of_ble_eq_true rfl, Nat.le_of_ble_eq_true rfl⟩ rfl rfl (Nat.le_of_ble_eq_true rfl) dX5_person_4 ?_
  refine g_if_eqB h 27 dX5_person_7 (by decide) (fun c7 => ?_) (fun c7 => ?_)
  · skip
    show G X 0 0 (mW (xT X) o a s S) 27 [(0, .ref o), (1, .int kind), (2, .int purse), (3, .int pq)] []
    refine g_aload_n h dX5_person_27 rfl ?_
    refine g_iconst (v := nI 1) h dX5_person_28 (by decide) ?_
    refine g_callVW0 h hE (m5_error _ _ _ o a s S 1 (by first | assumption | omega)) 0 rfl rfl (lw_V q1446 q1448 qs35 q95 q1449) gy_X5_error ⟨Nat.le_of_ble_eq_true rfl, Nat.le_of_ble_eq_true rfl⟩ ⟨Nat.le_of_ble_eq_true rfl, Nat.le_of_ble_eq_true rfl⟩ rfl rfl (Nat.le_of_ble_eq_true rfl) dX5_person_29 (st' := [.int (LOW - nI 1)]) rfl (fun _ e29 => ?_)
    subst e29
    exact g_iretWv h hE dX5_person_32 (by first | (simp [o_person, er, LOW, sU_self, nI_pred, nv_nI, c7]; done) | (simp_all [o_person, er, LOW, sU_self, nI_pred, nv_nI, c7]; done)) (mW_eq (by first | (simp [o_person, er, LOW, sU_self, nI_pred, nv_nI, c7]; done) | (simp_all [o_person, er, LOW, sU_self, nI_pred, nv_nI, c7]; done)) (by first | (simp [o_person, er, LOW, sU_self, nI_pred, nv_nI, c7]; done) | (simp_all [o_person, er, LOW, sU_self, nI_pred, nv_nI, c7]; done)))
  · skip
    show G X 0 0 (mW (xT X) o a s S) 10 [(0, .ref o), (1, .int kind), (2, .int purse), (3, .int pq)] []
    refine g_iload_n h dX5_person_10 rfl ?_
    refine g_iconst (v := nI 0) h dX5_person_11 (by decide) ?_
    refine g_ldc h q1442 dX5_person_12 ?_
    refine g_callSR h (m5_in _ _ _ purse 0 999999 ) (fun _ q => nomatch q) (lw_S q1439 q1440 q95 q1441) gy_X5_in ⟨Nat.le_of_ble_eq_true rfl, Nat.le_of_ble_eq_true rfl⟩ ⟨Nat.le_of_ble_eq_true rfl, Nat.le_of_ble_eq_true rfl⟩ rfl rfl (Nat.le_of_ble_eq_true rfl) dX5_person_14 ?_
    refine g_if_eqB h 27 dX5_person_17 (by decide) (fun c17 => ?_) (fun c17 => ?_)
    · skip
      show G X 0 0 (mW (xT X) o a s S) 27 [(0, .ref o), (1, .int kind), (2, .int purse), (3, .int pq)] []
      refine g_aload_n h dX5_person_27 rfl ?_
      refine g_iconst (v := nI 1) h dX5_person_28 (by decide) ?_
      refine g_callVW0 h hE (m5_error _ _ _ o a s S 1 (by first | assumption | omega)) 0 rfl rfl (lw_V q1446 q1448 qs35 q95 q1449) gy_X5_error ⟨Nat.le_of_ble_eq_true rfl, Nat.le_of_ble_eq_true rfl⟩ ⟨Nat.le_of_ble_eq_true rfl, Nat.le_of_ble_eq_true rfl⟩ rfl rfl (Nat.le_of_ble_eq_true rfl) dX5_person_29 (st' := [.int (LOW - nI 1)]) rfl (fun _ e29 => ?_)
      subst e29
      exact g_iretWv h hE dX5_person_32 (by first | (simp [o_person, er, LOW, sU_self, nI_pred, nv_nI, c7, c17]; done) | (simp_all [o_person, er, LOW, sU_self, nI_pred, nv_nI, c7, c17]; done)) (mW_eq (by first | (simp [o_person, er, LOW, sU_self, nI_pred, nv_nI, c7, c17]; done) | (simp_all [o_person, er, LOW, sU_self, nI_pred, nv_nI, c7, c17]; done)) (by first | (simp [o_person, er, LOW, sU_self, nI_pred, nv_nI, c7, c17]; done) | (simp_all [o_person, er, LOW, sU_self, nI_pred, nv_nI, c7, c17]; done)))
    · skip
      show G X 0 0 (mW (xT X) o a s S) 20 [(0, .ref o), (1, .int kind), (2, .int purse), (3, .int pq)] []
      refine g_iload_n h dX5_person_20 rfl ?_
      refine g_callSR h (m5_isPart _ _ _ pq ) (fun _ q => nomatch q) (lw_S q1443 q1444 q95 q1445) gy_X5_isPart ⟨Nat.le_of_ble_eq_true rfl, Nat.le_of_ble_eq_true rfl⟩ ⟨Nat.le_of_ble_eq_true rfl, Nat.le_of_ble_eq_true rfl⟩ rfl rfl (Nat.le_of_ble_eq_true rfl) dX5_person_21 ?_
      refine g_if_neB h 33 dX5_person_24 (by decide) (fun c24 => ?_) (fun c24 => ?_)
      · skip
        show G X 0 0 (mW (xT X) o a s S) 33 [(0, .ref o), (1, .int kind), (2, .int purse), (3, .int pq)] []
        refine g_aload_n h dX5_person_33 rfl ?_
        refine g_get h in_X5 0 rfl rfl 0 rfl q1374 rfl rfl dX5_person_34 ?_
        refine g_iconst (v := nI 0) h dX5_person_37 (by decide) ?_
        refine g_iald h 1 rfl (by first | assumption | omega) (by decide) dX5_person_38 ?_
        refine g_toN (a := nP s) (Inv.np h0) ?_
        refine g_bipush (v := nI 6) h dX5_person_39 (by decide) ?_
        refine g_icmp_neN h 50 dX5_person_41 (by decide) (by first | omega | decide) (by first | omega | decide) (fun c41 => ?_) (fun c41 => ?_)
        · skip
          show G X 0 0 (mW (xT X) o a s S) 50 [(0, .ref o), (1, .int kind), (2, .int purse), (3, .int pq)] []
          refine g_bipush (v := nI 20) h dX5_person_50 (by decide) ?_
          refine g_iconst (v := nI 4) h dX5_person_52 (by decide) ?_
          refine g_aload_n h dX5_person_53 rfl ?_
          refine g_get h in_X5 0 rfl rfl 0 rfl q1374 rfl rfl dX5_person_54 ?_
          refine g_iconst (v := nI 0) h dX5_person_57 (by decide) ?_
          refine g_iald h 1 rfl (by first | assumption | omega) (by decide) dX5_person_58 ?_
          refine g_toN (a := nP s) (Inv.np h0) ?_
          refine g_imulN h dX5_person_59 ?_
          refine g_iaddN h dX5_person_60 ?_
          refine g_istore (lv' := [(0, .ref o), (1, .int kind), (2, .int purse), (3, .int pq), (4, .int (nI (20 + 4 * (nP s))))]) h dX5_person_61 (by decide) rfl ?_
          refine g_aload_n h dX5_person_63 rfl ?_
          refine g_get h in_X5 0 rfl rfl 0 rfl q1374 rfl rfl dX5_person_64 ?_
          refine g_iload h dX5_person_67 rfl ?_
          refine g_iconst (v := nI 0) h dX5_person_69 (by decide) ?_
          refine g_iaddN h dX5_person_70 ?_
          refine g_toN (a := 20 + 4 * (nP s)) rfl ?_
          refine g_iload_n h dX5_person_71 rfl ?_
          refine g_iast (ws' := mW (xT X) o a (upd s (20 + 4 * (nP s)) kind) S) h hE.1 1 rfl (by first | assumption | omega) (by decide) dX5_person_72 rfl ?_
          refine g_aload_n h dX5_person_73 rfl ?_
          refine g_get h in_X5 0 rfl rfl 0 rfl q1374 rfl rfl dX5_person_74 ?_
          refine g_iload h dX5_person_77 rfl ?_
          refine g_iconst (v := nI 1) h dX5_person_79 (by decide) ?_
          refine g_iaddN h dX5_person_80 ?_
          refine g_iload_n h dX5_person_81 rfl ?_
          refine g_iast (ws' := mW (xT X) o a (upd (upd s (20 + 4 * (nP s)) kind) (20 + 4 * (nP s) + 1) purse) S) h hE.1 1 rfl (by first | assumption | omega) (by decide) dX5_person_82 rfl ?_
          refine g_aload_n h dX5_person_83 rfl ?_
          refine g_get h in_X5 0 rfl rfl 0 rfl q1374 rfl rfl dX5_person_84 ?_
          refine g_iload h dX5_person_87 rfl ?_
          refine g_iconst (v := nI 2) h dX5_person_89 (by decide) ?_
          refine g_iaddN h dX5_person_90 ?_
          refine g_iload_n h dX5_person_91 rfl ?_
          refine g_bipush (v := nI 10) h dX5_person_92 (by decide) ?_
          refine g_toI (y := 10) rfl ?_
          refine g_idiv h dX5_person_94 (by decide) ?_
          refine g_iast (ws' := mW (xT X) o a (upd (upd (upd s (20 + 4 * (nP s)) kind) (20 + 4 * (nP s) + 1) purse) (20 + 4 * (nP s) + 2) (pq / 10)) S) h hE.1 1 rfl (by first | assumption | omega) (by decide) dX5_person_95 rfl ?_
          refine g_aload_n h dX5_person_96 rfl ?_
          refine g_get h in_X5 0 rfl rfl 0 rfl q1374 rfl rfl dX5_person_97 ?_
          refine g_iload h dX5_person_100 rfl ?_
          refine g_iconst (v := nI 3) h dX5_person_102 (by decide) ?_
          refine g_iaddN h dX5_person_103 ?_
          refine g_iload_n h dX5_person_104 rfl ?_
          refine g_bipush (v := nI 10) h dX5_person_105 (by decide) ?_
          refine g_toI (y := 10) rfl ?_
          refine g_irem h dX5_person_107 (by decide) ?_
          refine g_iast (ws' := mW (xT X) o a (upd (upd (upd (upd s (20 + 4 * (nP s)) kind) (20 + 4 * (nP s) + 1) purse) (20 + 4 * (nP s) + 2) (pq / 10)) (20 + 4 * (nP s) + 3) (pq - pq / 10 * 10)) S) h hE.1 1 rfl (by first | assumption | omega) (by decide) dX5_person_108 rfl ?_
          refine g_aload_n h dX5_person_109 rfl ?_
          refine g_get h in_X5 0 rfl rfl 0 rfl q1374 rfl rfl dX5_person_110 ?_
          refine g_iconst (v := nI 0) h dX5_person_113 (by decide) ?_
          refine g_dup2_11 h dX5_person_114 rfl rfl ?_
          refine g_iald h 1 rfl (by first | assumption | omega) (by decide) dX5_person_115 ?_
          refine g_toI (y := s 0) (show (upd (upd (upd (upd s (20 + 4 * (nP s)) kind) (20 + 4 * (nP s) + 1) purse) (20 + 4 * (nP s) + 2) (pq / 10)) (20 + 4 * (nP s) + 3) (pq - pq / 10 * 10)) 0 = _ from ((upd_n (by omega)).trans ((upd_n (by omega)).trans ((upd_n (by omega)).trans (upd_n (by omega)))))) ?_
          refine g_toN (a := nP s) (Inv.np h0) ?_
          refine g_iconst (v := nI 1) h dX5_person_116 (by decide) ?_
          refine g_iaddN h dX5_person_117 ?_
          refine g_iast (ws' := mW (xT X) o a (upd (upd (upd (upd (upd s (20 + 4 * (nP s)) kind) (20 + 4 * (nP s) + 1) purse) (20 + 4 * (nP s) + 2) (pq / 10)) (20 + 4 * (nP s) + 3) (pq - pq / 10 * 10)) 0 (nI (nP s + 1))) S) h hE.1 1 rfl (by first | assumption | omega) (by decide) dX5_person_118 rfl ?_
          refine g_aload_n h dX5_person_119 rfl ?_
          refine g_get h in_X5 0 rfl rfl 0 rfl q1374 rfl rfl dX5_person_120 ?_
          refine g_iconst (v := nI 0) h dX5_person_123 (by decide) ?_
          refine g_iald h 1 rfl (by first | assumption | omega) (by decide) dX5_person_124 ?_
          refine g_toI (y := nI (nP s + 1)) (show (upd (upd (upd (upd (upd s (20 + 4 * (nP s)) kind) (20 + 4 * (nP s) + 1) purse) (20 + 4 * (nP s) + 2) (pq / 10)) (20 + 4 * (nP s) + 3) (pq - pq / 10 * 10)) 0 (nI (nP s + 1))) 0 = _ from (upd_s _ _ _)) ?_
          refine g_iconst (v := nI 1) h dX5_person_125 (by decide) ?_
          refine g_toI (y := 1) rfl ?_
          refine g_isub h dX5_person_126 ?_
          exact g_iretWv h hE dX5_person_127 (by first | (simp [o_person, er, LOW, sU_self, nI_pred, nv_nI, c7, c17, c24, c41]; done) | (simp_all [o_person, er, LOW, sU_self, nI_pred, nv_nI, c7, c17, c24, c41]; done)) (mW_eq (by first | (simp [o_person, er, LOW, sU_self, nI_pred, nv_nI, c7, c17, c24, c41]; done) | (simp_all [o_person, er, LOW, sU_self, nI_pred, nv_nI, c7, c17, c24, c41]; done)) (by first | (simp [o_person, er, LOW, sU_self, nI_pred, nv_nI, c7, c17, c24, c41]; done) | (simp_all [o_person, er, LOW, sU_self, nI_pred, nv_nI, c7, c17, c24, c41]; done)))
        · skip
          show G X 0 0 (mW (xT X) o a s S) 44 [(0, .ref o), (1, .int kind), (2, .int purse), (3, .int pq)] []
          refine g_aload_n h dX5_person_44 rfl ?_
          refine g_iconst (v := nI 4) h dX5_person_45 (by decide) ?_
          refine g_callVW0 h hE (m5_error _ _ _ o a s S 4 (by first | assumption | omega)) 0 rfl rfl (lw_V q1446 q1448 qs35 q95 q1449) gy_X5_error ⟨Nat.le_of_ble_eq_true rfl, Nat.le_of_ble_eq_true rfl⟩ ⟨Nat.le_of_ble_eq_true rfl, Nat.le_of_ble_eq_true rfl⟩ rfl rfl (Nat.le_of_ble_eq_true rfl) dX5_person_46 (st' := [.int (LOW - nI 4)]) rfl (fun _ e46 => ?_)
          subst e46
          exact g_iretWv h hE dX5_person_49 (by first | (simp [o_person, er, LOW, sU_self, nI_pred, nv_nI, c7, c17, c24, c41]; done) | (simp_all [o_person, er, LOW, sU_self, nI_pred, nv_nI, c7, c17, c24, c41]; done)) (mW_eq (by first | (simp [o_person, er, LOW, sU_self, nI_pred, nv_nI, c7, c17, c24, c41]; done) | (simp_all [o_person, er, LOW, sU_self, nI_pred, nv_nI, c7, c17, c24, c41]; done)) (by first | (simp [o_person, er, LOW, sU_self, nI_pred, nv_nI, c7, c17, c24, c41]; done) | (simp_all [o_person, er, LOW, sU_self, nI_pred, nv_nI, c7, c17, c24, c41]; done)))
      · skip
        show G X 0 0 (mW (xT X) o a s S) 27 [(0, .ref o), (1, .int kind), (2, .int purse), (3, .int pq)] []
        refine g_aload_n h dX5_person_27 rfl ?_
        refine g_iconst (v := nI 1) h dX5_person_28 (by decide) ?_
        refine g_callVW0 h hE (m5_error _ _ _ o a s S 1 (by first | assumption | omega)) 0 rfl rfl (lw_V q1446 q1448 qs35 q95 q1449) gy_X5_error ⟨Nat.le_of_ble_eq_true rfl, Nat.le_of_ble_eq_true rfl⟩ ⟨Nat.le_of_ble_eq_true rfl, Nat.le_of_ble_eq_true rfl⟩ rfl rfl (Nat.le_of_ble_eq_true rfl) dX5_person_29 (st' := [.int (LOW - nI 1)]) rfl (fun _ e29 => ?_)
        subst e29
        exact g_iretWv h hE dX5_person_32 (by first | (simp [o_person, er, LOW, sU_self, nI_pred, nv_nI, c7, c17, c24]; done) | (simp_all [o_person, er, LOW, sU_self, nI_pred, nv_nI, c7, c17, c24]; done)) (mW_eq (by first | (simp [o_person, er, LOW, sU_self, nI_pred, nv_nI, c7, c17, c24]; done) | (simp_all [o_person, er, LOW, sU_self, nI_pred, nv_nI, c7, c17, c24]; done)) (by first | (simp [o_person, er, LOW, sU_self, nI_pred, nv_nI, c7, c17, c24]; done) | (simp_all [o_person, er, LOW, sU_self, nI_pred, nv_nI, c7, c17, c24]; done)))
set_option maxHeartbeats 4000000 in
set_option maxRecDepth 100000 in
theorem m5_pairIts (l : Launch) (D : va_G) (T : Nat → ClassId) (o : Nat) (a : Nat → Nat) (s : Nat → Int32) (S : Nat → Nat → Int32) (k : Nat) (w : Nat) (h0 : 92 + 3 * k + w < 516) : MetR l D T yX5_pairIts cX5_pairIts 3 (some .int) 0 0 [.ref o, .int (nI k), .int (nI w)] (mW T o a s S) (fun r_ => r_ = some (.int (s (92 + 3 * k + w)))) := by
  refine metR (own := RX5) rfl (by decide) rfl (fun X h hl hDx hTx hE => ?_)
  subst hl; subst hDx; subst hTx
  show G X 0 0 (mW (xT X) o a s S) 0 [(0, .ref o), (1, .int (nI k)), (2, .int (nI w))] []
  refine g_aload_n h dX5_pairIts_0 rfl ?_
  refine g_get h in_X5 0 rfl rfl 0 rfl q1374 rfl rfl dX5_pairIts_1 ?_
  refine g_bipush (v := nI 92) h dX5_pairIts_4 (by decide) ?_
  refine g_iconst (v := nI 3) h dX5_pairIts_6 (by decide) ?_
  refine g_iload_n h dX5_pairIts_7 rfl ?_
  refine g_imulN h dX5_pairIts_8 ?_
  refine g_iaddN h dX5_pairIts_9 ?_
  refine g_iload_n h dX5_pairIts_10 rfl ?_
  refine g_iaddN h dX5_pairIts_11 ?_
  refine g_iald h 1 rfl (by first | assumption | omega) (by decide) dX5_pairIts_12 ?_
  exact g_iretRv h hE dX5_pairIts_13 rfl
set_option maxHeartbeats 4000000 in
set_option maxRecDepth 100000 in
theorem m5_hasOne (l : Launch) (D : va_G) (T : Nat → ClassId) (o : Nat) (a : Nat → Nat) (s : Nat → Int32) (S : Nat → Nat → Int32) (p : Nat) (k : Nat) (w : Nat) (h0 : Inv s) (h1 : k < nQ s) (h2 : w < 2) : MetR l D T yX5_hasOne cX5_hasOne 4 (some .boolean) 2 43 [.ref o, .int (nI p), .int (nI k), .int (nI w)] (mW T o a s S) (fun r_ => r_ = some (.int (bI (hasOne s p k w)))) := by
  refine metR (own := RX5) rfl (by decide) rfl (fun X h hl hDx hTx hE => ?_)
  subst hl; subst hDx; subst hTx
  have hnp := h0.npl; have hnt := h0.ntl; have hnq := h0.nql
  show G X 0 0 (mW (xT X) o a s S) 0 [(0, .ref o), (1, .int (nI p)), (2, .int (nI k)), (3, .int (nI w))] []
  refine g_aload_n h dX5_hasOne_0 rfl ?_
  refine g_aload_n h dX5_hasOne_1 rfl ?_
  refine g_iload_n h dX5_hasOne_2 rfl ?_
  refine g_iload_n h dX5_hasOne_3 rfl ?_
  refine g_callVR h (m5_pairIts _ _ _ o a s S k w (by first | assumption | omega)) (fun _ q => q) 0 rfl rfl (lw_V q1471 q1473 qs40 q95 q1474) gy_X5_pairIts ⟨Nat.le_of_ble_eq_true rfl, Nat.le_of_ble_eq_true rfl⟩ ⟨Nat.le_of_ble_eq_true rfl, Nat.le_of_ble_eq_true rfl⟩ rfl rfl (Nat.le_of_ble_eq_true rfl) dX5_hasOne_4 ?_
  refine g_toN (a := pa s k w) (h0.paE (w := w) h1 h2) ?_
  refine g_callVR h (m5_owner _ _ _ o a s S (pa s k w) (Nat.lt_of_lt_of_le (h0.palE h1 h2) hnt)) (fun _ q => q) 0 rfl rfl (lw_V q1475 q1477 qs41 q95 q1478) gy_X5_owner ⟨Nat.le_of_ble_eq_true rfl, Nat.le_of_ble_eq_true rfl⟩ ⟨Nat.le_of_ble_eq_true rfl, Nat.le_of_ble_eq_true rfl⟩ rfl rfl (Nat.le_of_ble_eq_true rfl) dX5_hasOne_7 ?_
  refine g_iload_n h dX5_hasOne_10 rfl ?_
  refine g_icmp_ne h 18 dX5_hasOne_11 (by decide) (fun c11 => ?_) (fun c11 => ?_)
  · skip
    show G X 0 0 (mW (xT X) o a s S) 18 [(0, .ref o), (1, .int (nI p)), (2, .int (nI k)), (3, .int (nI w))] []
    refine g_iconst (v := nI 0) h dX5_hasOne_18 (by decide) ?_
    exact g_zretRv h hE dX5_hasOne_19 (by rw [show (hasOne s p k w) = false by first | (simp [hasOne, c11]; done) | (simp_all [hasOne, c11]; done)]; rfl)
  · skip
    show G X 0 0 (mW (xT X) o a s S) 14 [(0, .ref o), (1, .int (nI p)), (2, .int (nI k)), (3, .int (nI w))] []
    refine g_iconst (v := nI 1) h dX5_hasOne_14 (by decide) ?_
    refine g_goto h 19 dX5_hasOne_15 (by decide) ?_
    exact g_zretRv h hE dX5_hasOne_19 (by rw [show (hasOne s p k w) = true by first | (simp [hasOne, c11]; done) | (simp_all [hasOne, c11]; done)]; rfl)
set_option maxHeartbeats 4000000 in
set_option maxRecDepth 100000 in
theorem m5_lacks (l : Launch) (D : va_G) (T : Nat → ClassId) (o : Nat) (a : Nat → Nat) (s : Nat → Int32) (S : Nat → Nat → Int32) (p : Nat) (h0 : Inv s) : MetR l D T yX5_lacks cX5_lacks 4 (some .int) 3 66 [.ref o, .int (nI p)] (mW T o a s S) (fun r_ => r_ = some (.int (lacks s p))) := by
  refine metR (own := RX5) rfl (by decide) rfl (fun X h hl hDx hTx hE => ?_)
  subst hl; subst hDx; subst hTx
  have hnp := h0.npl; have hnt := h0.ntl; have hnq := h0.nql
  show G X 0 0 (mW (xT X) o a s S) 0 [(0, .ref o), (1, .int (nI p))] []
  refine g_iconst (v := nI 0) h dX5_lacks_0 (by decide) ?_
  refine g_istore_n (lv' := [(0, .ref o), (1, .int (nI p)), (2, .int (nI 0))]) h dX5_lacks_1 (by decide) rfl ?_
  refine g_iconst (v := nI 0) h dX5_lacks_2 (by decide) ?_
  refine g_istore_n (lv' := [(0, .ref o), (1, .int (nI p)), (2, .int (nI 0)), (3, .int (nI 0))]) h dX5_lacks_3 (by decide) rfl ?_
  have lp : ∀ i, i ≤ nQ s → ∀ (_u : Unit) (x : Int32), (x = fo i (lacksF s p) 0) → G X 0 0 (mW (xT X) o a s S) 4 [(0, .ref o), (1, .int (nI p)), (2, .int x), (3, .int (nI i))] [] := by
    refine g_ind (N := nQ s) (fun i hi_i ih_lp => ?_)
    intro _u x e0_lp
    refine g_iload_n h dX5_lacks_4 rfl ?_
    refine g_aload_n h dX5_lacks_5 rfl ?_
    refine g_get h in_X5 0 rfl rfl 0 rfl q1374 rfl rfl dX5_lacks_6 ?_
    refine g_iconst (v := nI 2) h dX5_lacks_9 (by decide) ?_
    refine g_iald h 1 rfl (by first | assumption | omega) (by decide) dX5_lacks_10 ?_
    refine g_toN (a := nQ s) (Inv.nq h0) ?_
    refine g_icmp_geN h 47 dX5_lacks_11 (by decide) (by first | omega | decide) (by first | omega | decide) (fun c11 => ?_) (fun c11 => ?_)
    · skip
      show G X 0 0 (mW (xT X) o a s S) 47 [(0, .ref o), (1, .int (nI p)), (2, .int x), (3, .int (nI i))] []
      refine g_iload_n h dX5_lacks_47 rfl ?_
      exact g_iretRv h hE dX5_lacks_48 (by rw [e0_lp, show i = nQ s by omega]; rfl)
    · skip
      show G X 0 0 (mW (xT X) o a s S) 14 [(0, .ref o), (1, .int (nI p)), (2, .int x), (3, .int (nI i))] []
      refine g_iload_n h dX5_lacks_14 rfl ?_
      refine g_aload_n h dX5_lacks_15 rfl ?_
      refine g_iload_n h dX5_lacks_16 rfl ?_
      refine g_iload_n h dX5_lacks_17 rfl ?_
      refine g_iconst (v := nI 0) h dX5_lacks_18 (by decide) ?_
      refine g_callVR h (m5_hasOne _ _ _ o a s S p i 0 h0 (by first | assumption | omega) (by first | assumption | omega)) (fun _ q => q) 0 rfl rfl (lw_V q1467 q1469 qs39 q95 q1470) gy_X5_hasOne ⟨Nat.le_of_ble_eq_true rfl, Nat.le_of_ble_eq_true rfl⟩ ⟨Nat.le_of_ble_eq_true rfl, Nat.le_of_ble_eq_true rfl⟩ rfl rfl (Nat.le_of_ble_eq_true rfl) dX5_lacks_19 ?_
      refine g_aload_n h dX5_lacks_22 rfl ?_
      refine g_iload_n h dX5_lacks_23 rfl ?_
      refine g_iload_n h dX5_lacks_24 rfl ?_
      refine g_iconst (v := nI 1) h dX5_lacks_25 (by decide) ?_
      refine g_callVR h (m5_hasOne _ _ _ o a s S p i 1 h0 (by first | assumption | omega) (by first | assumption | omega)) (fun _ q => q) 0 rfl rfl (lw_V q1467 q1469 qs39 q95 q1470) gy_X5_hasOne ⟨Nat.le_of_ble_eq_true rfl, Nat.le_of_ble_eq_true rfl⟩ ⟨Nat.le_of_ble_eq_true rfl, Nat.le_of_ble_eq_true rfl⟩ rfl rfl (Nat.le_of_ble_eq_true rfl) dX5_lacks_26 ?_
      refine g_icmp_eqB h 38 dX5_lacks_29 (by decide) (fun c29 => ?_) (fun c29 => ?_)
      · skip
        show G X 0 0 (mW (xT X) o a s S) 38 [(0, .ref o), (1, .int (nI p)), (2, .int x), (3, .int (nI i))] [.int x]
        refine g_iconst (v := nI 0) h dX5_lacks_38 (by decide) ?_
        refine g_toI (y := 0) rfl ?_
        refine g_ior h dX5_lacks_39 ?_
        refine g_istore_n (lv' := [(0, .ref o), (1, .int (nI p)), (2, .int (x ||| 0)), (3, .int (nI i))]) h dX5_lacks_40 (by decide) rfl ?_
        refine g_iincN (b := 1) (lv' := [(0, .ref o), (1, .int (nI p)), (2, .int (x ||| 0)), (3, .int (nI (i + 1)))]) h dX5_lacks_41 rfl rfl (by decide) rfl ?_
        refine g_goto h 4 dX5_lacks_44 (by decide) ?_
        exact ih_lp (i + 1) (by omega) (by omega) () (x ||| 0) (by rw [fo_s, ← e0_lp]; simp [lacksF, c11, c29])
      · skip
        show G X 0 0 (mW (xT X) o a s S) 32 [(0, .ref o), (1, .int (nI p)), (2, .int x), (3, .int (nI i))] [.int x]
        refine g_iconst (v := nI 1) h dX5_lacks_32 (by decide) ?_
        refine g_iload_n h dX5_lacks_33 rfl ?_
        refine g_toI2 (y := 1) rfl ?_
        refine g_ishl h dX5_lacks_34 ?_
        refine g_goto h 39 dX5_lacks_35 (by decide) ?_
        refine g_ior h dX5_lacks_39 ?_
        refine g_istore_n (lv' := [(0, .ref o), (1, .int (nI p)), (2, .int (x ||| (1 <<< ((nI i) &&& 31)))), (3, .int (nI i))]) h dX5_lacks_40 (by decide) rfl ?_
        refine g_iincN (b := 1) (lv' := [(0, .ref o), (1, .int (nI p)), (2, .int (x ||| (1 <<< ((nI i) &&& 31)))), (3, .int (nI (i + 1)))]) h dX5_lacks_41 rfl rfl (by decide) rfl ?_
        refine g_goto h 4 dX5_lacks_44 (by decide) ?_
        exact ih_lp (i + 1) (by omega) (by omega) () (x ||| (1 <<< ((nI i) &&& 31))) (by rw [fo_s, ← e0_lp]; simp [lacksF, c11, c29])
  exact lp (0) (by omega) () 0 rfl
set_option maxHeartbeats 4000000 in
set_option maxRecDepth 100000 in
theorem m5_owns (l : Launch) (D : va_G) (T : Nat → ClassId) (o : Nat) (a : Nat → Nat) (s : Nat → Int32) (S : Nat → Nat → Int32) (p : Nat) (w : Int32) (h0 : Inv s) (h1 : p < nP s) : MetR l D T yX5_owns cX5_owns 5 (some .int) 2 44 [.ref o, .int (nI p), .int w] (mW T o a s S) (fun r_ => r_ = some (.int (owns s p w))) := by
  refine metR (own := RX5) rfl (by decide) rfl (fun X h hl hDx hTx hE => ?_)
  subst hl; subst hDx; subst hTx
  have hnp := h0.npl; have hnt := h0.ntl; have hnq := h0.nql
  show G X 0 0 (mW (xT X) o a s S) 0 [(0, .ref o), (1, .int (nI p)), (2, .int w)] []
  refine g_iconst (v := nI 0) h dX5_owns_0 (by decide) ?_
  refine g_istore_n (lv' := [(0, .ref o), (1, .int (nI p)), (2, .int w), (3, .int (nI 0))]) h dX5_owns_1 (by decide) rfl ?_
  refine g_iconst (v := nI 0) h dX5_owns_2 (by decide) ?_
  refine g_istore (lv' := [(0, .ref o), (1, .int (nI p)), (2, .int w), (3, .int (nI 0)), (4, .int (nI 0))]) h dX5_owns_3 (by decide) rfl ?_
  have lp : ∀ i, i ≤ nT s → ∀ (_u : Unit) (x : Int32), (x = fo i (ownsF s p w) 0) → G X 0 0 (mW (xT X) o a s S) 5 [(0, .ref o), (1, .int (nI p)), (2, .int w), (3, .int x), (4, .int (nI i))] [] := by
    refine g_ind (N := nT s) (fun i hi_i ih_lp => ?_)
    intro _u x e0_lp
    refine g_iload h dX5_owns_5 rfl ?_
    refine g_aload_n h dX5_owns_7 rfl ?_
    refine g_get h in_X5 0 rfl rfl 0 rfl q1374 rfl rfl dX5_owns_8 ?_
    refine g_iconst (v := nI 1) h dX5_owns_11 (by decide) ?_
    refine g_iald h 1 rfl (by first | assumption | omega) (by decide) dX5_owns_12 ?_
    refine g_toN (a := nT s) (Inv.nt h0) ?_
    refine g_icmp_geN h 70 dX5_owns_13 (by decide) (by first | omega | decide) (by first | omega | decide) (fun c13 => ?_) (fun c13 => ?_)
    · skip
      show G X 0 0 (mW (xT X) o a s S) 70 [(0, .ref o), (1, .int (nI p)), (2, .int w), (3, .int x), (4, .int (nI i))] []
      refine g_iload_n h dX5_owns_70 rfl ?_
      exact g_iretRv h hE dX5_owns_71 (by rw [e0_lp, show i = nT s by omega]; rfl)
    · skip
      show G X 0 0 (mW (xT X) o a s S) 16 [(0, .ref o), (1, .int (nI p)), (2, .int w), (3, .int x), (4, .int (nI i))] []
      refine g_iload_n h dX5_owns_16 rfl ?_
      refine g_aload_n h dX5_owns_17 rfl ?_
      refine g_iload h dX5_owns_18 rfl ?_
      refine g_callVR h (m5_owner _ _ _ o a s S i (by first | assumption | omega)) (fun _ q => q) 0 rfl rfl (lw_V q1475 q1477 qs41 q95 q1478) gy_X5_owner ⟨Nat.le_of_ble_eq_true rfl, Nat.le_of_ble_eq_true rfl⟩ ⟨Nat.le_of_ble_eq_true rfl, Nat.le_of_ble_eq_true rfl⟩ rfl rfl (Nat.le_of_ble_eq_true rfl) dX5_owns_20 ?_
      refine g_iload_n h dX5_owns_23 rfl ?_
      refine g_icmp_eq h 31 dX5_owns_24 (by decide) (fun c24 => ?_) (fun c24 => ?_)
      · skip
        show G X 0 0 (mW (xT X) o a s S) 31 [(0, .ref o), (1, .int (nI p)), (2, .int w), (3, .int x), (4, .int (nI i))] [.int x]
        refine g_iload_n h dX5_owns_31 rfl ?_
        refine g_iconst (v := nI 3) h dX5_owns_32 (by decide) ?_
        refine g_toI (y := 3) rfl ?_
        refine g_icmp_ne h 40 dX5_owns_33 (by decide) (fun c33 => ?_) (fun c33 => ?_)
        · skip
          show G X 0 0 (mW (xT X) o a s S) 40 [(0, .ref o), (1, .int (nI p)), (2, .int w), (3, .int x), (4, .int (nI i))] [.int x]
          refine g_iload_n h dX5_owns_40 rfl ?_
          refine g_iconst (v := nI 4) h dX5_owns_41 (by decide) ?_
          refine g_toI (y := 4) rfl ?_
          refine g_icmp_ne h 55 dX5_owns_42 (by decide) (fun c42 => ?_) (fun c42 => ?_)
          · skip
            show G X 0 0 (mW (xT X) o a s S) 55 [(0, .ref o), (1, .int (nI p)), (2, .int w), (3, .int x), (4, .int (nI i))] [.int x]
            refine g_aload_n h dX5_owns_55 rfl ?_
            refine g_iload_n h dX5_owns_56 rfl ?_
            refine g_iload h dX5_owns_57 rfl ?_
            refine g_callVR h (m5_valueTo _ _ _ o a s S p i (by first | assumption | omega) (by first | assumption | omega)) (fun _ q => q) 0 rfl rfl (lw_V q1487 q1489 qs44 q95 q1490) gy_X5_valueTo ⟨Nat.le_of_ble_eq_true rfl, Nat.le_of_ble_eq_true rfl⟩ ⟨Nat.le_of_ble_eq_true rfl, Nat.le_of_ble_eq_true rfl⟩ rfl rfl (Nat.le_of_ble_eq_true rfl) dX5_owns_59 ?_
            refine g_iadd h dX5_owns_62 ?_
            refine g_istore_n (lv' := [(0, .ref o), (1, .int (nI p)), (2, .int w), (3, .int (x + (val s p i))), (4, .int (nI i))]) h dX5_owns_63 (by decide) rfl ?_
            refine g_iincN (b := 1) (lv' := [(0, .ref o), (1, .int (nI p)), (2, .int w), (3, .int (x + (val s p i))), (4, .int (nI (i + 1)))]) h dX5_owns_64 rfl rfl (by decide) rfl ?_
            refine g_goto h 5 dX5_owns_67 (by decide) ?_
            exact ih_lp (i + 1) (by omega) (by omega) () (x + (val s p i)) (by rw [fo_s, ← e0_lp]; simp [ownsF, c13, c24, c33, c42])
          · skip
            show G X 0 0 (mW (xT X) o a s S) 45 [(0, .ref o), (1, .int (nI p)), (2, .int w), (3, .int x), (4, .int (nI i))] [.int x]
            refine g_aload_n h dX5_owns_45 rfl ?_
            refine g_iload h dX5_owns_46 rfl ?_
            refine g_iconst (v := nI 3) h dX5_owns_48 (by decide) ?_
            refine g_callVR h (m5_its _ _ _ o a s S i 3 (by first | assumption | omega)) (fun _ q => q) 0 rfl rfl (lw_V q1479 q1481 qs42 q95 q1482) gy_X5_its ⟨Nat.le_of_ble_eq_true rfl, Nat.le_of_ble_eq_true rfl⟩ ⟨Nat.le_of_ble_eq_true rfl, Nat.le_of_ble_eq_true rfl⟩ rfl rfl (Nat.le_of_ble_eq_true rfl) dX5_owns_49 ?_
            refine g_goto h 62 dX5_owns_52 (by decide) ?_
            refine g_iadd h dX5_owns_62 ?_
            refine g_istore_n (lv' := [(0, .ref o), (1, .int (nI p)), (2, .int w), (3, .int (x + (s (44 + 4 * i + 3)))), (4, .int (nI i))]) h dX5_owns_63 (by decide) rfl ?_
            refine g_iincN (b := 1) (lv' := [(0, .ref o), (1, .int (nI p)), (2, .int w), (3, .int (x + (s (44 + 4 * i + 3)))), (4, .int (nI (i + 1)))]) h dX5_owns_64 rfl rfl (by decide) rfl ?_
            refine g_goto h 5 dX5_owns_67 (by decide) ?_
            exact ih_lp (i + 1) (by omega) (by omega) () (x + (s (44 + 4 * i + 3))) (by rw [fo_s, ← e0_lp]; simp [ownsF, c13, c24, c33, c42])
        · skip
          show G X 0 0 (mW (xT X) o a s S) 36 [(0, .ref o), (1, .int (nI p)), (2, .int w), (3, .int x), (4, .int (nI i))] [.int x]
          refine g_iconst (v := nI 1) h dX5_owns_36 (by decide) ?_
          refine g_goto h 62 dX5_owns_37 (by decide) ?_
          refine g_toI (y := 1) rfl ?_
          refine g_iadd h dX5_owns_62 ?_
          refine g_istore_n (lv' := [(0, .ref o), (1, .int (nI p)), (2, .int w), (3, .int (x + 1)), (4, .int (nI i))]) h dX5_owns_63 (by decide) rfl ?_
          refine g_iincN (b := 1) (lv' := [(0, .ref o), (1, .int (nI p)), (2, .int w), (3, .int (x + 1)), (4, .int (nI (i + 1)))]) h dX5_owns_64 rfl rfl (by decide) rfl ?_
          refine g_goto h 5 dX5_owns_67 (by decide) ?_
          exact ih_lp (i + 1) (by omega) (by omega) () (x + 1) (by rw [fo_s, ← e0_lp]; simp [ownsF, c13, c24, c33])
      · skip
        show G X 0 0 (mW (xT X) o a s S) 27 [(0, .ref o), (1, .int (nI p)), (2, .int w), (3, .int x), (4, .int (nI i))] [.int x]
        refine g_iconst (v := nI 0) h dX5_owns_27 (by decide) ?_
        refine g_goto h 62 dX5_owns_28 (by decide) ?_
        refine g_toI (y := 0) rfl ?_
        refine g_iadd h dX5_owns_62 ?_
        refine g_istore_n (lv' := [(0, .ref o), (1, .int (nI p)), (2, .int w), (3, .int (x + 0)), (4, .int (nI i))]) h dX5_owns_63 (by decide) rfl ?_
        refine g_iincN (b := 1) (lv' := [(0, .ref o), (1, .int (nI p)), (2, .int w), (3, .int (x + 0)), (4, .int (nI (i + 1)))]) h dX5_owns_64 rfl rfl (by decide) rfl ?_
        refine g_goto h 5 dX5_owns_67 (by decide) ?_
        exact ih_lp (i + 1) (by omega) (by omega) () (x + 0) (by rw [fo_s, ← e0_lp]; simp [ownsF, c13, c24])
  exact lp (0) (by omega) () 0 rfl
