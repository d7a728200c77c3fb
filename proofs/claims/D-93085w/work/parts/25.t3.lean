
theorem gy_X5_personIs : gY yX5_personIs RX5 2 := ⟨rfl, by decide +kernel, by decide +kernel, by decide +kernel⟩
theorem gy_X5_isUnder : gY yX5_isUnder RX5 2 := ⟨rfl, by decide +kernel, by decide +kernel, by decide +kernel⟩
theorem gy_X5_as : gY yX5_as RX5 2 := ⟨rfl, by decide +kernel, by decide +kernel, by decide +kernel⟩
theorem gy_X5_become : gY yX5_become RX5 2 := ⟨rfl, by decide +kernel, by decide +kernel, by decide +kernel⟩
theorem gy_X5_purse : gY yX5_purse RX5 2 := ⟨rfl, by decide +kernel, by decide +kernel, by decide +kernel⟩
theorem gy_X5_thing : gY yX5_thing RX5 2 := ⟨rfl, by decide +kernel, by decide +kernel, by decide +kernel⟩
theorem gy_X5_fondest : gY yX5_fondest RX5 1 := ⟨rfl, by decide +kernel, by decide +kernel, by decide +kernel⟩
theorem gy_X5_thingIs : gY yX5_thingIs RX5 2 := ⟨rfl, by decide +kernel, by decide +kernel, by decide +kernel⟩
theorem gy_X5_worth : gY yX5_worth RX5 3 := ⟨rfl, by decide +kernel, by decide +kernel, by decide +kernel⟩
theorem gy_X5_price : gY yX5_price RX5 2 := ⟨rfl, by decide +kernel, by decide +kernel, by decide +kernel⟩
theorem gy_X5_keep : gY yX5_keep RX5 2 := ⟨rfl, by decide +kernel, by decide +kernel, by decide +kernel⟩
theorem gy_X5_pair : gY yX5_pair RX5 3 := ⟨rfl, by decide +kernel, by decide +kernel, by decide +kernel⟩
theorem gy_X5_hasBonus : gY yX5_hasBonus RX5 1 := ⟨rfl, by decide +kernel, by decide +kernel, by decide +kernel⟩
theorem gy_X5_pairIs : gY yX5_pairIs RX5 2 := ⟨rfl, by decide +kernel, by decide +kernel, by decide +kernel⟩
theorem gy_X5_mostOf : gY yX5_mostOf RX5 1 := ⟨rfl, by decide +kernel, by decide +kernel, by decide +kernel⟩
theorem gy_X5_rule : gY yX5_rule RX5 2 := ⟨rfl, by decide +kernel, by decide +kernel, by decide +kernel⟩
set_option maxHeartbeats 4000000 in
set_option maxRecDepth 100000 in
theorem m5_personIs (l : Launch) (D : va_G) (T : Nat → ClassId) (o : Nat) (a : Nat → Nat) (s : Nat → Int32) (S : Nat → Nat → Int32) (x : Int32) (w : Int32) (h0 : Inv s) : MetW l D T yX5_personIs cX5_personIs 3 (some .int) 4 89 0 0 [.ref o, .int x, .int w] (mW T o a s S) (fun r_ w_ => r_ = some (.int ((o_personIs s (S 3) x w).1)) ∧ (w_ = mW T o a ((o_personIs s (S 3) x w).2.1) (sU S 3 (o_personIs s (S 3) x w).2.2))) := by
  refine metW (own := RX5) rfl (by decide) rfl (fun X h hl hDx hTx hnm hE => ?_)
  subst hl; subst hDx; subst hTx
  have hnp := h0.npl; have hnt := h0.ntl; have hnq := h0.nql
  show G X 0 0 (mW (xT X) o a s S) 0 [(0, .ref o), (1, .int x), (2, .int w)] []
  refine g_aload_n h dX5_personIs_0 rfl ?_
  refine g_iload_n h dX5_personIs_1 rfl ?_
  refine g_callVR h (m5_isPerson _ _ _ o a s S x ) (fun _ q => q) 0 rfl rfl (lw_V q1455 q1457 qs36 q95 q1458) gy_X5_isPerson ⟨Nat.le_of_ble_eq_true rfl, Nat.le_of_ble_eq_true rfl⟩ ⟨Nat.le_of_ble_eq_true rfl, Nat.le_of_ble_eq_true rfl⟩ rfl rfl (Nat.le_of_ble_eq_true rfl) dX5_personIs_2 ?_
  refine g_if_eqB h 18 dX5_personIs_5 (by decide) (fun c5 => ?_) (fun c5 => ?_)
  · skip
    show G X 0 0 (mW (xT X) o a s S) 18 [(0, .ref o), (1, .int x), (2, .int w)] []
    refine g_aload_n h dX5_personIs_18 rfl ?_
    refine g_iconst (v := nI 1) h dX5_personIs_19 (by decide) ?_
    refine g_callVW0 h hE (m5_error _ _ _ o a s S 1 (by first | assumption | omega)) 0 rfl rfl (lw_V q1446 q1448 qs35 q95 q1449) gy_X5_error ⟨Nat.le_of_ble_eq_true rfl, Nat.le_of_ble_eq_true rfl⟩ ⟨Nat.le_of_ble_eq_true rfl, Nat.le_of_ble_eq_true rfl⟩ rfl rfl (Nat.le_of_ble_eq_true rfl) dX5_personIs_20 (st' := [.int (LOW - nI 1)]) rfl (fun _ e20 => ?_)
    subst e20
    exact g_iretWv h hE dX5_personIs_23 (by first | (simp [o_personIs, personIsV, er, LOW, sU_self, nI_pred, nv_nI, c5]; done) | (simp_all [o_personIs, personIsV, er, LOW, sU_self, nI_pred, nv_nI, c5]; done)) (mW_eq (by first | (simp [o_personIs, personIsV, er, LOW, sU_self, nI_pred, nv_nI, c5]; done) | (simp_all [o_personIs, personIsV, er, LOW, sU_self, nI_pred, nv_nI, c5]; done)) (by first | (simp [o_personIs, personIsV, er, LOW, sU_self, nI_pred, nv_nI, c5]; done) | (simp_all [o_personIs, personIsV, er, LOW, sU_self, nI_pred, nv_nI, c5]; done)))
  · skip
    show G X 0 0 (mW (xT X) o a s S) 8 [(0, .ref o), (1, .int x), (2, .int w)] []
    obtain ⟨xn, hx, rfl⟩ := isP_of h0 c5
    have vx : nv (nI xn) = xn := nv_nI (by omega)
    refine g_iload_n h dX5_personIs_8 rfl ?_
    refine g_iconst (v := nI 0) h dX5_personIs_9 (by decide) ?_
    refine g_bipush (v := nI 6) h dX5_personIs_10 (by decide) ?_
    refine g_callSR h (m5_in _ _ _ w 0 6 ) (fun _ q => nomatch q) (lw_S q1439 q1440 q95 q1441) gy_X5_in ⟨Nat.le_of_ble_eq_true rfl, Nat.le_of_ble_eq_true rfl⟩ ⟨Nat.le_of_ble_eq_true rfl, Nat.le_of_ble_eq_true rfl⟩ rfl rfl (Nat.le_of_ble_eq_true rfl) dX5_personIs_12 ?_
    refine g_if_neB h 24 dX5_personIs_15 (by decide) (fun c15 => ?_) (fun c15 => ?_)
    · skip
      show G X 0 0 (mW (xT X) o a s S) 24 [(0, .ref o), (1, .int (nI xn)), (2, .int w)] []
      refine g_iload_n h dX5_personIs_24 rfl ?_
      rcases g_sw w 0 6 with c25 | ⟨j25, hj25, e25⟩
      · skip
        have d25_0 : ¬ w = 0 := fun z => absurd c25 (by rw [z]; decide)
        have d25_1 : ¬ w = 1 := fun z => absurd c25 (by rw [z]; decide)
        have d25_2 : ¬ w = 2 := fun z => absurd c25 (by rw [z]; decide)
        have d25_3 : ¬ w = 3 := fun z => absurd c25 (by rw [z]; decide)
        have d25_4 : ¬ w = 4 := fun z => absurd c25 (by rw [z]; decide)
        have d25_5 : ¬ w = 5 := fun z => absurd c25 (by rw [z]; decide)
        refine g_tableOut h 101 dX5_personIs_25 (by omega) (by decide) ?_
        show G X 0 0 (mW (xT X) o a s S) 101 [(0, .ref o), (1, .int (nI xn)), (2, .int w)] []
        refine g_aload_n h dX5_personIs_101 rfl ?_
        refine g_iload_n h dX5_personIs_102 rfl ?_
        refine g_iload_n h dX5_personIs_103 rfl ?_
        refine g_callVR h (m5_owns _ _ _ o a s S xn w h0 (by first | assumption | omega)) (fun _ q => q) 0 rfl rfl (lw_V q1483 q1485 qs43 q95 q1486) gy_X5_owns ⟨Nat.le_of_ble_eq_true rfl, Nat.le_of_ble_eq_true rfl⟩ ⟨Nat.le_of_ble_eq_true rfl, Nat.le_of_ble_eq_true rfl⟩ rfl rfl (Nat.le_of_ble_eq_true rfl) dX5_personIs_104 ?_
        exact g_iretWv h hE dX5_personIs_107 (by first | (simp [o_personIs, personIsV, er, LOW, sU_self, nI_pred, nv_nI, c5, vx, c15, d25_0, d25_1, d25_2, d25_3, d25_4, d25_5]; done) | (simp_all [o_personIs, personIsV, er, LOW, sU_self, nI_pred, nv_nI, c5, vx, c15, d25_0, d25_1, d25_2, d25_3, d25_4, d25_5]; done)) (mW_eq (by first | (simp [o_personIs, personIsV, er, LOW, sU_self, nI_pred, nv_nI, c5, vx, c15, d25_0, d25_1, d25_2, d25_3, d25_4, d25_5]; done) | (simp_all [o_personIs, personIsV, er, LOW, sU_self, nI_pred, nv_nI, c5, vx, c15, d25_0, d25_1, d25_2, d25_3, d25_4, d25_5]; done)) (by first | (simp [o_personIs, personIsV, er, LOW, sU_self, nI_pred, nv_nI, c5, vx, c15, d25_0, d25_1, d25_2, d25_3, d25_4, d25_5]; done) | (simp_all [o_personIs, personIsV, er, LOW, sU_self, nI_pred, nv_nI, c5, vx, c15, d25_0, d25_1, d25_2, d25_3, d25_4, d25_5]; done)))
      · skip
        rcases (show j25 = 0 ∨ j25 = 1 ∨ j25 = 2 ∨ j25 = 3 ∨ j25 = 4 ∨ j25 = 5 by omega) with rfl | rfl | rfl | rfl | rfl | rfl
        · skip
          have e25 : w = 0 := i32_of e25 (by decide)
          subst e25
          refine g_tableIn h 64 dX5_personIs_25 0 (by decide) (by decide) (by decide) rfl (by decide) ?_
          show G X 0 0 (mW (xT X) o a s S) 64 [(0, .ref o), (1, .int (nI xn)), (2, .int 0)] []
          refine g_aload_n h dX5_personIs_64 rfl ?_
          refine g_iload_n h dX5_personIs_65 rfl ?_
          refine g_iconst (v := nI 0) h dX5_personIs_66 (by decide) ?_
          refine g_callVR h (m5_who _ _ _ o a s S xn 0 (by first | assumption | omega)) (fun _ q => q) 0 rfl rfl (lw_V q1459 q1461 qs37 q95 q1462) gy_X5_who ⟨Nat.le_of_ble_eq_true rfl, Nat.le_of_ble_eq_true rfl⟩ ⟨Nat.le_of_ble_eq_true rfl, Nat.le_of_ble_eq_true rfl⟩ rfl rfl (Nat.le_of_ble_eq_true rfl) dX5_personIs_67 ?_
          show G X 0 0 (mW (xT X) o a s S) 70 [(0, .ref o), (1, .int (nI xn)), (2, .int 0)] [.int (s (20 + 4 * xn))]
          exact g_iretWv h hE dX5_personIs_70 (by first | (simp [o_personIs, personIsV, er, LOW, sU_self, nI_pred, nv_nI, c5, vx, c15]; done) | (simp_all [o_personIs, personIsV, er, LOW, sU_self, nI_pred, nv_nI, c5, vx, c15]; done)) (mW_eq (by first | (simp [o_personIs, personIsV, er, LOW, sU_self, nI_pred, nv_nI, c5, vx, c15]; done) | (simp_all [o_personIs, personIsV, er, LOW, sU_self, nI_pred, nv_nI, c5, vx, c15]; done)) (by first | (simp [o_personIs, personIsV, er, LOW, sU_self, nI_pred, nv_nI, c5, vx, c15]; done) | (simp_all [o_personIs, personIsV, er, LOW, sU_self, nI_pred, nv_nI, c5, vx, c15]; done)))
        · skip
          have e25 : w = 1 := i32_of e25 (by decide)
          subst e25
          refine g_tableIn h 71 dX5_personIs_25 1 (by decide) (by decide) (by decide) rfl (by decide) ?_
          show G X 0 0 (mW (xT X) o a s S) 71 [(0, .ref o), (1, .int (nI xn)), (2, .int 1)] []
          refine g_aload_n h dX5_personIs_71 rfl ?_
          refine g_iload_n h dX5_personIs_72 rfl ?_
          refine g_iconst (v := nI 1) h dX5_personIs_73 (by decide) ?_
          refine g_callVR h (m5_who _ _ _ o a s S xn 1 (by first | assumption | omega)) (fun _ q => q) 0 rfl rfl (lw_V q1459 q1461 qs37 q95 q1462) gy_X5_who ⟨Nat.le_of_ble_eq_true rfl, Nat.le_of_ble_eq_true rfl⟩ ⟨Nat.le_of_ble_eq_true rfl, Nat.le_of_ble_eq_true rfl⟩ rfl rfl (Nat.le_of_ble_eq_true rfl) dX5_personIs_74 ?_
          exact g_iretWv h hE dX5_personIs_77 (by first | (simp [o_personIs, personIsV, er, LOW, sU_self, nI_pred, nv_nI, c5, vx, c15]; done) | (simp_all [o_personIs, personIsV, er, LOW, sU_self, nI_pred, nv_nI, c5, vx, c15]; done)) (mW_eq (by first | (simp [o_personIs, personIsV, er, LOW, sU_self, nI_pred, nv_nI, c5, vx, c15]; done) | (simp_all [o_personIs, personIsV, er, LOW, sU_self, nI_pred, nv_nI, c5, vx, c15]; done)) (by first | (simp [o_personIs, personIsV, er, LOW, sU_self, nI_pred, nv_nI, c5, vx, c15]; done) | (simp_all [o_personIs, personIsV, er, LOW, sU_self, nI_pred, nv_nI, c5, vx, c15]; done)))
        · skip
          have e25 : w = 2 := i32_of e25 (by decide)
          subst e25
          refine g_tableIn h 78 dX5_personIs_25 2 (by decide) (by decide) (by decide) rfl (by decide) ?_
          show G X 0 0 (mW (xT X) o a s S) 78 [(0, .ref o), (1, .int (nI xn)), (2, .int 2)] []
          refine g_bipush (v := nI 10) h dX5_personIs_78 (by decide) ?_
          refine g_aload_n h dX5_personIs_80 rfl ?_
          refine g_iload_n h dX5_personIs_81 rfl ?_
          refine g_iconst (v := nI 2) h dX5_personIs_82 (by decide) ?_
          refine g_callVR h (m5_who _ _ _ o a s S xn 2 (by first | assumption | omega)) (fun _ q => q) 0 rfl rfl (lw_V q1459 q1461 qs37 q95 q1462) gy_X5_who ⟨Nat.le_of_ble_eq_true rfl, Nat.le_of_ble_eq_true rfl⟩ ⟨Nat.le_of_ble_eq_true rfl, Nat.le_of_ble_eq_true rfl⟩ rfl rfl (Nat.le_of_ble_eq_true rfl) dX5_personIs_83 ?_
          refine g_toI2 (y := 10) rfl ?_
          refine g_imul h dX5_personIs_86 ?_
          refine g_aload_n h dX5_personIs_87 rfl ?_
          refine g_iload_n h dX5_personIs_88 rfl ?_
          refine g_iconst (v := nI 3) h dX5_personIs_89 (by decide) ?_
          refine g_callVR h (m5_who _ _ _ o a s S xn 3 (by first | assumption | omega)) (fun _ q => q) 0 rfl rfl (lw_V q1459 q1461 qs37 q95 q1462) gy_X5_who ⟨Nat.le_of_ble_eq_true rfl, Nat.le_of_ble_eq_true rfl⟩ ⟨Nat.le_of_ble_eq_true rfl, Nat.le_of_ble_eq_true rfl⟩ rfl rfl (Nat.le_of_ble_eq_true rfl) dX5_personIs_90 ?_
          refine g_iadd h dX5_personIs_93 ?_
          exact g_iretWv h hE dX5_personIs_94 (by first | (simp [o_personIs, personIsV, er, LOW, sU_self, nI_pred, nv_nI, c5, vx, c15]; done) | (simp_all [o_personIs, personIsV, er, LOW, sU_self, nI_pred, nv_nI, c5, vx, c15]; done)) (mW_eq (by first | (simp [o_personIs, personIsV, er, LOW, sU_self, nI_pred, nv_nI, c5, vx, c15]; done) | (simp_all [o_personIs, personIsV, er, LOW, sU_self, nI_pred, nv_nI, c5, vx, c15]; done)) (by first | (simp [o_personIs, personIsV, er, LOW, sU_self, nI_pred, nv_nI, c5, vx, c15]; done) | (simp_all [o_personIs, personIsV, er, LOW, sU_self, nI_pred, nv_nI, c5, vx, c15]; done)))
        · skip
          have e25 : w = 3 := i32_of e25 (by decide)
          subst e25
          refine g_tableIn h 101 dX5_personIs_25 3 (by decide) (by decide) (by decide) rfl (by decide) ?_
          show G X 0 0 (mW (xT X) o a s S) 101 [(0, .ref o), (1, .int (nI xn)), (2, .int 3)] []
          refine g_aload_n h dX5_personIs_101 rfl ?_
          refine g_iload_n h dX5_personIs_102 rfl ?_
          refine g_iload_n h dX5_personIs_103 rfl ?_
          refine g_callVR h (m5_owns _ _ _ o a s S xn 3 h0 (by first | assumption | omega)) (fun _ q => q) 0 rfl rfl (lw_V q1483 q1485 qs43 q95 q1486) gy_X5_owns ⟨Nat.le_of_ble_eq_true rfl, Nat.le_of_ble_eq_true rfl⟩ ⟨Nat.le_of_ble_eq_true rfl, Nat.le_of_ble_eq_true rfl⟩ rfl rfl (Nat.le_of_ble_eq_true rfl) dX5_personIs_104 ?_
          exact g_iretWv h hE dX5_personIs_107 (by first | (simp [o_personIs, personIsV, er, LOW, sU_self, nI_pred, nv_nI, c5, vx, c15]; done) | (simp_all [o_personIs, personIsV, er, LOW, sU_self, nI_pred, nv_nI, c5, vx, c15]; done)) (mW_eq (by first | (simp [o_personIs, personIsV, er, LOW, sU_self, nI_pred, nv_nI, c5, vx, c15]; done) | (simp_all [o_personIs, personIsV, er, LOW, sU_self, nI_pred, nv_nI, c5, vx, c15]; done)) (by first | (simp [o_personIs, personIsV, er, LOW, sU_self, nI_pred, nv_nI, c5, vx, c15]; done) | (simp_all [o_personIs, personIsV, er, LOW, sU_self, nI_pred, nv_nI, c5, vx, c15]; done)))
        · skip
          have e25 : w = 4 := i32_of e25 (by decide)
          subst e25
          refine g_tableIn h 101 dX5_personIs_25 4 (by decide) (by decide) (by decide) rfl (by decide) ?_
          show G X 0 0 (mW (xT X) o a s S) 101 [(0, .ref o), (1, .int (nI xn)), (2, .int 4)] []
          refine g_aload_n h dX5_personIs_101 rfl ?_
          refine g_iload_n h dX5_personIs_102 rfl ?_
          refine g_iload_n h dX5_personIs_103 rfl ?_
          refine g_callVR h (m5_owns _ _ _ o a s S xn 4 h0 (by first | assumption | omega)) (fun _ q => q) 0 rfl rfl (lw_V q1483 q1485 qs43 q95 q1486) gy_X5_owns ⟨Nat.le_of_ble_eq_true rfl, Nat.le_of_ble_eq_true rfl⟩ ⟨Nat.le_of_ble_eq_true rfl, Nat.le_of_ble_eq_true rfl⟩ rfl rfl (Nat.le_of_ble_eq_true rfl) dX5_personIs_104 ?_
          exact g_iretWv h hE dX5_personIs_107 (by first | (simp [o_personIs, personIsV, er, LOW, sU_self, nI_pred, nv_nI, c5, vx, c15]; done) | (simp_all [o_personIs, personIsV, er, LOW, sU_self, nI_pred, nv_nI, c5, vx, c15]; done)) (mW_eq (by first | (simp [o_personIs, personIsV, er, LOW, sU_self, nI_pred, nv_nI, c5, vx, c15]; done) | (simp_all [o_personIs, personIsV, er, LOW, sU_self, nI_pred, nv_nI, c5, vx, c15]; done)) (by first | (simp [o_personIs, personIsV, er, LOW, sU_self, nI_pred, nv_nI, c5, vx, c15]; done) | (simp_all [o_personIs, personIsV, er, LOW, sU_self, nI_pred, nv_nI, c5, vx, c15]; done)))
        · skip
          have e25 : w = 5 := i32_of e25 (by decide)
          subst e25
          refine g_tableIn h 95 dX5_personIs_25 5 (by decide) (by decide) (by decide) rfl (by decide) ?_
          show G X 0 0 (mW (xT X) o a s S) 95 [(0, .ref o), (1, .int (nI xn)), (2, .int 5)] []
          refine g_aload_n h dX5_personIs_95 rfl ?_
          refine g_iload_n h dX5_personIs_96 rfl ?_
          refine g_callVR h (m5_lacks _ _ _ o a s S xn h0) (fun _ q => q) 0 rfl rfl (lw_V q1463 q1465 qs38 q95 q1466) gy_X5_lacks ⟨Nat.le_of_ble_eq_true rfl, Nat.le_of_ble_eq_true rfl⟩ ⟨Nat.le_of_ble_eq_true rfl, Nat.le_of_ble_eq_true rfl⟩ rfl rfl (Nat.le_of_ble_eq_true rfl) dX5_personIs_97 ?_
          exact g_iretWv h hE dX5_personIs_100 (by first | (simp [o_personIs, personIsV, er, LOW, sU_self, nI_pred, nv_nI, c5, vx, c15]; done) | (simp_all [o_personIs, personIsV, er, LOW, sU_self, nI_pred, nv_nI, c5, vx, c15]; done)) (mW_eq (by first | (simp [o_personIs, personIsV, er, LOW, sU_self, nI_pred, nv_nI, c5, vx, c15]; done) | (simp_all [o_personIs, personIsV, er, LOW, sU_self, nI_pred, nv_nI, c5, vx, c15]; done)) (by first | (simp [o_personIs, personIsV, er, LOW, sU_self, nI_pred, nv_nI, c5, vx, c15]; done) | (simp_all [o_personIs, personIsV, er, LOW, sU_self, nI_pred, nv_nI, c5, vx, c15]; done)))
    · skip
      show G X 0 0 (mW (xT X) o a s S) 18 [(0, .ref o), (1, .int (nI xn)), (2, .int w)] []
      refine g_aload_n h dX5_personIs_18 rfl ?_
      refine g_iconst (v := nI 1) h dX5_personIs_19 (by decide) ?_
      refine g_callVW0 h hE (m5_error _ _ _ o a s S 1 (by first | assumption | omega)) 0 rfl rfl (lw_V q1446 q1448 qs35 q95 q1449) gy_X5_error ⟨Nat.le_of_ble_eq_true rfl, Nat.le_of_ble_eq_true rfl⟩ ⟨Nat.le_of_ble_eq_true rfl, Nat.le_of_ble_eq_true rfl⟩ rfl rfl (Nat.le_of_ble_eq_true rfl) dX5_personIs_20 (st' := [.int (LOW - nI 1)]) rfl (fun _ e20 => ?_)
      subst e20
      exact g_iretWv h hE dX5_personIs_23 (by first | (simp [o_personIs, personIsV, er, LOW, sU_self, nI_pred, nv_nI, c5, vx, c15]; done) | (simp_all [o_personIs, personIsV, er, LOW, sU_self, nI_pred, nv_nI, c5, vx, c15]; done)) (mW_eq (by first | (simp [o_personIs, personIsV, er, LOW, sU_self, nI_pred, nv_nI, c5, vx, c15]; done) | (simp_all [o_personIs, personIsV, er, LOW, sU_self, nI_pred, nv_nI, c5, vx, c15]; done)) (by first | (simp [o_personIs, personIsV, er, LOW, sU_self, nI_pred, nv_nI, c5, vx, c15]; done) | (simp_all [o_personIs, personIsV, er, LOW, sU_self, nI_pred, nv_nI, c5, vx, c15]; done)))
set_option maxHeartbeats 4000000 in
set_option maxRecDepth 100000 in
theorem m5_isUnder (l : Launch) (D : va_G) (T : Nat → ClassId) (own : Int32) (kind : Int32) : MetR l D T yX5_isUnder cX5_isUnder 2 (some .boolean) 0 0 [.int own, .int kind] (([] : va_W)) (fun r_ => r_ = some (.int (bI (isUn own kind)))) := by
  refine metR (own := RX5) rfl (by decide) rfl (fun X h hl hDx hTx hE => ?_)
  subst hl; subst hDx; subst hTx
  show G X 0 0 (([] : va_W)) 0 [(0, .int own), (1, .int kind)] []
  refine g_iload_n h dX5_isUnder_0 rfl ?_
  refine g_if_eq h 30 dX5_isUnder_1 (by decide) (fun c1 => ?_) (fun c1 => ?_)
  · skip
    show G X 0 0 (([] : va_W)) 30 [(0, .int own), (1, .int kind)] []
    refine g_iconst (v := nI 1) h dX5_isUnder_30 (by decide) ?_
    refine g_goto h 35 dX5_isUnder_31 (by decide) ?_
    exact g_zretRv h hE dX5_isUnder_35 (by rw [show (isUn own kind) = true by first | (simp [isUn, c1]; done) | (simp_all [isUn, c1]; done)]; rfl)
  · skip
    show G X 0 0 (([] : va_W)) 4 [(0, .int own), (1, .int kind)] []
    refine g_iload_n h dX5_isUnder_4 rfl ?_
    refine g_iload_n h dX5_isUnder_5 rfl ?_
    refine g_icmp_eq h 30 dX5_isUnder_6 (by decide) (fun c6 => ?_) (fun c6 => ?_)
    · skip
      show G X 0 0 (([] : va_W)) 30 [(0, .int own), (1, .int kind)] []
      refine g_iconst (v := nI 1) h dX5_isUnder_30 (by decide) ?_
      refine g_goto h 35 dX5_isUnder_31 (by decide) ?_
      exact g_zretRv h hE dX5_isUnder_35 (by rw [show (isUn own kind) = true by first | (simp [isUn, c1, c6]; done) | (simp_all [isUn, c1, c6]; done)]; rfl)
    · skip
      show G X 0 0 (([] : va_W)) 9 [(0, .int own), (1, .int kind)] []
      refine g_iload_n h dX5_isUnder_9 rfl ?_
      refine g_iconst (v := nI 1) h dX5_isUnder_10 (by decide) ?_
      refine g_toI (y := 1) rfl ?_
      refine g_icmp_ne h 34 dX5_isUnder_11 (by decide) (fun c11 => ?_) (fun c11 => ?_)
      · skip
        show G X 0 0 (([] : va_W)) 34 [(0, .int own), (1, .int kind)] []
        refine g_iconst (v := nI 0) h dX5_isUnder_34 (by decide) ?_
        exact g_zretRv h hE dX5_isUnder_35 (by rw [show (isUn own kind) = false by first | (simp [isUn, c1, c6, c11]; done) | (simp_all [isUn, c1, c6, c11]; done)]; rfl)
      · skip
        show G X 0 0 (([] : va_W)) 14 [(0, .int own), (1, .int kind)] []
        refine g_iload_n h dX5_isUnder_14 rfl ?_
        refine g_iconst (v := nI 2) h dX5_isUnder_15 (by decide) ?_
        refine g_toI (y := 2) rfl ?_
        refine g_icmp_eq h 30 dX5_isUnder_16 (by decide) (fun c16 => ?_) (fun c16 => ?_)
        · skip
          show G X 0 0 (([] : va_W)) 30 [(0, .int own), (1, .int kind)] []
          refine g_iconst (v := nI 1) h dX5_isUnder_30 (by decide) ?_
          refine g_goto h 35 dX5_isUnder_31 (by decide) ?_
          exact g_zretRv h hE dX5_isUnder_35 (by rw [show (isUn own kind) = true by first | (simp [isUn, c1, c6, c11, c16]; done) | (simp_all [isUn, c1, c6, c11, c16]; done)]; rfl)
        · skip
          show G X 0 0 (([] : va_W)) 19 [(0, .int own), (1, .int kind)] []
          refine g_iload_n h dX5_isUnder_19 rfl ?_
          refine g_iconst (v := nI 3) h dX5_isUnder_20 (by decide) ?_
          refine g_toI (y := 3) rfl ?_
          refine g_icmp_eq h 30 dX5_isUnder_21 (by decide) (fun c21 => ?_) (fun c21 => ?_)
          · skip
            show G X 0 0 (([] : va_W)) 30 [(0, .int own), (1, .int kind)] []
            refine g_iconst (v := nI 1) h dX5_isUnder_30 (by decide) ?_
            refine g_goto h 35 dX5_isUnder_31 (by decide) ?_
            exact g_zretRv h hE dX5_isUnder_35 (by rw [show (isUn own kind) = true by first | (simp [isUn, c1, c6, c11, c16, c21]; done) | (simp_all [isUn, c1, c6, c11, c16, c21]; done)]; rfl)
          · skip
            show G X 0 0 (([] : va_W)) 24 [(0, .int own), (1, .int kind)] []
            refine g_iload_n h dX5_isUnder_24 rfl ?_
            refine g_bipush (v := nI 6) h dX5_isUnder_25 (by decide) ?_
            refine g_toI (y := 6) rfl ?_
            refine g_icmp_ne h 34 dX5_isUnder_27 (by decide) (fun c27 => ?_) (fun c27 => ?_)
            · skip
              show G X 0 0 (([] : va_W)) 34 [(0, .int own), (1, .int kind)] []
              refine g_iconst (v := nI 0) h dX5_isUnder_34 (by decide) ?_
              exact g_zretRv h hE dX5_isUnder_35 (by rw [show (isUn own kind) = false by first | (simp [isUn, c1, c6, c11, c16, c21, c27]; done) | (simp_all [isUn, c1, c6, c11, c16, c21, c27]; done)]; rfl)
            · skip
              show G X 0 0 (([] : va_W)) 30 [(0, .int own), (1, .int kind)] []
              refine g_iconst (v := nI 1) h dX5_isUnder_30 (by decide) ?_
              refine g_goto h 35 dX5_isUnder_31 (by decide) ?_
              exact g_zretRv h hE dX5_isUnder_35 (by rw [show (isUn own kind) = true by first | (simp [isUn, c1, c6, c11, c16, c21, c27]; done) | (simp_all [isUn, c1, c6, c11, c16, c21, c27]; done)]; rfl)
set_option maxHeartbeats 4000000 in
set_option maxRecDepth 100000 in
theorem m5_as (l : Launch) (D : va_G) (T : Nat → ClassId) (o : Nat) (a : Nat → Nat) (s : Nat → Int32) (S : Nat → Nat → Int32) (x : Int32) (kind : Int32) (h0 : Inv s) : MetW l D T yX5_as cX5_as 3 (some .int) 2 43 0 0 [.ref o, .int x, .int kind] (mW T o a s S) (fun r_ w_ => r_ = some (.int ((o_as s (S 3) x kind).1)) ∧ (w_ = mW T o a ((o_as s (S 3) x kind).2.1) (sU S 3 (o_as s (S 3) x kind).2.2))) := by
  refine metW (own := RX5) rfl (by decide) rfl (fun X h hl hDx hTx hnm hE => ?_)
  subst hl; subst hDx; subst hTx
  have hnp := h0.npl; have hnt := h0.ntl; have hnq := h0.nql
  show G X 0 0 (mW (xT X) o a s S) 0 [(0, .ref o), (1, .int x), (2, .int kind)] []
  refine g_aload_n h dX5_as_0 rfl ?_
  refine g_iload_n h dX5_as_1 rfl ?_
  refine g_callVR h (m5_isPerson _ _ _ o a s S x ) (fun _ q => q) 0 rfl rfl (lw_V q1455 q1457 qs36 q95 q1458) gy_X5_isPerson ⟨Nat.le_of_ble_eq_true rfl, Nat.le_of_ble_eq_true rfl⟩ ⟨Nat.le_of_ble_eq_true rfl, Nat.le_of_ble_eq_true rfl⟩ rfl rfl (Nat.le_of_ble_eq_true rfl) dX5_as_2 ?_
  refine g_if_eqB h 18 dX5_as_5 (by decide) (fun c5 => ?_) (fun c5 => ?_)
  · skip
    show G X 0 0 (mW (xT X) o a s S) 18 [(0, .ref o), (1, .int x), (2, .int kind)] []
    refine g_aload_n h dX5_as_18 rfl ?_
    refine g_iconst (v := nI 1) h dX5_as_19 (by decide) ?_
    refine g_callVW0 h hE (m5_error _ _ _ o a s S 1 (by first | assumption | omega)) 0 rfl rfl (lw_V q1446 q1448 qs35 q95 q1449) gy_X5_error ⟨Nat.le_of_ble_eq_true rfl, Nat.le_of_ble_eq_true rfl⟩ ⟨Nat.le_of_ble_eq_true rfl, Nat.le_of_ble_eq_true rfl⟩ rfl rfl (Nat.le_of_ble_eq_true rfl) dX5_as_20 (st' := [.int (LOW - nI 1)]) rfl (fun _ e20 => ?_)
    subst e20
    exact g_iretWv h hE dX5_as_23 (by first | (simp [o_as, er, LOW, sU_self, nI_pred, nv_nI, c5]; done) | (simp_all [o_as, er, LOW, sU_self, nI_pred, nv_nI, c5]; done)) (mW_eq (by first | (simp [o_as, er, LOW, sU_self, nI_pred, nv_nI, c5]; done) | (simp_all [o_as, er, LOW, sU_self, nI_pred, nv_nI, c5]; done)) (by first | (simp [o_as, er, LOW, sU_self, nI_pred, nv_nI, c5]; done) | (simp_all [o_as, er, LOW, sU_self, nI_pred, nv_nI, c5]; done)))
  · skip
    show G X 0 0 (mW (xT X) o a s S) 8 [(0, .ref o), (1, .int x), (2, .int kind)] []
    obtain ⟨xn, hx, rfl⟩ := isP_of h0 c5
    have vx : nv (nI xn) = xn := nv_nI (by omega)
    refine g_iload_n h dX5_as_8 rfl ?_
    refine g_iconst (v := nI 0) h dX5_as_9 (by decide) ?_
    refine g_bipush (v := nI 6) h dX5_as_10 (by decide) ?_
    refine g_callSR h (m5_in _ _ _ kind 0 6 ) (fun _ q => nomatch q) (lw_S q1439 q1440 q95 q1441) gy_X5_in ⟨Nat.le_of_ble_eq_true rfl, Nat.le_of_ble_eq_true rfl⟩ ⟨Nat.le_of_ble_eq_true rfl, Nat.le_of_ble_eq_true rfl⟩ rfl rfl (Nat.le_of_ble_eq_true rfl) dX5_as_12 ?_
    refine g_if_neB h 24 dX5_as_15 (by decide) (fun c15 => ?_) (fun c15 => ?_)
    · skip
      show G X 0 0 (mW (xT X) o a s S) 24 [(0, .ref o), (1, .int (nI xn)), (2, .int kind)] []
      refine g_aload_n h dX5_as_24 rfl ?_
      refine g_iload_n h dX5_as_25 rfl ?_
      refine g_iconst (v := nI 0) h dX5_as_26 (by decide) ?_
      refine g_callVR h (m5_who _ _ _ o a s S xn 0 (by first | assumption | omega)) (fun _ q => q) 0 rfl rfl (lw_V q1459 q1461 qs37 q95 q1462) gy_X5_who ⟨Nat.le_of_ble_eq_true rfl, Nat.le_of_ble_eq_true rfl⟩ ⟨Nat.le_of_ble_eq_true rfl, Nat.le_of_ble_eq_true rfl⟩ rfl rfl (Nat.le_of_ble_eq_true rfl) dX5_as_27 ?_
      show G X 0 0 (mW (xT X) o a s S) 30 [(0, .ref o), (1, .int (nI xn)), (2, .int kind)] [.int (s (20 + 4 * xn))]
      refine g_iload_n h dX5_as_30 rfl ?_
      refine g_callSR h (m5_isUnder _ _ _ (s (20 + 4 * xn)) kind ) (fun _ q => nomatch q) (lw_S q1495 q1496 q95 q1497) gy_X5_isUnder ⟨Nat.le_of_ble_eq_true rfl, Nat.le_of_ble_eq_true rfl⟩ ⟨Nat.le_of_ble_eq_true rfl, Nat.le_of_ble_eq_true rfl⟩ rfl rfl (Nat.le_of_ble_eq_true rfl) dX5_as_31 ?_
      refine g_if_eqB h 46 dX5_as_34 (by decide) (fun c34 => ?_) (fun c34 => ?_)
      · skip
        show G X 0 0 (mW (xT X) o a s S) 46 [(0, .ref o), (1, .int (nI xn)), (2, .int kind)] []
        refine g_aload_n h dX5_as_46 rfl ?_
        refine g_iconst (v := nI 5) h dX5_as_47 (by decide) ?_
        refine g_callVW0 h hE (m5_error _ _ _ o a s S 5 (by first | assumption | omega)) 0 rfl rfl (lw_V q1446 q1448 qs35 q95 q1449) gy_X5_error ⟨Nat.le_of_ble_eq_true rfl, Nat.le_of_ble_eq_true rfl⟩ ⟨Nat.le_of_ble_eq_true rfl, Nat.le_of_ble_eq_true rfl⟩ rfl rfl (Nat.le_of_ble_eq_true rfl) dX5_as_48 (st' := [.int (LOW - nI 5)]) rfl (fun _ e48 => ?_)
        subst e48
        exact g_iretWv h hE dX5_as_51 (by first | (simp [o_as, er, LOW, sU_self, nI_pred, nv_nI, c5, vx, c15, c34]; done) | (simp_all [o_as, er, LOW, sU_self, nI_pred, nv_nI, c5, vx, c15, c34]; done)) (mW_eq (by first | (simp [o_as, er, LOW, sU_self, nI_pred, nv_nI, c5, vx, c15, c34]; done) | (simp_all [o_as, er, LOW, sU_self, nI_pred, nv_nI, c5, vx, c15, c34]; done)) (by first | (simp [o_as, er, LOW, sU_self, nI_pred, nv_nI, c5, vx, c15, c34]; done) | (simp_all [o_as, er, LOW, sU_self, nI_pred, nv_nI, c5, vx, c15, c34]; done)))
      · skip
        show G X 0 0 (mW (xT X) o a s S) 37 [(0, .ref o), (1, .int (nI xn)), (2, .int kind)] []
        refine g_aload_n h dX5_as_37 rfl ?_
        refine g_iload_n h dX5_as_38 rfl ?_
        refine g_iconst (v := nI 1) h dX5_as_39 (by decide) ?_
        refine g_callVR h (m5_who _ _ _ o a s S xn 1 (by first | assumption | omega)) (fun _ q => q) 0 rfl rfl (lw_V q1459 q1461 qs37 q95 q1462) gy_X5_who ⟨Nat.le_of_ble_eq_true rfl, Nat.le_of_ble_eq_true rfl⟩ ⟨Nat.le_of_ble_eq_true rfl, Nat.le_of_ble_eq_true rfl⟩ rfl rfl (Nat.le_of_ble_eq_true rfl) dX5_as_40 ?_
        refine g_goto h 51 dX5_as_43 (by decide) ?_
        exact g_iretWv h hE dX5_as_51 (by first | (simp [o_as, er, LOW, sU_self, nI_pred, nv_nI, c5, vx, c15, c34]; done) | (simp_all [o_as, er, LOW, sU_self, nI_pred, nv_nI, c5, vx, c15, c34]; done)) (mW_eq (by first | (simp [o_as, er, LOW, sU_self, nI_pred, nv_nI, c5, vx, c15, c34]; done) | (simp_all [o_as, er, LOW, sU_self, nI_pred, nv_nI, c5, vx, c15, c34]; done)) (by first | (simp [o_as, er, LOW, sU_self, nI_pred, nv_nI, c5, vx, c15, c34]; done) | (simp_all [o_as, er, LOW, sU_self, nI_pred, nv_nI, c5, vx, c15, c34]; done)))
    · skip
      show G X 0 0 (mW (xT X) o a s S) 18 [(0, .ref o), (1, .int (nI xn)), (2, .int kind)] []
      refine g_aload_n h dX5_as_18 rfl ?_
      refine g_iconst (v := nI 1) h dX5_as_19 (by decide) ?_
      refine g_callVW0 h hE (m5_error _ _ _ o a s S 1 (by first | assumption | omega)) 0 rfl rfl (lw_V q1446 q1448 qs35 q95 q1449) gy_X5_error ⟨Nat.le_of_ble_eq_true rfl, Nat.le_of_ble_eq_true rfl⟩ ⟨Nat.le_of_ble_eq_true rfl, Nat.le_of_ble_eq_true rfl⟩ rfl rfl (Nat.le_of_ble_eq_true rfl) dX5_as_20 (st' := [.int (LOW - nI 1)]) rfl (fun _ e20 => ?_)
      subst e20
      exact g_iretWv h hE dX5_as_23 (by first | (simp [o_as, er, LOW, sU_self, nI_pred, nv_nI, c5, vx, c15]; done) | (simp_all [o_as, er, LOW, sU_self, nI_pred, nv_nI, c5, vx, c15]; done)) (mW_eq (by first | (simp [o_as, er, LOW, sU_self, nI_pred, nv_nI, c5, vx, c15]; done) | (simp_all [o_as, er, LOW, sU_self, nI_pred, nv_nI, c5, vx, c15]; done)) (by first | (simp [o_as, er, LOW, sU_self, nI_pred, nv_nI, c5, vx, c15]; done) | (simp_all [o_as, er, LOW, sU_self, nI_pred, nv_nI, c5, vx, c15]; done)))
set_option maxHeartbeats 4000000 in
set_option maxRecDepth 100000 in
theorem m5_become (l : Launch) (D : va_G) (T : Nat → ClassId) (o : Nat) (a : Nat → Nat) (s : Nat → Int32) (S : Nat → Nat → Int32) (x : Int32) (kind : Int32) (h0 : Inv s) : MetW l D T yX5_become cX5_become 4 (some .int) 2 43 0 0 [.ref o, .int x, .int kind] (mW T o a s S) (fun r_ w_ => r_ = some (.int ((o_become s (S 3) x kind).1)) ∧ (w_ = mW T o a ((o_become s (S 3) x kind).2.1) (sU S 3 (o_become s (S 3) x kind).2.2))) := by
  refine metW (own := RX5) rfl (by decide) rfl (fun X h hl hDx hTx hnm hE => ?_)
  subst hl; subst hDx; subst hTx
  have hnp := h0.npl; have hnt := h0.ntl; have hnq := h0.nql
  show G X 0 0 (mW (xT X) o a s S) 0 [(0, .ref o), (1, .int x), (2, .int kind)] []
  refine g_aload_n h dX5_become_0 rfl ?_
  refine g_iload_n h dX5_become_1 rfl ?_
  refine g_callVR h (m5_isPerson _ _ _ o a s S x ) (fun _ q => q) 0 rfl rfl (lw_V q1455 q1457 qs36 q95 q1458) gy_X5_isPerson ⟨Nat.le_of_ble_eq_true rfl, Nat.le_of_ble_eq_true rfl⟩ ⟨Nat.le_of_ble_eq_true rfl, Nat.le_of_ble_eq_true rfl⟩ rfl rfl (Nat.le_of_ble_eq_true rfl) dX5_become_2 ?_
  refine g_if_eqB h 18 dX5_become_5 (by decide) (fun c5 => ?_) (fun c5 => ?_)
  · skip
    show G X 0 0 (mW (xT X) o a s S) 18 [(0, .ref o), (1, .int x), (2, .int kind)] []
    refine g_aload_n h dX5_become_18 rfl ?_
    refine g_iconst (v := nI 1) h dX5_become_19 (by decide) ?_
    refine g_callVW0 h hE (m5_error _ _ _ o a s S 1 (by first | assumption | omega)) 0 rfl rfl (lw_V q1446 q1448 qs35 q95 q1449) gy_X5_error ⟨Nat.le_of_ble_eq_true rfl, Nat.le_of_ble_eq_true rfl⟩ ⟨Nat.le_of_ble_eq_true rfl, Nat.le_of_ble_eq_true rfl⟩ rfl rfl (Nat.le_of_ble_eq_true rfl) dX5_become_20 (st' := [.int (LOW - nI 1)]) rfl (fun _ e20 => ?_)
    subst e20
    exact g_iretWv h hE dX5_become_23 (by first | (simp [o_become, er, LOW, sU_self, nI_pred, nv_nI, c5]; done) | (simp_all [o_become, er, LOW, sU_self, nI_pred, nv_nI, c5]; done)) (mW_eq (by first | (simp [o_become, er, LOW, sU_self, nI_pred, nv_nI, c5]; done) | (simp_all [o_become, er, LOW, sU_self, nI_pred, nv_nI, c5]; done)) (by first | (simp [o_become, er, LOW, sU_self, nI_pred, nv_nI, c5]; done) | (simp_all [o_become, er, LOW, sU_self, nI_pred, nv_nI, c5]; done)))
  · skip
    show G X 0 0 (mW (xT X) o a s S) 8 [(0, .ref o), (1, .int x), (2, .int kind)] []
    obtain ⟨xn, hx, rfl⟩ := isP_of h0 c5
    have vx : nv (nI xn) = xn := nv_nI (by omega)
    refine g_iload_n h dX5_become_8 rfl ?_
    refine g_iconst (v := nI 0) h dX5_become_9 (by decide) ?_
    refine g_bipush (v := nI 6) h dX5_become_10 (by decide) ?_
    refine g_callSR h (m5_in _ _ _ kind 0 6 ) (fun _ q => nomatch q) (lw_S q1439 q1440 q95 q1441) gy_X5_in ⟨Nat.le_of_ble_eq_true rfl, Nat.le_of_ble_eq_true rfl⟩ ⟨Nat.le_of_ble_eq_true rfl, Nat.le_of_ble_eq_true rfl⟩ rfl rfl (Nat.le_of_ble_eq_true rfl) dX5_become_12 ?_
    refine g_if_neB h 24 dX5_become_15 (by decide) (fun c15 => ?_) (fun c15 => ?_)
    · skip
      show G X 0 0 (mW (xT X) o a s S) 24 [(0, .ref o), (1, .int (nI xn)), (2, .int kind)] []
      refine g_aload_n h dX5_become_24 rfl ?_
      refine g_iload_n h dX5_become_25 rfl ?_
      refine g_iconst (v := nI 0) h dX5_become_26 (by decide) ?_
      refine g_callVR h (m5_who _ _ _ o a s S xn 0 (by first | assumption | omega)) (fun _ q => q) 0 rfl rfl (lw_V q1459 q1461 qs37 q95 q1462) gy_X5_who ⟨Nat.le_of_ble_eq_true rfl, Nat.le_of_ble_eq_true rfl⟩ ⟨Nat.le_of_ble_eq_true rfl, Nat.le_of_ble_eq_true rfl⟩ rfl rfl (Nat.le_of_ble_eq_true rfl) dX5_become_27 ?_
      show G X 0 0 (mW (xT X) o a s S) 30 [(0, .ref o), (1, .int (nI xn)), (2, .int kind)] [.int (s (20 + 4 * xn))]
      refine g_istore_n (lv' := [(0, .ref o), (1, .int (nI xn)), (2, .int kind), (3, .int (s (20 + 4 * xn)))]) h dX5_become_30 (by decide) rfl ?_
      refine g_aload_n h dX5_become_31 rfl ?_
      refine g_get h in_X5 0 rfl rfl 0 rfl q1374 rfl rfl dX5_become_32 ?_
      refine g_bipush (v := nI 20) h dX5_become_35 (by decide) ?_
      refine g_iconst (v := nI 4) h dX5_become_37 (by decide) ?_
      refine g_iload_n h dX5_become_38 rfl ?_
      refine g_imulN h dX5_become_39 ?_
      refine g_iaddN h dX5_become_40 ?_
      refine g_iconst (v := nI 0) h dX5_become_41 (by decide) ?_
      refine g_iaddN h dX5_become_42 ?_
      refine g_toN (a := 20 + 4 * xn) rfl ?_
      refine g_iload_n h dX5_become_43 rfl ?_
      refine g_iast (ws' := mW (xT X) o a (upd s (20 + 4 * xn) kind) S) h hE.1 1 rfl (by first | assumption | omega) (by decide) dX5_become_44 rfl ?_
      refine g_iload_n h dX5_become_45 rfl ?_
      exact g_iretWv h hE dX5_become_46 (by first | (simp [o_become, er, LOW, sU_self, nI_pred, nv_nI, c5, vx, c15]; done) | (simp_all [o_become, er, LOW, sU_self, nI_pred, nv_nI, c5, vx, c15]; done)) (mW_eq (by first | (simp [o_become, er, LOW, sU_self, nI_pred, nv_nI, c5, vx, c15]; done) | (simp_all [o_become, er, LOW, sU_self, nI_pred, nv_nI, c5, vx, c15]; done)) (by first | (simp [o_become, er, LOW, sU_self, nI_pred, nv_nI, c5, vx, c15]; done) | (simp_all [o_become, er, LOW, sU_self, nI_pred, nv_nI, c5, vx, c15]; done)))
    · skip
      show G X 0 0 (mW (xT X) o a s S) 18 [(0, .ref o), (1, .int (nI xn)), (2, .int kind)] []
      refine g_aload_n h dX5_become_18 rfl ?_
      refine g_iconst (v := nI 1) h dX5_become_19 (by decide) ?_
      refine g_callVW0 h hE (m5_error _ _ _ o a s S 1 (by first | assumption | omega)) 0 rfl rfl (lw_V q1446 q1448 qs35 q95 q1449) gy_X5_error ⟨Nat.le_of_ble_eq_true rfl, Nat.le_of_ble_eq_true rfl⟩ ⟨Nat.le_of_ble_eq_true rfl, Nat.le_of_ble_eq_true rfl⟩ rfl rfl (Nat.le_of_ble_eq_true rfl) dX5_become_20 (st' := [.int (LOW - nI 1)]) rfl (fun _ e20 => ?_)
      subst e20
      exact g_iretWv h hE dX5_become_23 (by first | (simp [o_become, er, LOW, sU_self, nI_pred, nv_nI, c5, vx, c15]; done) | (simp_all [o_become, er, LOW, sU_self, nI_pred, nv_nI, c5, vx, c15]; done)) (mW_eq (by first | (simp [o_become, er, LOW, sU_self, nI_pred, nv_nI, c5, vx, c15]; done) | (simp_all [o_become, er, LOW, sU_self, nI_pred, nv_nI, c5, vx, c15]; done)) (by first | (simp [o_become, er, LOW, sU_self, nI_pred, nv_nI, c5, vx, c15]; done) | (simp_all [o_become, er, LOW, sU_self, nI_pred, nv_nI, c5, vx, c15]; done)))
set_option maxHeartbeats 4000000 in
set_option maxRecDepth 100000 in
theorem m5_purse (l : Launch) (D : va_G) (T : Nat → ClassId) (o : Nat) (a : Nat → Nat) (s : Nat → Int32) (S : Nat → Nat → Int32) (x : Int32) (v : Int32) (h0 : Inv s) : MetW l D T yX5_purse cX5_purse 4 (some .int) 2 43 0 0 [.ref o, .int x, .int v] (mW T o a s S) (fun r_ w_ => r_ = some (.int ((o_purse s (S 3) x v).1)) ∧ (w_ = mW T o a ((o_purse s (S 3) x v).2.1) (sU S 3 (o_purse s (S 3) x v).2.2))) := by
  refine metW (own := RX5) rfl (by decide) rfl (fun X h hl hDx hTx hnm hE => ?_)
  subst hl; subst hDx; subst hTx
  have hnp := h0.npl; have hnt := h0.ntl; have hnq := h0.nql
  show G X 0 0 (mW (xT X) o a s S) 0 [(0, .ref o), (1, .int x), (2, .int v)] []
  refine g_aload_n h dX5_purse_0 rfl ?_
  refine g_iload_n h dX5_purse_1 rfl ?_
  refine g_callVR h (m5_isPerson _ _ _ o a s S x ) (fun _ q => q) 0 rfl rfl (lw_V q1455 q1457 qs36 q95 q1458) gy_X5_isPerson ⟨Nat.le_of_ble_eq_true rfl, Nat.le_of_ble_eq_true rfl⟩ ⟨Nat.le_of_ble_eq_true rfl, Nat.le_of_ble_eq_true rfl⟩ rfl rfl (Nat.le_of_ble_eq_true rfl) dX5_purse_2 ?_
  refine g_if_eqB h 18 dX5_purse_5 (by decide) (fun c5 => ?_) (fun c5 => ?_)
  · skip
    show G X 0 0 (mW (xT X) o a s S) 18 [(0, .ref o), (1, .int x), (2, .int v)] []
    refine g_aload_n h dX5_purse_18 rfl ?_
    refine g_iconst (v := nI 1) h dX5_purse_19 (by decide) ?_
    refine g_callVW0 h hE (m5_error _ _ _ o a s S 1 (by first | assumption | omega)) 0 rfl rfl (lw_V q1446 q1448 qs35 q95 q1449) gy_X5_error ⟨Nat.le_of_ble_eq_true rfl, Nat.le_of_ble_eq_true rfl⟩ ⟨Nat.le_of_ble_eq_true rfl, Nat.le_of_ble_eq_true rfl⟩ rfl rfl (Nat.le_of_ble_eq_true rfl) dX5_purse_20 (st' := [.int (LOW - nI 1)]) rfl (fun _ e20 => ?_)
    subst e20
    exact g_iretWv h hE dX5_purse_23 (by first | (simp [o_purse, er, LOW, sU_self, nI_pred, nv_nI, c5]; done) | (simp_all [o_purse, er, LOW, sU_self, nI_pred, nv_nI, c5]; done)) (mW_eq (by first | (simp [o_purse, er, LOW, sU_self, nI_pred, nv_nI, c5]; done) | (simp_all [o_purse, er, LOW, sU_self, nI_pred, nv_nI, c5]; done)) (by first | (simp [o_purse, er, LOW, sU_self, nI_pred, nv_nI, c5]; done) | (simp_all [o_purse, er, LOW, sU_self, nI_pred, nv_nI, c5]; done)))
  · skip
    show G X 0 0 (mW (xT X) o a s S) 8 [(0, .ref o), (1, .int x), (2, .int v)] []
    obtain ⟨xn, hx, rfl⟩ := isP_of h0 c5
    have vx : nv (nI xn) = xn := nv_nI (by omega)
    refine g_iload_n h dX5_purse_8 rfl ?_
    refine g_iconst (v := nI 0) h dX5_purse_9 (by decide) ?_
    refine g_ldc h q1442 dX5_purse_10 ?_
    refine g_callSR h (m5_in _ _ _ v 0 999999 ) (fun _ q => nomatch q) (lw_S q1439 q1440 q95 q1441) gy_X5_in ⟨Nat.le_of_ble_eq_true rfl, Nat.le_of_ble_eq_true rfl⟩ ⟨Nat.le_of_ble_eq_true rfl, Nat.le_of_ble_eq_true rfl⟩ rfl rfl (Nat.le_of_ble_eq_true rfl) dX5_purse_12 ?_
    refine g_if_neB h 24 dX5_purse_15 (by decide) (fun c15 => ?_) (fun c15 => ?_)
    · skip
      show G X 0 0 (mW (xT X) o a s S) 24 [(0, .ref o), (1, .int (nI xn)), (2, .int v)] []
      refine g_aload_n h dX5_purse_24 rfl ?_
      refine g_iload_n h dX5_purse_25 rfl ?_
      refine g_iconst (v := nI 1) h dX5_purse_26 (by decide) ?_
      refine g_callVR h (m5_who _ _ _ o a s S xn 1 (by first | assumption | omega)) (fun _ q => q) 0 rfl rfl (lw_V q1459 q1461 qs37 q95 q1462) gy_X5_who ⟨Nat.le_of_ble_eq_true rfl, Nat.le_of_ble_eq_true rfl⟩ ⟨Nat.le_of_ble_eq_true rfl, Nat.le_of_ble_eq_true rfl⟩ rfl rfl (Nat.le_of_ble_eq_true rfl) dX5_purse_27 ?_
      refine g_istore_n (lv' := [(0, .ref o), (1, .int (nI xn)), (2, .int v), (3, .int (s (20 + 4 * xn + 1)))]) h dX5_purse_30 (by decide) rfl ?_
      refine g_aload_n h dX5_purse_31 rfl ?_
      refine g_get h in_X5 0 rfl rfl 0 rfl q1374 rfl rfl dX5_purse_32 ?_
      refine g_bipush (v := nI 20) h dX5_purse_35 (by decide) ?_
      refine g_iconst (v := nI 4) h dX5_purse_37 (by decide) ?_
      refine g_iload_n h dX5_purse_38 rfl ?_
      refine g_imulN h dX5_purse_39 ?_
      refine g_iaddN h dX5_purse_40 ?_
      refine g_iconst (v := nI 1) h dX5_purse_41 (by decide) ?_
      refine g_iaddN h dX5_purse_42 ?_
      refine g_iload_n h dX5_purse_43 rfl ?_
      refine g_iast (ws' := mW (xT X) o a (upd s (20 + 4 * xn + 1) v) S) h hE.1 1 rfl (by first | assumption | omega) (by decide) dX5_purse_44 rfl ?_
      refine g_iload_n h dX5_purse_45 rfl ?_
      exact g_iretWv h hE dX5_purse_46 (by first | (simp [o_purse, er, LOW, sU_self, nI_pred, nv_nI, c5, vx, c15]; done) | (simp_all [o_purse, er, LOW, sU_self, nI_pred, nv_nI, c5, vx, c15]; done)) (mW_eq (by first | (simp [o_purse, er, LOW, sU_self, nI_pred, nv_nI, c5, vx, c15]; done) | (simp_all [o_purse, er, LOW, sU_self, nI_pred, nv_nI, c5, vx, c15]; done)) (by first | (simp [o_purse, er, LOW, sU_self, nI_pred, nv_nI, c5, vx, c15]; done) | (simp_all [o_purse, er, LOW, sU_self, nI_pred, nv_nI, c5, vx, c15]; done)))
    · skip
      show G X 0 0 (mW (xT X) o a s S) 18 [(0, .ref o), (1, .int (nI xn)), (2, .int v)] []
      refine g_aload_n h dX5_purse_18 rfl ?_
      refine g_iconst (v := nI 1) h dX5_purse_19 (by decide) ?_
      refine g_callVW0 h hE (m5_error _ _ _ o a s S 1 (by first | assumption | omega)) 0 rfl rfl (lw_V q1446 q1448 qs35 q95 q1449) gy_X5_error ⟨Nat.le_of_ble_eq_true rfl, Nat.le_of_ble_eq_true rfl⟩ ⟨Nat.le_of_ble_eq_true rfl, Nat.le_of_ble_eq_true rfl⟩ rfl rfl (Nat.le_of_ble_eq_true rfl) dX5_purse_20 (st' := [.int (LOW - nI 1)]) rfl (fun _ e20 => ?_)
      subst e20
      exact g_iretWv h hE dX5_purse_23 (by first | (simp [o_purse, er, LOW, sU_self, nI_pred, nv_nI, c5, vx, c15]; done) | (simp_all [o_purse, er, LOW, sU_self, nI_pred, nv_nI, c5, vx, c15]; done)) (mW_eq (by first | (simp [o_purse, er, LOW, sU_self, nI_pred, nv_nI, c5, vx, c15]; done) | (simp_all [o_purse, er, LOW, sU_self, nI_pred, nv_nI, c5, vx, c15]; done)) (by first | (simp [o_purse, er, LOW, sU_self, nI_pred, nv_nI, c5, vx, c15]; done) | (simp_all [o_purse, er, LOW, sU_self, nI_pred, nv_nI, c5, vx, c15]; done)))
set_option maxHeartbeats 4000000 in
set_option maxRecDepth 100000 in
theorem m5_thing (l : Launch) (D : va_G) (T : Nat → ClassId) (o : Nat) (a : Nat → Nat) (s : Nat → Int32) (S : Nat → Nat → Int32) (x : Int32) (price : Int32) (h0 : Inv s) : MetW l D T yX5_thing cX5_thing 4 (some .int) 2 43 0 0 [.ref o, .int x, .int price] (mW T o a s S) (fun r_ w_ => r_ = some (.int ((o_thing s (S 3) x price).1)) ∧ (w_ = mW T o a ((o_thing s (S 3) x price).2.1) (sU S 3 (o_thing s (S 3) x price).2.2))) := by
  refine metW (own := RX5) rfl (by decide) rfl (fun X h hl hDx hTx hnm hE => ?_)
  subst hl; subst hDx; subst hTx
  have hnp := h0.npl; have hnt := h0.ntl; have hnq := h0.nql
  show G X 0 0 (mW (xT X) o a s S) 0 [(0, .ref o), (1, .int x), (2, .int price)] []
  refine g_aload_n h dX5_thing_0 rfl ?_
  refine g_iload_n h dX5_thing_1 rfl ?_
  refine g_callVR h (m5_isPerson _ _ _ o a s S x ) (fun _ q => q) 0 rfl rfl (lw_V q1455 q1457 qs36 q95 q1458) gy_X5_isPerson ⟨Nat.le_of_ble_eq_true rfl, Nat.le_of_ble_eq_true rfl⟩ ⟨Nat.le_of_ble_eq_true rfl, Nat.le_of_ble_eq_true rfl⟩ rfl rfl (Nat.le_of_ble_eq_true rfl) dX5_thing_2 ?_
  refine g_if_eqB h 19 dX5_thing_5 (by decide) (fun c5 => ?_) (fun c5 => ?_)
  · skip
    show G X 0 0 (mW (xT X) o a s S) 19 [(0, .ref o), (1, .int x), (2, .int price)] []
    refine g_aload_n h dX5_thing_19 rfl ?_
    refine g_iconst (v := nI 1) h dX5_thing_20 (by decide) ?_
    refine g_callVW0 h hE (m5_error _ _ _ o a s S 1 (by first | assumption | omega)) 0 rfl rfl (lw_V q1446 q1448 qs35 q95 q1449) gy_X5_error ⟨Nat.le_of_ble_eq_true rfl, Nat.le_of_ble_eq_true rfl⟩ ⟨Nat.le_of_ble_eq_true rfl, Nat.le_of_ble_eq_true rfl⟩ rfl rfl (Nat.le_of_ble_eq_true rfl) dX5_thing_21 (st' := [.int (LOW - nI 1)]) rfl (fun _ e21 => ?_)
    subst e21
    exact g_iretWv h hE dX5_thing_24 (by first | (simp [o_thing, er, LOW, sU_self, nI_pred, nv_nI, c5]; done) | (simp_all [o_thing, er, LOW, sU_self, nI_pred, nv_nI, c5]; done)) (mW_eq (by first | (simp [o_thing, er, LOW, sU_self, nI_pred, nv_nI, c5]; done) | (simp_all [o_thing, er, LOW, sU_self, nI_pred, nv_nI, c5]; done)) (by first | (simp [o_thing, er, LOW, sU_self, nI_pred, nv_nI, c5]; done) | (simp_all [o_thing, er, LOW, sU_self, nI_pred, nv_nI, c5]; done)))
  · skip
    show G X 0 0 (mW (xT X) o a s S) 8 [(0, .ref o), (1, .int x), (2, .int price)] []
    obtain ⟨xn, hx, rfl⟩ := isP_of h0 c5
    have vx : nv (nI xn) = xn := nv_nI (by omega)
    refine g_iload_n h dX5_thing_8 rfl ?_
    refine g_iconst (v := nI 0) h dX5_thing_9 (by decide) ?_
    refine g_sipush (v := nI 9999) h dX5_thing_10 (by decide) ?_
    refine g_callSR h (m5_in _ _ _ price 0 9999 ) (fun _ q => nomatch q) (lw_S q1439 q1440 q95 q1441) gy_X5_in ⟨Nat.le_of_ble_eq_true rfl, Nat.le_of_ble_eq_true rfl⟩ ⟨Nat.le_of_ble_eq_true rfl, Nat.le_of_ble_eq_true rfl⟩ rfl rfl (Nat.le_of_ble_eq_true rfl) dX5_thing_13 ?_
    refine g_if_neB h 25 dX5_thing_16 (by decide) (fun c16 => ?_) (fun c16 => ?_)
    · skip
      show G X 0 0 (mW (xT X) o a s S) 25 [(0, .ref o), (1, .int (nI xn)), (2, .int price)] []
      refine g_aload_n h dX5_thing_25 rfl ?_
      refine g_get h in_X5 0 rfl rfl 0 rfl q1374 rfl rfl dX5_thing_26 ?_
      refine g_iconst (v := nI 1) h dX5_thing_29 (by decide) ?_
      refine g_iald h 1 rfl (by first | assumption | omega) (by decide) dX5_thing_30 ?_
      refine g_toN (a := nT s) (Inv.nt h0) ?_
      refine g_bipush (v := nI 12) h dX5_thing_31 (by decide) ?_
      refine g_icmp_neN h 42 dX5_thing_33 (by decide) (by first | omega | decide) (by first | omega | decide) (fun c33 => ?_) (fun c33 => ?_)
      · skip
        show G X 0 0 (mW (xT X) o a s S) 42 [(0, .ref o), (1, .int (nI xn)), (2, .int price)] []
        refine g_bipush (v := nI 44) h dX5_thing_42 (by decide) ?_
        refine g_iconst (v := nI 4) h dX5_thing_44 (by decide) ?_
        refine g_aload_n h dX5_thing_45 rfl ?_
        refine g_get h in_X5 0 rfl rfl 0 rfl q1374 rfl rfl dX5_thing_46 ?_
        refine g_iconst (v := nI 1) h dX5_thing_49 (by decide) ?_
        refine g_iald h 1 rfl (by first | assumption | omega) (by decide) dX5_thing_50 ?_
        refine g_toN (a := nT s) (Inv.nt h0) ?_
        refine g_imulN h dX5_thing_51 ?_
        refine g_iaddN h dX5_thing_52 ?_
        refine g_istore_n (lv' := [(0, .ref o), (1, .int (nI xn)), (2, .int price), (3, .int (nI (44 + 4 * (nT s))))]) h dX5_thing_53 (by decide) rfl ?_
        refine g_aload_n h dX5_thing_54 rfl ?_
        refine g_get h in_X5 0 rfl rfl 0 rfl q1374 rfl rfl dX5_thing_55 ?_
        refine g_iload_n h dX5_thing_58 rfl ?_
        refine g_iconst (v := nI 0) h dX5_thing_59 (by decide) ?_
        refine g_iaddN h dX5_thing_60 ?_
        refine g_toN (a := 44 + 4 * (nT s)) rfl ?_
        refine g_iload_n h dX5_thing_61 rfl ?_
        refine g_iast (ws' := mW (xT X) o a (upd s (44 + 4 * (nT s)) (nI xn)) S) h hE.1 1 rfl (by first | assumption | omega) (by decide) dX5_thing_62 rfl ?_
        refine g_aload_n h dX5_thing_63 rfl ?_
        refine g_get h in_X5 0 rfl rfl 0 rfl q1374 rfl rfl dX5_thing_64 ?_
        refine g_iload_n h dX5_thing_67 rfl ?_
        refine g_iconst (v := nI 1) h dX5_thing_68 (by decide) ?_
        refine g_iaddN h dX5_thing_69 ?_
        refine g_iload_n h dX5_thing_70 rfl ?_
        refine g_iast (ws' := mW (xT X) o a (upd (upd s (44 + 4 * (nT s)) (nI xn)) (44 + 4 * (nT s) + 1) price) S) h hE.1 1 rfl (by first | assumption | omega) (by decide) dX5_thing_71 rfl ?_
        refine g_aload_n h dX5_thing_72 rfl ?_
        refine g_get h in_X5 0 rfl rfl 0 rfl q1374 rfl rfl dX5_thing_73 ?_
        refine g_iload_n h dX5_thing_76 rfl ?_
        refine g_iconst (v := nI 2) h dX5_thing_77 (by decide) ?_
        refine g_iaddN h dX5_thing_78 ?_
        refine g_bipush (v := nI 100) h dX5_thing_79 (by decide) ?_
        refine g_iast (ws' := mW (xT X) o a (upd (upd (upd s (44 + 4 * (nT s)) (nI xn)) (44 + 4 * (nT s) + 1) price) (44 + 4 * (nT s) + 2) 100) S) h hE.1 1 rfl (by first | assumption | omega) (by decide) dX5_thing_81 rfl ?_
        refine g_aload_n h dX5_thing_82 rfl ?_
        refine g_get h in_X5 0 rfl rfl 0 rfl q1374 rfl rfl dX5_thing_83 ?_
        refine g_iload_n h dX5_thing_86 rfl ?_
        refine g_iconst (v := nI 3) h dX5_thing_87 (by decide) ?_
        refine g_iaddN h dX5_thing_88 ?_
        refine g_iconst (v := nI 0) h dX5_thing_89 (by decide) ?_
        refine g_iast (ws' := mW (xT X) o a (upd (upd (upd (upd s (44 + 4 * (nT s)) (nI xn)) (44 + 4 * (nT s) + 1) price) (44 + 4 * (nT s) + 2) 100) (44 + 4 * (nT s) + 3) 0) S) h hE.1 1 rfl (by first | assumption | omega) (by decide) dX5_thing_90 rfl ?_
        refine g_aload_n h dX5_thing_91 rfl ?_
        refine g_get h in_X5 0 rfl rfl 0 rfl q1374 rfl rfl dX5_thing_92 ?_
        refine g_iconst (v := nI 1) h dX5_thing_95 (by decide) ?_
        refine g_dup2_11 h dX5_thing_96 rfl rfl ?_
        refine g_iald h 1 rfl (by first | assumption | omega) (by decide) dX5_thing_97 ?_
        refine g_toI (y := s 1) (show (upd (upd (upd (upd s (44 + 4 * (nT s)) (nI xn)) (44 + 4 * (nT s) + 1) price) (44 + 4 * (nT s) + 2) 100) (44 + 4 * (nT s) + 3) 0) 1 = _ from ((upd_n (by omega)).trans ((upd_n (by omega)).trans ((upd_n (by omega)).trans (upd_n (by omega)))))) ?_
        refine g_toN (a := nT s) (Inv.nt h0) ?_
        refine g_iconst (v := nI 1) h dX5_thing_98 (by decide) ?_
        refine g_iaddN h dX5_thing_99 ?_
        refine g_iast (ws' := mW (xT X) o a (upd (upd (upd (upd (upd s (44 + 4 * (nT s)) (nI xn)) (44 + 4 * (nT s) + 1) price) (44 + 4 * (nT s) + 2) 100) (44 + 4 * (nT s) + 3) 0) 1 (nI (nT s + 1))) S) h hE.1 1 rfl (by first | assumption | omega) (by decide) dX5_thing_100 rfl ?_
        refine g_aload_n h dX5_thing_101 rfl ?_
        refine g_get h in_X5 0 rfl rfl 0 rfl q1374 rfl rfl dX5_thing_102 ?_
        refine g_iconst (v := nI 1) h dX5_thing_105 (by decide) ?_
        refine g_iald h 1 rfl (by first | assumption | omega) (by decide) dX5_thing_106 ?_
        refine g_toI (y := nI (nT s + 1)) (show (upd (upd (upd (upd (upd s (44 + 4 * (nT s)) (nI xn)) (44 + 4 * (nT s) + 1) price) (44 + 4 * (nT s) + 2) 100) (44 + 4 * (nT s) + 3) 0) 1 (nI (nT s + 1))) 1 = _ from (upd_s _ _ _)) ?_
        refine g_iconst (v := nI 1) h dX5_thing_107 (by decide) ?_
        refine g_toI (y := 1) rfl ?_
        refine g_isub h dX5_thing_108 ?_
        exact g_iretWv h hE dX5_thing_109 (by first | (simp [o_thing, er, LOW, sU_self, nI_pred, nv_nI, c5, vx, c16, c33]; done) | (simp_all [o_thing, er, LOW, sU_self, nI_pred, nv_nI, c5, vx, c16, c33]; done)) (mW_eq (by first | (simp [o_thing, er, LOW, sU_self, nI_pred, nv_nI, c5, vx, c16, c33]; done) | (simp_all [o_thing, er, LOW, sU_self, nI_pred, nv_nI, c5, vx, c16, c33]; done)) (by first | (simp [o_thing, er, LOW, sU_self, nI_pred, nv_nI, c5, vx, c16, c33]; done) | (simp_all [o_thing, er, LOW, sU_self, nI_pred, nv_nI, c5, vx, c16, c33]; done)))
      · skip
        show G X 0 0 (mW (xT X) o a s S) 36 [(0, .ref o), (1, .int (nI xn)), (2, .int price)] []
        refine g_aload_n h dX5_thing_36 rfl ?_
        refine g_iconst (v := nI 4) h dX5_thing_37 (by decide) ?_
        refine g_callVW0 h hE (m5_error _ _ _ o a s S 4 (by first | assumption | omega)) 0 rfl rfl (lw_V q1446 q1448 qs35 q95 q1449) gy_X5_error ⟨Nat.le_of_ble_eq_true rfl, Nat.le_of_ble_eq_true rfl⟩ ⟨Nat.le_of_ble_eq_true rfl, Nat.le_of_ble_eq_true rfl⟩ rfl rfl (Nat.le_of_ble_eq_true rfl) dX5_thing_38 (st' := [.int (LOW - nI 4)]) rfl (fun _ e38 => ?_)
        subst e38
        exact g_iretWv h hE dX5_thing_41 (by first | (simp [o_thing, er, LOW, sU_self, nI_pred, nv_nI, c5, vx, c16, c33]; done) | (simp_all [o_thing, er, LOW, sU_self, nI_pred, nv_nI, c5, vx, c16, c33]; done)) (mW_eq (by first | (simp [o_thing, er, LOW, sU_self, nI_pred, nv_nI, c5, vx, c16, c33]; done) | (simp_all [o_thing, er, LOW, sU_self, nI_pred, nv_nI, c5, vx, c16, c33]; done)) (by first | (simp [o_thing, er, LOW, sU_self, nI_pred, nv_nI, c5, vx, c16, c33]; done) | (simp_all [o_thing, er, LOW, sU_self, nI_pred, nv_nI, c5, vx, c16, c33]; done)))
    · skip
      show G X 0 0 (mW (xT X) o a s S) 19 [(0, .ref o), (1, .int (nI xn)), (2, .int price)] []
      refine g_aload_n h dX5_thing_19 rfl ?_
      refine g_iconst (v := nI 1) h dX5_thing_20 (by decide) ?_
      refine g_callVW0 h hE (m5_error _ _ _ o a s S 1 (by first | assumption | omega)) 0 rfl rfl (lw_V q1446 q1448 qs35 q95 q1449) gy_X5_error ⟨Nat.le_of_ble_eq_true rfl, Nat.le_of_ble_eq_true rfl⟩ ⟨Nat.le_of_ble_eq_true rfl, Nat.le_of_ble_eq_true rfl⟩ rfl rfl (Nat.le_of_ble_eq_true rfl) dX5_thing_21 (st' := [.int (LOW - nI 1)]) rfl (fun _ e21 => ?_)
      subst e21
      exact g_iretWv h hE dX5_thing_24 (by first | (simp [o_thing, er, LOW, sU_self, nI_pred, nv_nI, c5, vx, c16]; done) | (simp_all [o_thing, er, LOW, sU_self, nI_pred, nv_nI, c5, vx, c16]; done)) (mW_eq (by first | (simp [o_thing, er, LOW, sU_self, nI_pred, nv_nI, c5, vx, c16]; done) | (simp_all [o_thing, er, LOW, sU_self, nI_pred, nv_nI, c5, vx, c16]; done)) (by first | (simp [o_thing, er, LOW, sU_self, nI_pred, nv_nI, c5, vx, c16]; done) | (simp_all [o_thing, er, LOW, sU_self, nI_pred, nv_nI, c5, vx, c16]; done)))
set_option maxHeartbeats 4000000 in
set_option maxRecDepth 100000 in
theorem m5_fondest (l : Launch) (D : va_G) (T : Nat → ClassId) (o : Nat) (a : Nat → Nat) (s : Nat → Int32) (S : Nat → Nat → Int32) (t : Nat) (h0 : Inv s) (h1 : t < 12) (h2 : 0 < nP s) : MetR l D T yX5_fondest cX5_fondest 4 (some .int) 2 44 [.ref o, .int (nI t)] (mW T o a s S) (fun r_ => r_ = some (.int (nI (fon s t)))) := by
  refine metR (own := RX5) rfl (by decide) rfl (fun X h hl hDx hTx hE => ?_)
  subst hl; subst hDx; subst hTx
  have hnp := h0.npl; have hnt := h0.ntl; have hnq := h0.nql
  show G X 0 0 (mW (xT X) o a s S) 0 [(0, .ref o), (1, .int (nI t))] []
  refine g_iconst (v := nI 0) h dX5_fondest_0 (by decide) ?_
  refine g_istore_n (lv' := [(0, .ref o), (1, .int (nI t)), (2, .int (nI 0))]) h dX5_fondest_1 (by decide) rfl ?_
  refine g_iconst (v := nI 1) h dX5_fondest_2 (by decide) ?_
  refine g_istore_n (lv' := [(0, .ref o), (1, .int (nI t)), (2, .int (nI 0)), (3, .int (nI 1))]) h dX5_fondest_3 (by decide) rfl ?_
  have lp : ∀ i, i ≤ nP s → ∀ (_u : Unit) (b : Nat), (b = fo i (fonF s t) 0) → (b < nP s) → G X 0 0 (mW (xT X) o a s S) 4 [(0, .ref o), (1, .int (nI t)), (2, .int (nI b)), (3, .int (nI i))] [] := by
    refine g_ind (N := nP s) (fun i hi_i ih_lp => ?_)
    intro _u b e0_lp e1_lp
    refine g_iload_n h dX5_fondest_4 rfl ?_
    refine g_aload_n h dX5_fondest_5 rfl ?_
    refine g_get h in_X5 0 rfl rfl 0 rfl q1374 rfl rfl dX5_fondest_6 ?_
    refine g_iconst (v := nI 0) h dX5_fondest_9 (by decide) ?_
    refine g_iald h 1 rfl (by first | assumption | omega) (by decide) dX5_fondest_10 ?_
    refine g_toN (a := nP s) (Inv.np h0) ?_
    refine g_icmp_geN h 41 dX5_fondest_11 (by decide) (by first | omega | decide) (by first | omega | decide) (fun c11 => ?_) (fun c11 => ?_)
    · skip
      show G X 0 0 (mW (xT X) o a s S) 41 [(0, .ref o), (1, .int (nI t)), (2, .int (nI b)), (3, .int (nI i))] []
      refine g_iload_n h dX5_fondest_41 rfl ?_
      exact g_iretRv h hE dX5_fondest_42 (by rw [e0_lp, show i = nP s by omega]; rfl)
    · skip
      show G X 0 0 (mW (xT X) o a s S) 14 [(0, .ref o), (1, .int (nI t)), (2, .int (nI b)), (3, .int (nI i))] []
      refine g_aload_n h dX5_fondest_14 rfl ?_
      refine g_iload_n h dX5_fondest_15 rfl ?_
      refine g_iload_n h dX5_fondest_16 rfl ?_
      refine g_callVR h (m5_valueTo _ _ _ o a s S i t (by first | assumption | omega) (by first | assumption | omega)) (fun _ q => q) 0 rfl rfl (lw_V q1487 q1489 qs44 q95 q1490) gy_X5_valueTo ⟨Nat.le_of_ble_eq_true rfl, Nat.le_of_ble_eq_true rfl⟩ ⟨Nat.le_of_ble_eq_true rfl, Nat.le_of_ble_eq_true rfl⟩ rfl rfl (Nat.le_of_ble_eq_true rfl) dX5_fondest_17 ?_
      refine g_aload_n h dX5_fondest_20 rfl ?_
      refine g_iload_n h dX5_fondest_21 rfl ?_
      refine g_iload_n h dX5_fondest_22 rfl ?_
      refine g_callVR h (m5_valueTo _ _ _ o a s S b t (by first | assumption | omega) (by first | assumption | omega)) (fun _ q => q) 0 rfl rfl (lw_V q1487 q1489 qs44 q95 q1490) gy_X5_valueTo ⟨Nat.le_of_ble_eq_true rfl, Nat.le_of_ble_eq_true rfl⟩ ⟨Nat.le_of_ble_eq_true rfl, Nat.le_of_ble_eq_true rfl⟩ rfl rfl (Nat.le_of_ble_eq_true rfl) dX5_fondest_23 ?_
      refine g_icmp_leC h 33 dX5_fondest_26 (by decide) (fun c26 => ?_) (fun c26 => ?_)
      · skip
        show G X 0 0 (mW (xT X) o a s S) 33 [(0, .ref o), (1, .int (nI t)), (2, .int (nI b)), (3, .int (nI i))] []
        refine g_iload_n h dX5_fondest_33 rfl ?_
        refine g_istore_n (lv' := [(0, .ref o), (1, .int (nI t)), (2, .int (nI b)), (3, .int (nI i))]) h dX5_fondest_34 (by decide) rfl ?_
        refine g_iincN (b := 1) (lv' := [(0, .ref o), (1, .int (nI t)), (2, .int (nI b)), (3, .int (nI (i + 1)))]) h dX5_fondest_35 rfl rfl (by decide) rfl ?_
        refine g_goto h 4 dX5_fondest_38 (by decide) ?_
        exact ih_lp (i + 1) (by omega) (by omega) () b (by rw [fo_s, ← e0_lp]; simp [fonF, c11, c26]) (by assumption)
      · skip
        show G X 0 0 (mW (xT X) o a s S) 29 [(0, .ref o), (1, .int (nI t)), (2, .int (nI b)), (3, .int (nI i))] []
        refine g_iload_n h dX5_fondest_29 rfl ?_
        refine g_goto h 34 dX5_fondest_30 (by decide) ?_
        refine g_istore_n (lv' := [(0, .ref o), (1, .int (nI t)), (2, .int (nI i)), (3, .int (nI i))]) h dX5_fondest_34 (by decide) rfl ?_
        refine g_iincN (b := 1) (lv' := [(0, .ref o), (1, .int (nI t)), (2, .int (nI i)), (3, .int (nI (i + 1)))]) h dX5_fondest_35 rfl rfl (by decide) rfl ?_
        refine g_goto h 4 dX5_fondest_38 (by decide) ?_
        exact ih_lp (i + 1) (by omega) (by omega) () i (by rw [fo_s, ← e0_lp]; simp [fonF, c11, c26]) (by assumption)
  exact lp (1) (by omega) () 0 (by simp [fo, fonF]) h2
set_option maxHeartbeats 4000000 in
set_option maxRecDepth 100000 in
theorem m5_thingIs (l : Launch) (D : va_G) (T : Nat → ClassId) (o : Nat) (a : Nat → Nat) (s : Nat → Int32) (S : Nat → Nat → Int32) (x : Int32) (w : Int32) (h0 : Inv s) : MetW l D T yX5_thingIs cX5_thingIs 3 (some .int) 3 67 0 0 [.ref o, .int x, .int w] (mW T o a s S) (fun r_ w_ => r_ = some (.int ((o_thingIs s (S 3) x w).1)) ∧ (w_ = mW T o a ((o_thingIs s (S 3) x w).2.1) (sU S 3 (o_thingIs s (S 3) x w).2.2))) := by
  refine metW (own := RX5) rfl (by decide) rfl (fun X h hl hDx hTx hnm hE => ?_)
  subst hl; subst hDx; subst hTx
  have hnp := h0.npl; have hnt := h0.ntl; have hnq := h0.nql
  have how := @Inv.owlE s h0
  show G X 0 0 (mW (xT X) o a s S) 0 [(0, .ref o), (1, .int x), (2, .int w)] []
  refine g_aload_n h dX5_thingIs_0 rfl ?_
  refine g_iload_n h dX5_thingIs_1 rfl ?_
  refine g_callVR h (m5_isThing _ _ _ o a s S x ) (fun _ q => q) 0 rfl rfl (lw_V q1514 q1516 qs45 q95 q1517) gy_X5_isThing ⟨Nat.le_of_ble_eq_true rfl, Nat.le_of_ble_eq_true rfl⟩ ⟨Nat.le_of_ble_eq_true rfl, Nat.le_of_ble_eq_true rfl⟩ rfl rfl (Nat.le_of_ble_eq_true rfl) dX5_thingIs_2 ?_
  refine g_if_eqB h 17 dX5_thingIs_5 (by decide) (fun c5 => ?_) (fun c5 => ?_)
  · skip
    show G X 0 0 (mW (xT X) o a s S) 17 [(0, .ref o), (1, .int x), (2, .int w)] []
    refine g_aload_n h dX5_thingIs_17 rfl ?_
    refine g_iconst (v := nI 1) h dX5_thingIs_18 (by decide) ?_
    refine g_callVW0 h hE (m5_error _ _ _ o a s S 1 (by first | assumption | omega)) 0 rfl rfl (lw_V q1446 q1448 qs35 q95 q1449) gy_X5_error ⟨Nat.le_of_ble_eq_true rfl, Nat.le_of_ble_eq_true rfl⟩ ⟨Nat.le_of_ble_eq_true rfl, Nat.le_of_ble_eq_true rfl⟩ rfl rfl (Nat.le_of_ble_eq_true rfl) dX5_thingIs_19 (st' := [.int (LOW - nI 1)]) rfl (fun _ e19 => ?_)
    subst e19
    exact g_iretWv h hE dX5_thingIs_22 (by first | (simp [o_thingIs, er, LOW, sU_self, nI_pred, nv_nI, c5]; done) | (simp_all [o_thingIs, er, LOW, sU_self, nI_pred, nv_nI, c5]; done)) (mW_eq (by first | (simp [o_thingIs, er, LOW, sU_self, nI_pred, nv_nI, c5]; done) | (simp_all [o_thingIs, er, LOW, sU_self, nI_pred, nv_nI, c5]; done)) (by first | (simp [o_thingIs, er, LOW, sU_self, nI_pred, nv_nI, c5]; done) | (simp_all [o_thingIs, er, LOW, sU_self, nI_pred, nv_nI, c5]; done)))
  · skip
    show G X 0 0 (mW (xT X) o a s S) 8 [(0, .ref o), (1, .int x), (2, .int w)] []
    obtain ⟨xn, hx, rfl⟩ := isT_of h0 c5
    have vx : nv (nI xn) = xn := nv_nI (by omega)
    refine g_iload_n h dX5_thingIs_8 rfl ?_
    refine g_iconst (v := nI 0) h dX5_thingIs_9 (by decide) ?_
    refine g_iconst (v := nI 5) h dX5_thingIs_10 (by decide) ?_
    refine g_callSR h (m5_in _ _ _ w 0 5 ) (fun _ q => nomatch q) (lw_S q1439 q1440 q95 q1441) gy_X5_in ⟨Nat.le_of_ble_eq_true rfl, Nat.le_of_ble_eq_true rfl⟩ ⟨Nat.le_of_ble_eq_true rfl, Nat.le_of_ble_eq_true rfl⟩ rfl rfl (Nat.le_of_ble_eq_true rfl) dX5_thingIs_11 ?_
    refine g_if_neB h 23 dX5_thingIs_14 (by decide) (fun c14 => ?_) (fun c14 => ?_)
    · skip
      show G X 0 0 (mW (xT X) o a s S) 23 [(0, .ref o), (1, .int (nI xn)), (2, .int w)] []
      obtain ⟨wn, hw, rfl⟩ := inB_of (n := 5) (by decide) c14
      have vw : nv (nI wn) = wn := nv_nI (by omega)
      refine g_iload_n h dX5_thingIs_23 rfl ?_
      refine g_iconst (v := nI 4) h dX5_thingIs_24 (by decide) ?_
      refine g_icmp_geN h 37 dX5_thingIs_25 (by decide) (by first | omega | decide) (by first | omega | decide) (fun c25 => ?_) (fun c25 => ?_)
      · skip
        show G X 0 0 (mW (xT X) o a s S) 37 [(0, .ref o), (1, .int (nI xn)), (2, .int (nI wn))] []
        refine g_iload_n h dX5_thingIs_37 rfl ?_
        refine g_iconst (v := nI 4) h dX5_thingIs_38 (by decide) ?_
        refine g_icmp_neN h 55 dX5_thingIs_39 (by decide) (by first | omega | decide) (by first | omega | decide) (fun c39 => ?_) (fun c39 => ?_)
        · skip
          show G X 0 0 (mW (xT X) o a s S) 55 [(0, .ref o), (1, .int (nI xn)), (2, .int (nI wn))] []
          refine g_aload_n h dX5_thingIs_55 rfl ?_
          refine g_iload_n h dX5_thingIs_56 rfl ?_
          refine g_callVR h (m5_fondest _ _ _ o a s S xn h0 (by first | assumption | omega) (by have := how hx; omega)) (fun _ q => q) 0 rfl rfl (lw_V q1518 q1520 qs46 q95 q1521) gy_X5_fondest ⟨Nat.le_of_ble_eq_true rfl, Nat.le_of_ble_eq_true rfl⟩ ⟨Nat.le_of_ble_eq_true rfl, Nat.le_of_ble_eq_true rfl⟩ rfl rfl (Nat.le_of_ble_eq_true rfl) dX5_thingIs_57 ?_
          exact g_iretWv h hE dX5_thingIs_60 (by first | (simp [o_thingIs, er, LOW, sU_self, nI_pred, nv_nI, c5, vx, c14, vw, c25, c39]; done) | (simp_all [o_thingIs, er, LOW, sU_self, nI_pred, nv_nI, c5, vx, c14, vw, c25, c39]; done)) (mW_eq (by first | (simp [o_thingIs, er, LOW, sU_self, nI_pred, nv_nI, c5, vx, c14, vw, c25, c39]; done) | (simp_all [o_thingIs, er, LOW, sU_self, nI_pred, nv_nI, c5, vx, c14, vw, c25, c39]; done)) (by first | (simp [o_thingIs, er, LOW, sU_self, nI_pred, nv_nI, c5, vx, c14, vw, c25, c39]; done) | (simp_all [o_thingIs, er, LOW, sU_self, nI_pred, nv_nI, c5, vx, c14, vw, c25, c39]; done)))
        · skip
          show G X 0 0 (mW (xT X) o a s S) 42 [(0, .ref o), (1, .int (nI xn)), (2, .int (nI wn))] []
          refine g_aload_n h dX5_thingIs_42 rfl ?_
          refine g_aload_n h dX5_thingIs_43 rfl ?_
          refine g_iload_n h dX5_thingIs_44 rfl ?_
          refine g_callVR h (m5_owner _ _ _ o a s S xn (by first | assumption | omega)) (fun _ q => q) 0 rfl rfl (lw_V q1475 q1477 qs41 q95 q1478) gy_X5_owner ⟨Nat.le_of_ble_eq_true rfl, Nat.le_of_ble_eq_true rfl⟩ ⟨Nat.le_of_ble_eq_true rfl, Nat.le_of_ble_eq_true rfl⟩ rfl rfl (Nat.le_of_ble_eq_true rfl) dX5_thingIs_45 ?_
          refine g_toN (a := owr s xn) (h0.owE hx) ?_
          refine g_iload_n h dX5_thingIs_48 rfl ?_
          refine g_callVR h (m5_valueTo _ _ _ o a s S (owr s xn) xn (by have := how hx; omega) (by first | assumption | omega)) (fun _ q => q) 0 rfl rfl (lw_V q1487 q1489 qs44 q95 q1490) gy_X5_valueTo ⟨Nat.le_of_ble_eq_true rfl, Nat.le_of_ble_eq_true rfl⟩ ⟨Nat.le_of_ble_eq_true rfl, Nat.le_of_ble_eq_true rfl⟩ rfl rfl (Nat.le_of_ble_eq_true rfl) dX5_thingIs_49 ?_
          refine g_goto h 60 dX5_thingIs_52 (by decide) ?_
          exact g_iretWv h hE dX5_thingIs_60 (by first | (simp [o_thingIs, er, LOW, sU_self, nI_pred, nv_nI, c5, vx, c14, vw, c25, c39]; done) | (simp_all [o_thingIs, er, LOW, sU_self, nI_pred, nv_nI, c5, vx, c14, vw, c25, c39]; done)) (mW_eq (by first | (simp [o_thingIs, er, LOW, sU_self, nI_pred, nv_nI, c5, vx, c14, vw, c25, c39]; done) | (simp_all [o_thingIs, er, LOW, sU_self, nI_pred, nv_nI, c5, vx, c14, vw, c25, c39]; done)) (by first | (simp [o_thingIs, er, LOW, sU_self, nI_pred, nv_nI, c5, vx, c14, vw, c25, c39]; done) | (simp_all [o_thingIs, er, LOW, sU_self, nI_pred, nv_nI, c5, vx, c14, vw, c25, c39]; done)))
      · skip
        show G X 0 0 (mW (xT X) o a s S) 28 [(0, .ref o), (1, .int (nI xn)), (2, .int (nI wn))] []
        refine g_aload_n h dX5_thingIs_28 rfl ?_
        refine g_iload_n h dX5_thingIs_29 rfl ?_
        refine g_iload_n h dX5_thingIs_30 rfl ?_
        refine g_callVR h (m5_its _ _ _ o a s S xn wn (by first | assumption | omega)) (fun _ q => q) 0 rfl rfl (lw_V q1479 q1481 qs42 q95 q1482) gy_X5_its ⟨Nat.le_of_ble_eq_true rfl, Nat.le_of_ble_eq_true rfl⟩ ⟨Nat.le_of_ble_eq_true rfl, Nat.le_of_ble_eq_true rfl⟩ rfl rfl (Nat.le_of_ble_eq_true rfl) dX5_thingIs_31 ?_
        refine g_goto h 60 dX5_thingIs_34 (by decide) ?_
        exact g_iretWv h hE dX5_thingIs_60 (by first | (simp [o_thingIs, er, LOW, sU_self, nI_pred, nv_nI, c5, vx, c14, vw, c25]; done) | (simp_all [o_thingIs, er, LOW, sU_self, nI_pred, nv_nI, c5, vx, c14, vw, c25]; done)) (mW_eq (by first | (simp [o_thingIs, er, LOW, sU_self, nI_pred, nv_nI, c5, vx, c14, vw, c25]; done) | (simp_all [o_thingIs, er, LOW, sU_self, nI_pred, nv_nI, c5, vx, c14, vw, c25]; done)) (by first | (simp [o_thingIs, er, LOW, sU_self, nI_pred, nv_nI, c5, vx, c14, vw, c25]; done) | (simp_all [o_thingIs, er, LOW, sU_self, nI_pred, nv_nI, c5, vx, c14, vw, c25]; done)))
    · skip
      show G X 0 0 (mW (xT X) o a s S) 17 [(0, .ref o), (1, .int (nI xn)), (2, .int w)] []
      refine g_aload_n h dX5_thingIs_17 rfl ?_
      refine g_iconst (v := nI 1) h dX5_thingIs_18 (by decide) ?_
      refine g_callVW0 h hE (m5_error _ _ _ o a s S 1 (by first | assumption | omega)) 0 rfl rfl (lw_V q1446 q1448 qs35 q95 q1449) gy_X5_error ⟨Nat.le_of_ble_eq_true rfl, Nat.le_of_ble_eq_true rfl⟩ ⟨Nat.le_of_ble_eq_true rfl, Nat.le_of_ble_eq_true rfl⟩ rfl rfl (Nat.le_of_ble_eq_true rfl) dX5_thingIs_19 (st' := [.int (LOW - nI 1)]) rfl (fun _ e19 => ?_)
      subst e19
      exact g_iretWv h hE dX5_thingIs_22 (by first | (simp [o_thingIs, er, LOW, sU_self, nI_pred, nv_nI, c5, vx, c14]; done) | (simp_all [o_thingIs, er, LOW, sU_self, nI_pred, nv_nI, c5, vx, c14]; done)) (mW_eq (by first | (simp [o_thingIs, er, LOW, sU_self, nI_pred, nv_nI, c5, vx, c14]; done) | (simp_all [o_thingIs, er, LOW, sU_self, nI_pred, nv_nI, c5, vx, c14]; done)) (by first | (simp [o_thingIs, er, LOW, sU_self, nI_pred, nv_nI, c5, vx, c14]; done) | (simp_all [o_thingIs, er, LOW, sU_self, nI_pred, nv_nI, c5, vx, c14]; done)))
set_option maxHeartbeats 4000000 in
set_option maxRecDepth 100000 in
theorem m5_worth (l : Launch) (D : va_G) (T : Nat → ClassId) (o : Nat) (a : Nat → Nat) (s : Nat → Int32) (S : Nat → Nat → Int32) (x : Int32) (y : Int32) (v : Int32) (h0 : Inv s) : MetW l D T yX5_worth cX5_worth 6 (some .int) 2 43 0 0 [.ref o, .int x, .int y, .int v] (mW T o a s S) (fun r_ w_ => r_ = some (.int ((o_worth s (S 3) x y v).1)) ∧ (w_ = mW T o a ((o_worth s (S 3) x y v).2.1) (sU S 3 (o_worth s (S 3) x y v).2.2))) := by
  refine metW (own := RX5) rfl (by decide) rfl (fun X h hl hDx hTx hnm hE => ?_)
  subst hl; subst hDx; subst hTx
  have hnp := h0.npl; have hnt := h0.ntl; have hnq := h0.nql
  show G X 0 0 (mW (xT X) o a s S) 0 [(0, .ref o), (1, .int x), (2, .int y), (3, .int v)] []
  refine g_aload_n h dX5_worth_0 rfl ?_
  refine g_iload_n h dX5_worth_1 rfl ?_
  refine g_callVR h (m5_isPerson _ _ _ o a s S x ) (fun _ q => q) 0 rfl rfl (lw_V q1455 q1457 qs36 q95 q1458) gy_X5_isPerson ⟨Nat.le_of_ble_eq_true rfl, Nat.le_of_ble_eq_true rfl⟩ ⟨Nat.le_of_ble_eq_true rfl, Nat.le_of_ble_eq_true rfl⟩ rfl rfl (Nat.le_of_ble_eq_true rfl) dX5_worth_2 ?_
  refine g_if_eqB h 27 dX5_worth_5 (by decide) (fun c5 => ?_) (fun c5 => ?_)
  · skip
    show G X 0 0 (mW (xT X) o a s S) 27 [(0, .ref o), (1, .int x), (2, .int y), (3, .int v)] []
    refine g_aload_n h dX5_worth_27 rfl ?_
    refine g_iconst (v := nI 1) h dX5_worth_28 (by decide) ?_
    refine g_callVW0 h hE (m5_error _ _ _ o a s S 1 (by first | assumption | omega)) 0 rfl rfl (lw_V q1446 q1448 qs35 q95 q1449) gy_X5_error ⟨Nat.le_of_ble_eq_true rfl, Nat.le_of_ble_eq_true rfl⟩ ⟨Nat.le_of_ble_eq_true rfl, Nat.le_of_ble_eq_true rfl⟩ rfl rfl (Nat.le_of_ble_eq_true rfl) dX5_worth_29 (st' := [.int (LOW - nI 1)]) rfl (fun _ e29 => ?_)
    subst e29
    exact g_iretWv h hE dX5_worth_32 (by first | (simp [o_worth, er, LOW, sU_self, nI_pred, nv_nI, c5]; done) | (simp_all [o_worth, er, LOW, sU_self, nI_pred, nv_nI, c5]; done)) (mW_eq (by first | (simp [o_worth, er, LOW, sU_self, nI_pred, nv_nI, c5]; done) | (simp_all [o_worth, er, LOW, sU_self, nI_pred, nv_nI, c5]; done)) (by first | (simp [o_worth, er, LOW, sU_self, nI_pred, nv_nI, c5]; done) | (simp_all [o_worth, er, LOW, sU_self, nI_pred, nv_nI, c5]; done)))
  · skip
    show G X 0 0 (mW (xT X) o a s S) 8 [(0, .ref o), (1, .int x), (2, .int y), (3, .int v)] []
    obtain ⟨xn, hx, rfl⟩ := isP_of h0 c5
    have vx : nv (nI xn) = xn := nv_nI (by omega)
    refine g_aload_n h dX5_worth_8 rfl ?_
    refine g_iload_n h dX5_worth_9 rfl ?_
    refine g_callVR h (m5_isThing _ _ _ o a s S y ) (fun _ q => q) 0 rfl rfl (lw_V q1514 q1516 qs45 q95 q1517) gy_X5_isThing ⟨Nat.le_of_ble_eq_true rfl, Nat.le_of_ble_eq_true rfl⟩ ⟨Nat.le_of_ble_eq_true rfl, Nat.le_of_ble_eq_true rfl⟩ rfl rfl (Nat.le_of_ble_eq_true rfl) dX5_worth_10 ?_
    refine g_if_eqB h 27 dX5_worth_13 (by decide) (fun c13 => ?_) (fun c13 => ?_)
    · skip
      show G X 0 0 (mW (xT X) o a s S) 27 [(0, .ref o), (1, .int (nI xn)), (2, .int y), (3, .int v)] []
      refine g_aload_n h dX5_worth_27 rfl ?_
      refine g_iconst (v := nI 1) h dX5_worth_28 (by decide) ?_
      refine g_callVW0 h hE (m5_error _ _ _ o a s S 1 (by first | assumption | omega)) 0 rfl rfl (lw_V q1446 q1448 qs35 q95 q1449) gy_X5_error ⟨Nat.le_of_ble_eq_true rfl, Nat.le_of_ble_eq_true rfl⟩ ⟨Nat.le_of_ble_eq_true rfl, Nat.le_of_ble_eq_true rfl⟩ rfl rfl (Nat.le_of_ble_eq_true rfl) dX5_worth_29 (st' := [.int (LOW - nI 1)]) rfl (fun _ e29 => ?_)
      subst e29
      exact g_iretWv h hE dX5_worth_32 (by first | (simp [o_worth, er, LOW, sU_self, nI_pred, nv_nI, c5, vx, c13]; done) | (simp_all [o_worth, er, LOW, sU_self, nI_pred, nv_nI, c5, vx, c13]; done)) (mW_eq (by first | (simp [o_worth, er, LOW, sU_self, nI_pred, nv_nI, c5, vx, c13]; done) | (simp_all [o_worth, er, LOW, sU_self, nI_pred, nv_nI, c5, vx, c13]; done)) (by first | (simp [o_worth, er, LOW, sU_self, nI_pred, nv_nI, c5, vx, c13]; done) | (simp_all [o_worth, er, LOW, sU_self, nI_pred, nv_nI, c5, vx, c13]; done)))
    · skip
      show G X 0 0 (mW (xT X) o a s S) 16 [(0, .ref o), (1, .int (nI xn)), (2, .int y), (3, .int v)] []
      obtain ⟨yn, hy, rfl⟩ := isT_of h0 c13
      have vy : nv (nI yn) = yn := nv_nI (by omega)
      refine g_iload_n h dX5_worth_16 rfl ?_
      refine g_iconst (v := nI 0) h dX5_worth_17 (by decide) ?_
      refine g_sipush (v := nI 9999) h dX5_worth_18 (by decide) ?_
      refine g_callSR h (m5_in _ _ _ v 0 9999 ) (fun _ q => nomatch q) (lw_S q1439 q1440 q95 q1441) gy_X5_in ⟨Nat.le_of_ble_eq_true rfl, Nat.le_of_ble_eq_true rfl⟩ ⟨Nat.le_of_ble_eq_true rfl, Nat.le_of_ble_eq_true rfl⟩ rfl rfl (Nat.le_of_ble_eq_true rfl) dX5_worth_21 ?_
      refine g_if_neB h 33 dX5_worth_24 (by decide) (fun c24 => ?_) (fun c24 => ?_)
      · skip
        show G X 0 0 (mW (xT X) o a s S) 33 [(0, .ref o), (1, .int (nI xn)), (2, .int (nI yn)), (3, .int v)] []
        refine g_bipush (v := nI 110) h dX5_worth_33 (by decide) ?_
        refine g_bipush (v := nI 12) h dX5_worth_35 (by decide) ?_
        refine g_iload_n h dX5_worth_37 rfl ?_
        refine g_imulN h dX5_worth_38 ?_
        refine g_iaddN h dX5_worth_39 ?_
        refine g_iload_n h dX5_worth_40 rfl ?_
        refine g_iaddN h dX5_worth_41 ?_
        refine g_istore (lv' := [(0, .ref o), (1, .int (nI xn)), (2, .int (nI yn)), (3, .int v), (4, .int (nI (110 + 12 * xn + yn)))]) h dX5_worth_42 (by decide) rfl ?_
        refine g_aload_n h dX5_worth_44 rfl ?_
        refine g_get h in_X5 0 rfl rfl 0 rfl q1374 rfl rfl dX5_worth_45 ?_
        refine g_iload h dX5_worth_48 rfl ?_
        refine g_iald h 1 rfl (by first | assumption | omega) (by decide) dX5_worth_50 ?_
        refine g_istore (lv' := [(0, .ref o), (1, .int (nI xn)), (2, .int (nI yn)), (3, .int v), (4, .int (nI (110 + 12 * xn + yn))), (5, .int (s (110 + 12 * xn + yn)))]) h dX5_worth_51 (by decide) rfl ?_
        refine g_aload_n h dX5_worth_53 rfl ?_
        refine g_get h in_X5 0 rfl rfl 0 rfl q1374 rfl rfl dX5_worth_54 ?_
        refine g_iload h dX5_worth_57 rfl ?_
        refine g_iload_n h dX5_worth_59 rfl ?_
        refine g_iast (ws' := mW (xT X) o a (upd s (110 + 12 * xn + yn) v) S) h hE.1 1 rfl (by first | assumption | omega) (by decide) dX5_worth_60 rfl ?_
        refine g_iload h dX5_worth_61 rfl ?_
        exact g_iretWv h hE dX5_worth_63 (by first | (simp [o_worth, er, LOW, sU_self, nI_pred, nv_nI, c5, vx, c13, vy, c24]; done) | (simp_all [o_worth, er, LOW, sU_self, nI_pred, nv_nI, c5, vx, c13, vy, c24]; done)) (mW_eq (by first | (simp [o_worth, er, LOW, sU_self, nI_pred, nv_nI, c5, vx, c13, vy, c24]; done) | (simp_all [o_worth, er, LOW, sU_self, nI_pred, nv_nI, c5, vx, c13, vy, c24]; done)) (by first | (simp [o_worth, er, LOW, sU_self, nI_pred, nv_nI, c5, vx, c13, vy, c24]; done) | (simp_all [o_worth, er, LOW, sU_self, nI_pred, nv_nI, c5, vx, c13, vy, c24]; done)))
      · skip
        show G X 0 0 (mW (xT X) o a s S) 27 [(0, .ref o), (1, .int (nI xn)), (2, .int (nI yn)), (3, .int v)] []
        refine g_aload_n h dX5_worth_27 rfl ?_
        refine g_iconst (v := nI 1) h dX5_worth_28 (by decide) ?_
        refine g_callVW0 h hE (m5_error _ _ _ o a s S 1 (by first | assumption | omega)) 0 rfl rfl (lw_V q1446 q1448 qs35 q95 q1449) gy_X5_error ⟨Nat.le_of_ble_eq_true rfl, Nat.le_of_ble_eq_true rfl⟩ ⟨Nat.le_of_ble_eq_true rfl, Nat.le_of_ble_eq_true rfl⟩ rfl rfl (Nat.le_of_ble_eq_true rfl) dX5_worth_29 (st' := [.int (LOW - nI 1)]) rfl (fun _ e29 => ?_)
        subst e29
        exact g_iretWv h hE dX5_worth_32 (by first | (simp [o_worth, er, LOW, sU_self, nI_pred, nv_nI, c5, vx, c13, vy, c24]; done) | (simp_all [o_worth, er, LOW, sU_self, nI_pred, nv_nI, c5, vx, c13, vy, c24]; done)) (mW_eq (by first | (simp [o_worth, er, LOW, sU_self, nI_pred, nv_nI, c5, vx, c13, vy, c24]; done) | (simp_all [o_worth, er, LOW, sU_self, nI_pred, nv_nI, c5, vx, c13, vy, c24]; done)) (by first | (simp [o_worth, er, LOW, sU_self, nI_pred, nv_nI, c5, vx, c13, vy, c24]; done) | (simp_all [o_worth, er, LOW, sU_self, nI_pred, nv_nI, c5, vx, c13, vy, c24]; done)))
set_option maxHeartbeats 4000000 in
set_option maxRecDepth 100000 in
theorem m5_price (l : Launch) (D : va_G) (T : Nat → ClassId) (o : Nat) (a : Nat → Nat) (s : Nat → Int32) (S : Nat → Nat → Int32) (x : Int32) (v : Int32) (h0 : Inv s) : MetW l D T yX5_price cX5_price 4 (some .int) 2 43 0 0 [.ref o, .int x, .int v] (mW T o a s S) (fun r_ w_ => r_ = some (.int ((o_price s (S 3) x v).1)) ∧ (w_ = mW T o a ((o_price s (S 3) x v).2.1) (sU S 3 (o_price s (S 3) x v).2.2))) := by
  refine metW (own := RX5) rfl (by decide) rfl (fun X h hl hDx hTx hnm hE => ?_)
  subst hl; subst hDx; subst hTx
  have hnp := h0.npl; have hnt := h0.ntl; have hnq := h0.nql
  show G X 0 0 (mW (xT X) o a s S) 0 [(0, .ref o), (1, .int x), (2, .int v)] []
  refine g_aload_n h dX5_price_0 rfl ?_
  refine g_iload_n h dX5_price_1 rfl ?_
  refine g_callVR h (m5_isThing _ _ _ o a s S x ) (fun _ q => q) 0 rfl rfl (lw_V q1514 q1516 qs45 q95 q1517) gy_X5_isThing ⟨Nat.le_of_ble_eq_true rfl, Nat.le_of_ble_eq_true rfl⟩ ⟨Nat.le_of_ble_eq_true rfl, Nat.le_of_ble_eq_true rfl⟩ rfl rfl (Nat.le_of_ble_eq_true rfl) dX5_price_2 ?_
  refine g_if_eqB h 19 dX5_price_5 (by decide) (fun c5 => ?_) (fun c5 => ?_)
  · skip
    show G X 0 0 (mW (xT X) o a s S) 19 [(0, .ref o), (1, .int x), (2, .int v)] []
    refine g_aload_n h dX5_price_19 rfl ?_
    refine g_iconst (v := nI 1) h dX5_price_20 (by decide) ?_
    refine g_callVW0 h hE (m5_error _ _ _ o a s S 1 (by first | assumption | omega)) 0 rfl rfl (lw_V q1446 q1448 qs35 q95 q1449) gy_X5_error ⟨Nat.le_of_ble_eq_true rfl, Nat.le_of_ble_eq_true rfl⟩ ⟨Nat.le_of_ble_eq_true rfl, Nat.le_of_ble_eq_true rfl⟩ rfl rfl (Nat.le_of_ble_eq_true rfl) dX5_price_21 (st' := [.int (LOW - nI 1)]) rfl (fun _ e21 => ?_)
    subst e21
    exact g_iretWv h hE dX5_price_24 (by first | (simp [o_price, er, LOW, sU_self, nI_pred, nv_nI, c5]; done) | (simp_all [o_price, er, LOW, sU_self, nI_pred, nv_nI, c5]; done)) (mW_eq (by first | (simp [o_price, er, LOW, sU_self, nI_pred, nv_nI, c5]; done) | (simp_all [o_price, er, LOW, sU_self, nI_pred, nv_nI, c5]; done)) (by first | (simp [o_price, er, LOW, sU_self, nI_pred, nv_nI, c5]; done) | (simp_all [o_price, er, LOW, sU_self, nI_pred, nv_nI, c5]; done)))
  · skip
    show G X 0 0 (mW (xT X) o a s S) 8 [(0, .ref o), (1, .int x), (2, .int v)] []
    obtain ⟨xn, hx, rfl⟩ := isT_of h0 c5
    have vx : nv (nI xn) = xn := nv_nI (by omega)
    refine g_iload_n h dX5_price_8 rfl ?_
    refine g_iconst (v := nI 0) h dX5_price_9 (by decide) ?_
    refine g_sipush (v := nI 9999) h dX5_price_10 (by decide) ?_
    refine g_callSR h (m5_in _ _ _ v 0 9999 ) (fun _ q => nomatch q) (lw_S q1439 q1440 q95 q1441) gy_X5_in ⟨Nat.le_of_ble_eq_true rfl, Nat.le_of_ble_eq_true rfl⟩ ⟨Nat.le_of_ble_eq_true rfl, Nat.le_of_ble_eq_true rfl⟩ rfl rfl (Nat.le_of_ble_eq_true rfl) dX5_price_13 ?_
    refine g_if_neB h 25 dX5_price_16 (by decide) (fun c16 => ?_) (fun c16 => ?_)
    · skip
      show G X 0 0 (mW (xT X) o a s S) 25 [(0, .ref o), (1, .int (nI xn)), (2, .int v)] []
      refine g_aload_n h dX5_price_25 rfl ?_
      refine g_iload_n h dX5_price_26 rfl ?_
      refine g_iconst (v := nI 1) h dX5_price_27 (by decide) ?_
      refine g_callVR h (m5_its _ _ _ o a s S xn 1 (by first | assumption | omega)) (fun _ q => q) 0 rfl rfl (lw_V q1479 q1481 qs42 q95 q1482) gy_X5_its ⟨Nat.le_of_ble_eq_true rfl, Nat.le_of_ble_eq_true rfl⟩ ⟨Nat.le_of_ble_eq_true rfl, Nat.le_of_ble_eq_true rfl⟩ rfl rfl (Nat.le_of_ble_eq_true rfl) dX5_price_28 ?_
      refine g_istore_n (lv' := [(0, .ref o), (1, .int (nI xn)), (2, .int v), (3, .int (s (44 + 4 * xn + 1)))]) h dX5_price_31 (by decide) rfl ?_
      refine g_aload_n h dX5_price_32 rfl ?_
      refine g_get h in_X5 0 rfl rfl 0 rfl q1374 rfl rfl dX5_price_33 ?_
      refine g_bipush (v := nI 44) h dX5_price_36 (by decide) ?_
      refine g_iconst (v := nI 4) h dX5_price_38 (by decide) ?_
      refine g_iload_n h dX5_price_39 rfl ?_
      refine g_imulN h dX5_price_40 ?_
      refine g_iaddN h dX5_price_41 ?_
      refine g_iconst (v := nI 1) h dX5_price_42 (by decide) ?_
      refine g_iaddN h dX5_price_43 ?_
      refine g_iload_n h dX5_price_44 rfl ?_
      refine g_iast (ws' := mW (xT X) o a (upd s (44 + 4 * xn + 1) v) S) h hE.1 1 rfl (by first | assumption | omega) (by decide) dX5_price_45 rfl ?_
      refine g_iload_n h dX5_price_46 rfl ?_
      exact g_iretWv h hE dX5_price_47 (by first | (simp [o_price, er, LOW, sU_self, nI_pred, nv_nI, c5, vx, c16]; done) | (simp_all [o_price, er, LOW, sU_self, nI_pred, nv_nI, c5, vx, c16]; done)) (mW_eq (by first | (simp [o_price, er, LOW, sU_self, nI_pred, nv_nI, c5, vx, c16]; done) | (simp_all [o_price, er, LOW, sU_self, nI_pred, nv_nI, c5, vx, c16]; done)) (by first | (simp [o_price, er, LOW, sU_self, nI_pred, nv_nI, c5, vx, c16]; done) | (simp_all [o_price, er, LOW, sU_self, nI_pred, nv_nI, c5, vx, c16]; done)))
    · skip
      show G X 0 0 (mW (xT X) o a s S) 19 [(0, .ref o), (1, .int (nI xn)), (2, .int v)] []
      refine g_aload_n h dX5_price_19 rfl ?_
      refine g_iconst (v := nI 1) h dX5_price_20 (by decide) ?_
      refine g_callVW0 h hE (m5_error _ _ _ o a s S 1 (by first | assumption | omega)) 0 rfl rfl (lw_V q1446 q1448 qs35 q95 q1449) gy_X5_error ⟨Nat.le_of_ble_eq_true rfl, Nat.le_of_ble_eq_true rfl⟩ ⟨Nat.le_of_ble_eq_true rfl, Nat.le_of_ble_eq_true rfl⟩ rfl rfl (Nat.le_of_ble_eq_true rfl) dX5_price_21 (st' := [.int (LOW - nI 1)]) rfl (fun _ e21 => ?_)
      subst e21
      exact g_iretWv h hE dX5_price_24 (by first | (simp [o_price, er, LOW, sU_self, nI_pred, nv_nI, c5, vx, c16]; done) | (simp_all [o_price, er, LOW, sU_self, nI_pred, nv_nI, c5, vx, c16]; done)) (mW_eq (by first | (simp [o_price, er, LOW, sU_self, nI_pred, nv_nI, c5, vx, c16]; done) | (simp_all [o_price, er, LOW, sU_self, nI_pred, nv_nI, c5, vx, c16]; done)) (by first | (simp [o_price, er, LOW, sU_self, nI_pred, nv_nI, c5, vx, c16]; done) | (simp_all [o_price, er, LOW, sU_self, nI_pred, nv_nI, c5, vx, c16]; done)))
set_option maxHeartbeats 4000000 in
set_option maxRecDepth 100000 in
theorem m5_keep (l : Launch) (D : va_G) (T : Nat → ClassId) (o : Nat) (a : Nat → Nat) (s : Nat → Int32) (S : Nat → Nat → Int32) (x : Int32) (on : Int32) (h0 : Inv s) : MetW l D T yX5_keep cX5_keep 4 (some .int) 3 68 0 0 [.ref o, .int x, .int on] (mW T o a s S) (fun r_ w_ => r_ = some (.int ((o_keep s (S 3) x on).1)) ∧ (w_ = mW T o a ((o_keep s (S 3) x on).2.1) (sU S 3 (o_keep s (S 3) x on).2.2))) := by
  refine metW (own := RX5) rfl (by decide) rfl (fun X h hl hDx hTx hnm hE => ?_)
  subst hl; subst hDx; subst hTx
  have hnp := h0.npl; have hnt := h0.ntl; have hnq := h0.nql
  show G X 0 0 (mW (xT X) o a s S) 0 [(0, .ref o), (1, .int x), (2, .int on)] []
  refine g_aload_n h dX5_keep_0 rfl ?_
  refine g_iload_n h dX5_keep_1 rfl ?_
  refine g_callVR h (m5_isThing _ _ _ o a s S x ) (fun _ q => q) 0 rfl rfl (lw_V q1514 q1516 qs45 q95 q1517) gy_X5_isThing ⟨Nat.le_of_ble_eq_true rfl, Nat.le_of_ble_eq_true rfl⟩ ⟨Nat.le_of_ble_eq_true rfl, Nat.le_of_ble_eq_true rfl⟩ rfl rfl (Nat.le_of_ble_eq_true rfl) dX5_keep_2 ?_
  refine g_if_eqB h 17 dX5_keep_5 (by decide) (fun c5 => ?_) (fun c5 => ?_)
  · skip
    show G X 0 0 (mW (xT X) o a s S) 17 [(0, .ref o), (1, .int x), (2, .int on)] []
    refine g_aload_n h dX5_keep_17 rfl ?_
    refine g_iconst (v := nI 1) h dX5_keep_18 (by decide) ?_
    refine g_callVW0 h hE (m5_error _ _ _ o a s S 1 (by first | assumption | omega)) 0 rfl rfl (lw_V q1446 q1448 qs35 q95 q1449) gy_X5_error ⟨Nat.le_of_ble_eq_true rfl, Nat.le_of_ble_eq_true rfl⟩ ⟨Nat.le_of_ble_eq_true rfl, Nat.le_of_ble_eq_true rfl⟩ rfl rfl (Nat.le_of_ble_eq_true rfl) dX5_keep_19 (st' := [.int (LOW - nI 1)]) rfl (fun _ e19 => ?_)
    subst e19
    exact g_iretWv h hE dX5_keep_22 (by first | (simp [o_keep, er, LOW, sU_self, nI_pred, nv_nI, c5]; done) | (simp_all [o_keep, er, LOW, sU_self, nI_pred, nv_nI, c5]; done)) (mW_eq (by first | (simp [o_keep, er, LOW, sU_self, nI_pred, nv_nI, c5]; done) | (simp_all [o_keep, er, LOW, sU_self, nI_pred, nv_nI, c5]; done)) (by first | (simp [o_keep, er, LOW, sU_self, nI_pred, nv_nI, c5]; done) | (simp_all [o_keep, er, LOW, sU_self, nI_pred, nv_nI, c5]; done)))
  · skip
    show G X 0 0 (mW (xT X) o a s S) 8 [(0, .ref o), (1, .int x), (2, .int on)] []
    obtain ⟨xn, hx, rfl⟩ := isT_of h0 c5
    have vx : nv (nI xn) = xn := nv_nI (by omega)
    refine g_iload_n h dX5_keep_8 rfl ?_
    refine g_iconst (v := nI 0) h dX5_keep_9 (by decide) ?_
    refine g_iconst (v := nI 1) h dX5_keep_10 (by decide) ?_
    refine g_callSR h (m5_in _ _ _ on 0 1 ) (fun _ q => nomatch q) (lw_S q1439 q1440 q95 q1441) gy_X5_in ⟨Nat.le_of_ble_eq_true rfl, Nat.le_of_ble_eq_true rfl⟩ ⟨Nat.le_of_ble_eq_true rfl, Nat.le_of_ble_eq_true rfl⟩ rfl rfl (Nat.le_of_ble_eq_true rfl) dX5_keep_11 ?_
    refine g_if_neB h 23 dX5_keep_14 (by decide) (fun c14 => ?_) (fun c14 => ?_)
    · skip
      show G X 0 0 (mW (xT X) o a s S) 23 [(0, .ref o), (1, .int (nI xn)), (2, .int on)] []
      refine g_aload_n h dX5_keep_23 rfl ?_
      refine g_iload_n h dX5_keep_24 rfl ?_
      refine g_iconst (v := nI 3) h dX5_keep_25 (by decide) ?_
      refine g_callVR h (m5_its _ _ _ o a s S xn 3 (by first | assumption | omega)) (fun _ q => q) 0 rfl rfl (lw_V q1479 q1481 qs42 q95 q1482) gy_X5_its ⟨Nat.le_of_ble_eq_true rfl, Nat.le_of_ble_eq_true rfl⟩ ⟨Nat.le_of_ble_eq_true rfl, Nat.le_of_ble_eq_true rfl⟩ rfl rfl (Nat.le_of_ble_eq_true rfl) dX5_keep_26 ?_
      refine g_istore_n (lv' := [(0, .ref o), (1, .int (nI xn)), (2, .int on), (3, .int (s (44 + 4 * xn + 3)))]) h dX5_keep_29 (by decide) rfl ?_
      refine g_iload_n h dX5_keep_30 rfl ?_
      refine g_iconst (v := nI 1) h dX5_keep_31 (by decide) ?_
      refine g_toI (y := 1) rfl ?_
      refine g_icmp_ne h 65 dX5_keep_32 (by decide) (fun c32 => ?_) (fun c32 => ?_)
      · skip
        show G X 0 0 (mW (xT X) o a s S) 65 [(0, .ref o), (1, .int (nI xn)), (2, .int on), (3, .int (s (44 + 4 * xn + 3)))] []
        refine g_aload_n h dX5_keep_65 rfl ?_
        refine g_get h in_X5 0 rfl rfl 0 rfl q1374 rfl rfl dX5_keep_66 ?_
        refine g_bipush (v := nI 44) h dX5_keep_69 (by decide) ?_
        refine g_iconst (v := nI 4) h dX5_keep_71 (by decide) ?_
        refine g_iload_n h dX5_keep_72 rfl ?_
        refine g_imulN h dX5_keep_73 ?_
        refine g_iaddN h dX5_keep_74 ?_
        refine g_iconst (v := nI 3) h dX5_keep_75 (by decide) ?_
        refine g_iaddN h dX5_keep_76 ?_
        refine g_iload_n h dX5_keep_77 rfl ?_
        refine g_iast (ws' := mW (xT X) o a (upd s (44 + 4 * xn + 3) on) S) h hE.1 1 rfl (by first | assumption | omega) (by decide) dX5_keep_78 rfl ?_
        refine g_iload_n h dX5_keep_79 rfl ?_
        exact g_iretWv h hE dX5_keep_80 (by first | (simp [o_keep, er, LOW, sU_self, nI_pred, nv_nI, c5, vx, c14, c32]; done) | (simp_all [o_keep, er, LOW, sU_self, nI_pred, nv_nI, c5, vx, c14, c32]; done)) (mW_eq (by first | (simp [o_keep, er, LOW, sU_self, nI_pred, nv_nI, c5, vx, c14, c32]; done) | (simp_all [o_keep, er, LOW, sU_self, nI_pred, nv_nI, c5, vx, c14, c32]; done)) (by first | (simp [o_keep, er, LOW, sU_self, nI_pred, nv_nI, c5, vx, c14, c32]; done) | (simp_all [o_keep, er, LOW, sU_self, nI_pred, nv_nI, c5, vx, c14, c32]; done)))
      · skip
        show G X 0 0 (mW (xT X) o a s S) 35 [(0, .ref o), (1, .int (nI xn)), (2, .int on), (3, .int (s (44 + 4 * xn + 3)))] []
        refine g_iload_n h dX5_keep_35 rfl ?_
        refine g_if_ne h 65 dX5_keep_36 (by decide) (fun c36 => ?_) (fun c36 => ?_)
        · skip
          show G X 0 0 (mW (xT X) o a s S) 65 [(0, .ref o), (1, .int (nI xn)), (2, .int on), (3, .int (s (44 + 4 * xn + 3)))] []
          refine g_aload_n h dX5_keep_65 rfl ?_
          refine g_get h in_X5 0 rfl rfl 0 rfl q1374 rfl rfl dX5_keep_66 ?_
          refine g_bipush (v := nI 44) h dX5_keep_69 (by decide) ?_
          refine g_iconst (v := nI 4) h dX5_keep_71 (by decide) ?_
          refine g_iload_n h dX5_keep_72 rfl ?_
          refine g_imulN h dX5_keep_73 ?_
          refine g_iaddN h dX5_keep_74 ?_
          refine g_iconst (v := nI 3) h dX5_keep_75 (by decide) ?_
          refine g_iaddN h dX5_keep_76 ?_
          refine g_iload_n h dX5_keep_77 rfl ?_
          refine g_iast (ws' := mW (xT X) o a (upd s (44 + 4 * xn + 3) on) S) h hE.1 1 rfl (by first | assumption | omega) (by decide) dX5_keep_78 rfl ?_
          refine g_iload_n h dX5_keep_79 rfl ?_
          exact g_iretWv h hE dX5_keep_80 (by first | (simp [o_keep, er, LOW, sU_self, nI_pred, nv_nI, c5, vx, c14, c32, c36]; done) | (simp_all [o_keep, er, LOW, sU_self, nI_pred, nv_nI, c5, vx, c14, c32, c36]; done)) (mW_eq (by first | (simp [o_keep, er, LOW, sU_self, nI_pred, nv_nI, c5, vx, c14, c32, c36]; done) | (simp_all [o_keep, er, LOW, sU_self, nI_pred, nv_nI, c5, vx, c14, c32, c36]; done)) (by first | (simp [o_keep, er, LOW, sU_self, nI_pred, nv_nI, c5, vx, c14, c32, c36]; done) | (simp_all [o_keep, er, LOW, sU_self, nI_pred, nv_nI, c5, vx, c14, c32, c36]; done)))
        · skip
          show G X 0 0 (mW (xT X) o a s S) 39 [(0, .ref o), (1, .int (nI xn)), (2, .int on), (3, .int (s (44 + 4 * xn + 3)))] []
          refine g_aload_n h dX5_keep_39 rfl ?_
          refine g_aload_n h dX5_keep_40 rfl ?_
          refine g_iload_n h dX5_keep_41 rfl ?_
          refine g_callVR h (m5_owner _ _ _ o a s S xn (by first | assumption | omega)) (fun _ q => q) 0 rfl rfl (lw_V q1475 q1477 qs41 q95 q1478) gy_X5_owner ⟨Nat.le_of_ble_eq_true rfl, Nat.le_of_ble_eq_true rfl⟩ ⟨Nat.le_of_ble_eq_true rfl, Nat.le_of_ble_eq_true rfl⟩ rfl rfl (Nat.le_of_ble_eq_true rfl) dX5_keep_42 ?_
          refine g_toN (a := owr s xn) (h0.owE hx) ?_
          refine g_iconst (v := nI 4) h dX5_keep_45 (by decide) ?_
          refine g_callVR h (m5_owns _ _ _ o a s S (owr s xn) 4 h0 (h0.owlE hx)) (fun _ q => q) 0 rfl rfl (lw_V q1483 q1485 qs43 q95 q1486) gy_X5_owns ⟨Nat.le_of_ble_eq_true rfl, Nat.le_of_ble_eq_true rfl⟩ ⟨Nat.le_of_ble_eq_true rfl, Nat.le_of_ble_eq_true rfl⟩ rfl rfl (Nat.le_of_ble_eq_true rfl) dX5_keep_46 ?_
          refine g_aload_n h dX5_keep_49 rfl ?_
          refine g_get h in_X5 0 rfl rfl 0 rfl q1374 rfl rfl dX5_keep_50 ?_
          refine g_bipush (v := nI 13) h dX5_keep_53 (by decide) ?_
          refine g_iald h 1 rfl (by first | assumption | omega) (by decide) dX5_keep_55 ?_
          refine g_icmp_lt h 65 dX5_keep_56 (by decide) (fun c56 => ?_) (fun c56 => ?_)
          · skip
            show G X 0 0 (mW (xT X) o a s S) 65 [(0, .ref o), (1, .int (nI xn)), (2, .int on), (3, .int (s (44 + 4 * xn + 3)))] []
            refine g_aload_n h dX5_keep_65 rfl ?_
            refine g_get h in_X5 0 rfl rfl 0 rfl q1374 rfl rfl dX5_keep_66 ?_
            refine g_bipush (v := nI 44) h dX5_keep_69 (by decide) ?_
            refine g_iconst (v := nI 4) h dX5_keep_71 (by decide) ?_
            refine g_iload_n h dX5_keep_72 rfl ?_
            refine g_imulN h dX5_keep_73 ?_
            refine g_iaddN h dX5_keep_74 ?_
            refine g_iconst (v := nI 3) h dX5_keep_75 (by decide) ?_
            refine g_iaddN h dX5_keep_76 ?_
            refine g_iload_n h dX5_keep_77 rfl ?_
            refine g_iast (ws' := mW (xT X) o a (upd s (44 + 4 * xn + 3) on) S) h hE.1 1 rfl (by first | assumption | omega) (by decide) dX5_keep_78 rfl ?_
            refine g_iload_n h dX5_keep_79 rfl ?_
            exact g_iretWv h hE dX5_keep_80 (by first | (simp [o_keep, er, LOW, sU_self, nI_pred, nv_nI, c5, vx, c14, c32, c36, c56]; done) | (simp_all [o_keep, er, LOW, sU_self, nI_pred, nv_nI, c5, vx, c14, c32, c36, c56]; done)) (mW_eq (by first | (simp [o_keep, er, LOW, sU_self, nI_pred, nv_nI, c5, vx, c14, c32, c36, c56]; done) | (simp_all [o_keep, er, LOW, sU_self, nI_pred, nv_nI, c5, vx, c14, c32, c36, c56]; done)) (by first | (simp [o_keep, er, LOW, sU_self, nI_pred, nv_nI, c5, vx, c14, c32, c36, c56]; done) | (simp_all [o_keep, er, LOW, sU_self, nI_pred, nv_nI, c5, vx, c14, c32, c36, c56]; done)))
          · skip
            show G X 0 0 (mW (xT X) o a s S) 59 [(0, .ref o), (1, .int (nI xn)), (2, .int on), (3, .int (s (44 + 4 * xn + 3)))] []
            refine g_aload_n h dX5_keep_59 rfl ?_
            refine g_iconst (v := nI 3) h dX5_keep_60 (by decide) ?_
            refine g_callVW0 h hE (m5_error _ _ _ o a s S 3 (by first | assumption | omega)) 0 rfl rfl (lw_V q1446 q1448 qs35 q95 q1449) gy_X5_error ⟨Nat.le_of_ble_eq_true rfl, Nat.le_of_ble_eq_true rfl⟩ ⟨Nat.le_of_ble_eq_true rfl, Nat.le_of_ble_eq_true rfl⟩ rfl rfl (Nat.le_of_ble_eq_true rfl) dX5_keep_61 (st' := [.int (LOW - nI 3)]) rfl (fun _ e61 => ?_)
            subst e61
            exact g_iretWv h hE dX5_keep_64 (by first | (simp [o_keep, er, LOW, sU_self, nI_pred, nv_nI, c5, vx, c14, c32, c36, c56]; done) | (simp_all [o_keep, er, LOW, sU_self, nI_pred, nv_nI, c5, vx, c14, c32, c36, c56]; done)) (mW_eq (by first | (simp [o_keep, er, LOW, sU_self, nI_pred, nv_nI, c5, vx, c14, c32, c36, c56]; done) | (simp_all [o_keep, er, LOW, sU_self, nI_pred, nv_nI, c5, vx, c14, c32, c36, c56]; done)) (by first | (simp [o_keep, er, LOW, sU_self, nI_pred, nv_nI, c5, vx, c14, c32, c36, c56]; done) | (simp_all [o_keep, er, LOW, sU_self, nI_pred, nv_nI, c5, vx, c14, c32, c36, c56]; done)))
    · skip
      show G X 0 0 (mW (xT X) o a s S) 17 [(0, .ref o), (1, .int (nI xn)), (2, .int on)] []
      refine g_aload_n h dX5_keep_17 rfl ?_
      refine g_iconst (v := nI 1) h dX5_keep_18 (by decide) ?_
      refine g_callVW0 h hE (m5_error _ _ _ o a s S 1 (by first | assumption | omega)) 0 rfl rfl (lw_V q1446 q1448 qs35 q95 q1449) gy_X5_error ⟨Nat.le_of_ble_eq_true rfl, Nat.le_of_ble_eq_true rfl⟩ ⟨Nat.le_of_ble_eq_true rfl, Nat.le_of_ble_eq_true rfl⟩ rfl rfl (Nat.le_of_ble_eq_true rfl) dX5_keep_19 (st' := [.int (LOW - nI 1)]) rfl (fun _ e19 => ?_)
      subst e19
      exact g_iretWv h hE dX5_keep_22 (by first | (simp [o_keep, er, LOW, sU_self, nI_pred, nv_nI, c5, vx, c14]; done) | (simp_all [o_keep, er, LOW, sU_self, nI_pred, nv_nI, c5, vx, c14]; done)) (mW_eq (by first | (simp [o_keep, er, LOW, sU_self, nI_pred, nv_nI, c5, vx, c14]; done) | (simp_all [o_keep, er, LOW, sU_self, nI_pred, nv_nI, c5, vx, c14]; done)) (by first | (simp [o_keep, er, LOW, sU_self, nI_pred, nv_nI, c5, vx, c14]; done) | (simp_all [o_keep, er, LOW, sU_self, nI_pred, nv_nI, c5, vx, c14]; done)))
set_option maxHeartbeats 4000000 in
set_option maxRecDepth 100000 in
theorem m5_pair (l : Launch) (D : va_G) (T : Nat → ClassId) (o : Nat) (a : Nat → Nat) (s : Nat → Int32) (S : Nat → Nat → Int32) (x : Int32) (y : Int32) (b : Int32) (h0 : Inv s) : MetW l D T yX5_pair cX5_pair 5 (some .int) 2 43 0 0 [.ref o, .int x, .int y, .int b] (mW T o a s S) (fun r_ w_ => r_ = some (.int ((o_pair s (S 3) x y b).1)) ∧ (w_ = mW T o a ((o_pair s (S 3) x y b).2.1) (sU S 3 (o_pair s (S 3) x y b).2.2))) := by
  refine metW (own := RX5) rfl (by decide) rfl (fun X h hl hDx hTx hnm hE => ?_)
  subst hl; subst hDx; subst hTx
  have hnp := h0.npl; have hnt := h0.ntl; have hnq := h0.nql
  show G X 0 0 (mW (xT X) o a s S) 0 [(0, .ref o), (1, .int x), (2, .int y), (3, .int b)] []
  refine g_aload_n h dX5_pair_0 rfl ?_
  refine g_iload_n h dX5_pair_1 rfl ?_
  refine g_callVR h (m5_isThing _ _ _ o a s S x ) (fun _ q => q) 0 rfl rfl (lw_V q1514 q1516 qs45 q95 q1517) gy_X5_isThing ⟨Nat.le_of_ble_eq_true rfl, Nat.le_of_ble_eq_true rfl⟩ ⟨Nat.le_of_ble_eq_true rfl, Nat.le_of_ble_eq_true rfl⟩ rfl rfl (Nat.le_of_ble_eq_true rfl) dX5_pair_2 ?_
  refine g_if_eqB h 32 dX5_pair_5 (by decide) (fun c5 => ?_) (fun c5 => ?_)
  · skip
    show G X 0 0 (mW (xT X) o a s S) 32 [(0, .ref o), (1, .int x), (2, .int y), (3, .int b)] []
    refine g_aload_n h dX5_pair_32 rfl ?_
    refine g_iconst (v := nI 1) h dX5_pair_33 (by decide) ?_
    refine g_callVW0 h hE (m5_error _ _ _ o a s S 1 (by first | assumption | omega)) 0 rfl rfl (lw_V q1446 q1448 qs35 q95 q1449) gy_X5_error ⟨Nat.le_of_ble_eq_true rfl, Nat.le_of_ble_eq_true rfl⟩ ⟨Nat.le_of_ble_eq_true rfl, Nat.le_of_ble_eq_true rfl⟩ rfl rfl (Nat.le_of_ble_eq_true rfl) dX5_pair_34 (st' := [.int (LOW - nI 1)]) rfl (fun _ e34 => ?_)
    subst e34
    exact g_iretWv h hE dX5_pair_37 (by first | (simp [o_pair, er, LOW, sU_self, nI_pred, nv_nI, c5]; done) | (simp_all [o_pair, er, LOW, sU_self, nI_pred, nv_nI, c5]; done)) (mW_eq (by first | (simp [o_pair, er, LOW, sU_self, nI_pred, nv_nI, c5]; done) | (simp_all [o_pair, er, LOW, sU_self, nI_pred, nv_nI, c5]; done)) (by first | (simp [o_pair, er, LOW, sU_self, nI_pred, nv_nI, c5]; done) | (simp_all [o_pair, er, LOW, sU_self, nI_pred, nv_nI, c5]; done)))
  · skip
    show G X 0 0 (mW (xT X) o a s S) 8 [(0, .ref o), (1, .int x), (2, .int y), (3, .int b)] []
    obtain ⟨xn, hx, rfl⟩ := isT_of h0 c5
    have vx : nv (nI xn) = xn := nv_nI (by omega)
    refine g_aload_n h dX5_pair_8 rfl ?_
    refine g_iload_n h dX5_pair_9 rfl ?_
    refine g_callVR h (m5_isThing _ _ _ o a s S y ) (fun _ q => q) 0 rfl rfl (lw_V q1514 q1516 qs45 q95 q1517) gy_X5_isThing ⟨Nat.le_of_ble_eq_true rfl, Nat.le_of_ble_eq_true rfl⟩ ⟨Nat.le_of_ble_eq_true rfl, Nat.le_of_ble_eq_true rfl⟩ rfl rfl (Nat.le_of_ble_eq_true rfl) dX5_pair_10 ?_
    refine g_if_eqB h 32 dX5_pair_13 (by decide) (fun c13 => ?_) (fun c13 => ?_)
    · skip
      show G X 0 0 (mW (xT X) o a s S) 32 [(0, .ref o), (1, .int (nI xn)), (2, .int y), (3, .int b)] []
      refine g_aload_n h dX5_pair_32 rfl ?_
      refine g_iconst (v := nI 1) h dX5_pair_33 (by decide) ?_
      refine g_callVW0 h hE (m5_error _ _ _ o a s S 1 (by first | assumption | omega)) 0 rfl rfl (lw_V q1446 q1448 qs35 q95 q1449) gy_X5_error ⟨Nat.le_of_ble_eq_true rfl, Nat.le_of_ble_eq_true rfl⟩ ⟨Nat.le_of_ble_eq_true rfl, Nat.le_of_ble_eq_true rfl⟩ rfl rfl (Nat.le_of_ble_eq_true rfl) dX5_pair_34 (st' := [.int (LOW - nI 1)]) rfl (fun _ e34 => ?_)
      subst e34
      exact g_iretWv h hE dX5_pair_37 (by first | (simp [o_pair, er, LOW, sU_self, nI_pred, nv_nI, c5, vx, c13]; done) | (simp_all [o_pair, er, LOW, sU_self, nI_pred, nv_nI, c5, vx, c13]; done)) (mW_eq (by first | (simp [o_pair, er, LOW, sU_self, nI_pred, nv_nI, c5, vx, c13]; done) | (simp_all [o_pair, er, LOW, sU_self, nI_pred, nv_nI, c5, vx, c13]; done)) (by first | (simp [o_pair, er, LOW, sU_self, nI_pred, nv_nI, c5, vx, c13]; done) | (simp_all [o_pair, er, LOW, sU_self, nI_pred, nv_nI, c5, vx, c13]; done)))
    · skip
      show G X 0 0 (mW (xT X) o a s S) 16 [(0, .ref o), (1, .int (nI xn)), (2, .int y), (3, .int b)] []
      obtain ⟨yn, hy, rfl⟩ := isT_of h0 c13
      have vy : nv (nI yn) = yn := nv_nI (by omega)
      refine g_iload_n h dX5_pair_16 rfl ?_
      refine g_iload_n h dX5_pair_17 rfl ?_
      refine g_icmp_eqN h 32 dX5_pair_18 (by decide) (by first | omega | decide) (by first | omega | decide) (fun c18 => ?_) (fun c18 => ?_)
      · skip
        show G X 0 0 (mW (xT X) o a s S) 32 [(0, .ref o), (1, .int (nI xn)), (2, .int (nI yn)), (3, .int b)] []
        refine g_aload_n h dX5_pair_32 rfl ?_
        refine g_iconst (v := nI 1) h dX5_pair_33 (by decide) ?_
        refine g_callVW0 h hE (m5_error _ _ _ o a s S 1 (by first | assumption | omega)) 0 rfl rfl (lw_V q1446 q1448 qs35 q95 q1449) gy_X5_error ⟨Nat.le_of_ble_eq_true rfl, Nat.le_of_ble_eq_true rfl⟩ ⟨Nat.le_of_ble_eq_true rfl, Nat.le_of_ble_eq_true rfl⟩ rfl rfl (Nat.le_of_ble_eq_true rfl) dX5_pair_34 (st' := [.int (LOW - nI 1)]) rfl (fun _ e34 => ?_)
        subst e34
        exact g_iretWv h hE dX5_pair_37 (by first | (simp [o_pair, er, LOW, sU_self, nI_pred, nv_nI, c5, vx, c13, vy, c18]; done) | (simp_all [o_pair, er, LOW, sU_self, nI_pred, nv_nI, c5, vx, c13, vy, c18]; done)) (mW_eq (by first | (simp [o_pair, er, LOW, sU_self, nI_pred, nv_nI, c5, vx, c13, vy, c18]; done) | (simp_all [o_pair, er, LOW, sU_self, nI_pred, nv_nI, c5, vx, c13, vy, c18]; done)) (by first | (simp [o_pair, er, LOW, sU_self, nI_pred, nv_nI, c5, vx, c13, vy, c18]; done) | (simp_all [o_pair, er, LOW, sU_self, nI_pred, nv_nI, c5, vx, c13, vy, c18]; done)))
      · skip
        show G X 0 0 (mW (xT X) o a s S) 21 [(0, .ref o), (1, .int (nI xn)), (2, .int (nI yn)), (3, .int b)] []
        refine g_iload_n h dX5_pair_21 rfl ?_
        refine g_iconst (v := nI 0) h dX5_pair_22 (by decide) ?_
        refine g_sipush (v := nI 9999) h dX5_pair_23 (by decide) ?_
        refine g_callSR h (m5_in _ _ _ b 0 9999 ) (fun _ q => nomatch q) (lw_S q1439 q1440 q95 q1441) gy_X5_in ⟨Nat.le_of_ble_eq_true rfl, Nat.le_of_ble_eq_true rfl⟩ ⟨Nat.le_of_ble_eq_true rfl, Nat.le_of_ble_eq_true rfl⟩ rfl rfl (Nat.le_of_ble_eq_true rfl) dX5_pair_26 ?_
        refine g_if_neB h 38 dX5_pair_29 (by decide) (fun c29 => ?_) (fun c29 => ?_)
        · skip
          show G X 0 0 (mW (xT X) o a s S) 38 [(0, .ref o), (1, .int (nI xn)), (2, .int (nI yn)), (3, .int b)] []
          refine g_aload_n h dX5_pair_38 rfl ?_
          refine g_get h in_X5 0 rfl rfl 0 rfl q1374 rfl rfl dX5_pair_39 ?_
          refine g_iconst (v := nI 2) h dX5_pair_42 (by decide) ?_
          refine g_iald h 1 rfl (by first | assumption | omega) (by decide) dX5_pair_43 ?_
          refine g_toN (a := nQ s) (Inv.nq h0) ?_
          refine g_bipush (v := nI 6) h dX5_pair_44 (by decide) ?_
          refine g_icmp_neN h 55 dX5_pair_46 (by decide) (by first | omega | decide) (by first | omega | decide) (fun c46 => ?_) (fun c46 => ?_)
          · skip
            show G X 0 0 (mW (xT X) o a s S) 55 [(0, .ref o), (1, .int (nI xn)), (2, .int (nI yn)), (3, .int b)] []
            refine g_bipush (v := nI 92) h dX5_pair_55 (by decide) ?_
            refine g_iconst (v := nI 3) h dX5_pair_57 (by decide) ?_
            refine g_aload_n h dX5_pair_58 rfl ?_
            refine g_get h in_X5 0 rfl rfl 0 rfl q1374 rfl rfl dX5_pair_59 ?_
            refine g_iconst (v := nI 2) h dX5_pair_62 (by decide) ?_
            refine g_iald h 1 rfl (by first | assumption | omega) (by decide) dX5_pair_63 ?_
            refine g_toN (a := nQ s) (Inv.nq h0) ?_
            refine g_imulN h dX5_pair_64 ?_
            refine g_iaddN h dX5_pair_65 ?_
            refine g_istore (lv' := [(0, .ref o), (1, .int (nI xn)), (2, .int (nI yn)), (3, .int b), (4, .int (nI (92 + 3 * (nQ s))))]) h dX5_pair_66 (by decide) rfl ?_
            refine g_aload_n h dX5_pair_68 rfl ?_
            refine g_get h in_X5 0 rfl rfl 0 rfl q1374 rfl rfl dX5_pair_69 ?_
            refine g_iload h dX5_pair_72 rfl ?_
            refine g_iload_n h dX5_pair_74 rfl ?_
            refine g_iast (ws' := mW (xT X) o a (upd s (92 + 3 * (nQ s)) (nI xn)) S) h hE.1 1 rfl (by first | assumption | omega) (by decide) dX5_pair_75 rfl ?_
            refine g_aload_n h dX5_pair_76 rfl ?_
            refine g_get h in_X5 0 rfl rfl 0 rfl q1374 rfl rfl dX5_pair_77 ?_
            refine g_iload h dX5_pair_80 rfl ?_
            refine g_iconst (v := nI 1) h dX5_pair_82 (by decide) ?_
            refine g_iaddN h dX5_pair_83 ?_
            refine g_iload_n h dX5_pair_84 rfl ?_
            refine g_iast (ws' := mW (xT X) o a (upd (upd s (92 + 3 * (nQ s)) (nI xn)) (92 + 3 * (nQ s) + 1) (nI yn)) S) h hE.1 1 rfl (by first | assumption | omega) (by decide) dX5_pair_85 rfl ?_
            refine g_aload_n h dX5_pair_86 rfl ?_
            refine g_get h in_X5 0 rfl rfl 0 rfl q1374 rfl rfl dX5_pair_87 ?_
            refine g_iload h dX5_pair_90 rfl ?_
            refine g_iconst (v := nI 2) h dX5_pair_92 (by decide) ?_
            refine g_iaddN h dX5_pair_93 ?_
            refine g_iload_n h dX5_pair_94 rfl ?_
            refine g_iast (ws' := mW (xT X) o a (upd (upd (upd s (92 + 3 * (nQ s)) (nI xn)) (92 + 3 * (nQ s) + 1) (nI yn)) (92 + 3 * (nQ s) + 2) b) S) h hE.1 1 rfl (by first | assumption | omega) (by decide) dX5_pair_95 rfl ?_
            refine g_aload_n h dX5_pair_96 rfl ?_
            refine g_get h in_X5 0 rfl rfl 0 rfl q1374 rfl rfl dX5_pair_97 ?_
            refine g_iconst (v := nI 2) h dX5_pair_100 (by decide) ?_
            refine g_dup2_11 h dX5_pair_101 rfl rfl ?_
            refine g_iald h 1 rfl (by first | assumption | omega) (by decide) dX5_pair_102 ?_
            refine g_toI (y := s 2) (show (upd (upd (upd s (92 + 3 * (nQ s)) (nI xn)) (92 + 3 * (nQ s) + 1) (nI yn)) (92 + 3 * (nQ s) + 2) b) 2 = _ from ((upd_n (by omega)).trans ((upd_n (by omega)).trans (upd_n (by omega))))) ?_
            refine g_toN (a := nQ s) (Inv.nq h0) ?_
            refine g_iconst (v := nI 1) h dX5_pair_103 (by decide) ?_
            refine g_iaddN h dX5_pair_104 ?_
            refine g_iast (ws' := mW (xT X) o a (upd (upd (upd (upd s (92 + 3 * (nQ s)) (nI xn)) (92 + 3 * (nQ s) + 1) (nI yn)) (92 + 3 * (nQ s) + 2) b) 2 (nI (nQ s + 1))) S) h hE.1 1 rfl (by first | assumption | omega) (by decide) dX5_pair_105 rfl ?_
            refine g_aload_n h dX5_pair_106 rfl ?_
            refine g_get h in_X5 0 rfl rfl 0 rfl q1374 rfl rfl dX5_pair_107 ?_
            refine g_iconst (v := nI 2) h dX5_pair_110 (by decide) ?_
            refine g_iald h 1 rfl (by first | assumption | omega) (by decide) dX5_pair_111 ?_
            refine g_toI (y := nI (nQ s + 1)) (show (upd (upd (upd (upd s (92 + 3 * (nQ s)) (nI xn)) (92 + 3 * (nQ s) + 1) (nI yn)) (92 + 3 * (nQ s) + 2) b) 2 (nI (nQ s + 1))) 2 = _ from (upd_s _ _ _)) ?_
            refine g_iconst (v := nI 1) h dX5_pair_112 (by decide) ?_
            refine g_toI (y := 1) rfl ?_
            refine g_isub h dX5_pair_113 ?_
            exact g_iretWv h hE dX5_pair_114 (by first | (simp [o_pair, er, LOW, sU_self, nI_pred, nv_nI, c5, vx, c13, vy, c18, c29, c46]; done) | (simp_all [o_pair, er, LOW, sU_self, nI_pred, nv_nI, c5, vx, c13, vy, c18, c29, c46]; done)) (mW_eq (by first | (simp [o_pair, er, LOW, sU_self, nI_pred, nv_nI, c5, vx, c13, vy, c18, c29, c46]; done) | (simp_all [o_pair, er, LOW, sU_self, nI_pred, nv_nI, c5, vx, c13, vy, c18, c29, c46]; done)) (by first | (simp [o_pair, er, LOW, sU_self, nI_pred, nv_nI, c5, vx, c13, vy, c18, c29, c46]; done) | (simp_all [o_pair, er, LOW, sU_self, nI_pred, nv_nI, c5, vx, c13, vy, c18, c29, c46]; done)))
          · skip
            show G X 0 0 (mW (xT X) o a s S) 49 [(0, .ref o), (1, .int (nI xn)), (2, .int (nI yn)), (3, .int b)] []
            refine g_aload_n h dX5_pair_49 rfl ?_
            refine g_iconst (v := nI 4) h dX5_pair_50 (by decide) ?_
            refine g_callVW0 h hE (m5_error _ _ _ o a s S 4 (by first | assumption | omega)) 0 rfl rfl (lw_V q1446 q1448 qs35 q95 q1449) gy_X5_error ⟨Nat.le_of_ble_eq_true rfl, Nat.le_of_ble_eq_true rfl⟩ ⟨Nat.le_of_ble_eq_true rfl, Nat.le_of_ble_eq_true rfl⟩ rfl rfl (Nat.le_of_ble_eq_true rfl) dX5_pair_51 (st' := [.int (LOW - nI 4)]) rfl (fun _ e51 => ?_)
            subst e51
            exact g_iretWv h hE dX5_pair_54 (by first | (simp [o_pair, er, LOW, sU_self, nI_pred, nv_nI, c5, vx, c13, vy, c18, c29, c46]; done) | (simp_all [o_pair, er, LOW, sU_self, nI_pred, nv_nI, c5, vx, c13, vy, c18, c29, c46]; done)) (mW_eq (by first | (simp [o_pair, er, LOW, sU_self, nI_pred, nv_nI, c5, vx, c13, vy, c18, c29, c46]; done) | (simp_all [o_pair, er, LOW, sU_self, nI_pred, nv_nI, c5, vx, c13, vy, c18, c29, c46]; done)) (by first | (simp [o_pair, er, LOW, sU_self, nI_pred, nv_nI, c5, vx, c13, vy, c18, c29, c46]; done) | (simp_all [o_pair, er, LOW, sU_self, nI_pred, nv_nI, c5, vx, c13, vy, c18, c29, c46]; done)))
        · skip
          show G X 0 0 (mW (xT X) o a s S) 32 [(0, .ref o), (1, .int (nI xn)), (2, .int (nI yn)), (3, .int b)] []
          refine g_aload_n h dX5_pair_32 rfl ?_
          refine g_iconst (v := nI 1) h dX5_pair_33 (by decide) ?_
          refine g_callVW0 h hE (m5_error _ _ _ o a s S 1 (by first | assumption | omega)) 0 rfl rfl (lw_V q1446 q1448 qs35 q95 q1449) gy_X5_error ⟨Nat.le_of_ble_eq_true rfl, Nat.le_of_ble_eq_true rfl⟩ ⟨Nat.le_of_ble_eq_true rfl, Nat.le_of_ble_eq_true rfl⟩ rfl rfl (Nat.le_of_ble_eq_true rfl) dX5_pair_34 (st' := [.int (LOW - nI 1)]) rfl (fun _ e34 => ?_)
          subst e34
          exact g_iretWv h hE dX5_pair_37 (by first | (simp [o_pair, er, LOW, sU_self, nI_pred, nv_nI, c5, vx, c13, vy, c18, c29]; done) | (simp_all [o_pair, er, LOW, sU_self, nI_pred, nv_nI, c5, vx, c13, vy, c18, c29]; done)) (mW_eq (by first | (simp [o_pair, er, LOW, sU_self, nI_pred, nv_nI, c5, vx, c13, vy, c18, c29]; done) | (simp_all [o_pair, er, LOW, sU_self, nI_pred, nv_nI, c5, vx, c13, vy, c18, c29]; done)) (by first | (simp [o_pair, er, LOW, sU_self, nI_pred, nv_nI, c5, vx, c13, vy, c18, c29]; done) | (simp_all [o_pair, er, LOW, sU_self, nI_pred, nv_nI, c5, vx, c13, vy, c18, c29]; done)))
set_option maxHeartbeats 4000000 in
set_option maxRecDepth 100000 in
theorem m5_hasBonus (l : Launch) (D : va_G) (T : Nat → ClassId) (o : Nat) (a : Nat → Nat) (s : Nat → Int32) (S : Nat → Nat → Int32) (k : Nat) (h0 : Inv s) (h1 : k < nQ s) : MetR l D T yX5_hasBonus cX5_hasBonus 5 (some .int) 2 43 [.ref o, .int (nI k)] (mW T o a s S) (fun r_ => r_ = some (.int (hasBonus s k))) := by
  refine metR (own := RX5) rfl (by decide) rfl (fun X h hl hDx hTx hE => ?_)
  subst hl; subst hDx; subst hTx
  have hnp := h0.npl; have hnt := h0.ntl; have hnq := h0.nql
  have p0 := h0.palE h1 (show 0 < 2 by decide); have p1 := h0.palE h1 (show 1 < 2 by decide)
  show G X 0 0 (mW (xT X) o a s S) 0 [(0, .ref o), (1, .int (nI k))] []
  refine g_aload_n h dX5_hasBonus_0 rfl ?_
  refine g_iload_n h dX5_hasBonus_1 rfl ?_
  refine g_iconst (v := nI 0) h dX5_hasBonus_2 (by decide) ?_
  refine g_callVR h (m5_pairIts _ _ _ o a s S k 0 (by first | assumption | omega)) (fun _ q => q) 0 rfl rfl (lw_V q1471 q1473 qs40 q95 q1474) gy_X5_pairIts ⟨Nat.le_of_ble_eq_true rfl, Nat.le_of_ble_eq_true rfl⟩ ⟨Nat.le_of_ble_eq_true rfl, Nat.le_of_ble_eq_true rfl⟩ rfl rfl (Nat.le_of_ble_eq_true rfl) dX5_hasBonus_3 ?_
  show G X 0 0 (mW (xT X) o a s S) 6 [(0, .ref o), (1, .int (nI k))] [.int (s (92 + 3 * k))]
  refine g_toN (a := pa s k 0) (h0.paE (w := 0) h1 (by decide)) ?_
  refine g_istore_n (lv' := [(0, .ref o), (1, .int (nI k)), (2, .int (nI (pa s k 0)))]) h dX5_hasBonus_6 (by decide) rfl ?_
  refine g_aload_n h dX5_hasBonus_7 rfl ?_
  refine g_iload_n h dX5_hasBonus_8 rfl ?_
  refine g_iconst (v := nI 1) h dX5_hasBonus_9 (by decide) ?_
  refine g_callVR h (m5_pairIts _ _ _ o a s S k 1 (by first | assumption | omega)) (fun _ q => q) 0 rfl rfl (lw_V q1471 q1473 qs40 q95 q1474) gy_X5_pairIts ⟨Nat.le_of_ble_eq_true rfl, Nat.le_of_ble_eq_true rfl⟩ ⟨Nat.le_of_ble_eq_true rfl, Nat.le_of_ble_eq_true rfl⟩ rfl rfl (Nat.le_of_ble_eq_true rfl) dX5_hasBonus_10 ?_
  refine g_toN (a := pa s k 1) (h0.paE (w := 1) h1 (by decide)) ?_
  refine g_istore_n (lv' := [(0, .ref o), (1, .int (nI k)), (2, .int (nI (pa s k 0))), (3, .int (nI (pa s k 1)))]) h dX5_hasBonus_13 (by decide) rfl ?_
  refine g_aload_n h dX5_hasBonus_14 rfl ?_
  refine g_iload_n h dX5_hasBonus_15 rfl ?_
  refine g_iconst (v := nI 2) h dX5_hasBonus_16 (by decide) ?_
  refine g_callVR h (m5_its _ _ _ o a s S (pa s k 0) 2 (by first | assumption | omega)) (fun _ q => q) 0 rfl rfl (lw_V q1479 q1481 qs42 q95 q1482) gy_X5_its ⟨Nat.le_of_ble_eq_true rfl, Nat.le_of_ble_eq_true rfl⟩ ⟨Nat.le_of_ble_eq_true rfl, Nat.le_of_ble_eq_true rfl⟩ rfl rfl (Nat.le_of_ble_eq_true rfl) dX5_hasBonus_17 ?_
  refine g_bipush (v := nI 50) h dX5_hasBonus_20 (by decide) ?_
  refine g_toI (y := 50) rfl ?_
  refine g_icmp_lt h 40 dX5_hasBonus_22 (by decide) (fun c22 => ?_) (fun c22 => ?_)
  · skip
    show G X 0 0 (mW (xT X) o a s S) 40 [(0, .ref o), (1, .int (nI k)), (2, .int (nI (pa s k 0))), (3, .int (nI (pa s k 1)))] []
    refine g_iconst (v := nI 0) h dX5_hasBonus_40 (by decide) ?_
    refine g_istore (lv' := [(0, .ref o), (1, .int (nI k)), (2, .int (nI (pa s k 0))), (3, .int (nI (pa s k 1))), (4, .int (nI 0))]) h dX5_hasBonus_41 (by decide) rfl ?_
    refine g_iload h dX5_hasBonus_43 rfl ?_
    refine g_if_eqN h 69 dX5_hasBonus_45 (by decide) (by first | omega | decide) (fun c45 => ?_) (fun c45 => ?_)
    · skip
      show G X 0 0 (mW (xT X) o a s S) 69 [(0, .ref o), (1, .int (nI k)), (2, .int (nI (pa s k 0))), (3, .int (nI (pa s k 1))), (4, .int (nI 0))] []
      refine g_iconst (v := -1) h dX5_hasBonus_69 (by decide) ?_
      exact g_iretRv h hE dX5_hasBonus_70 (by first | (simp [hasBonus, c22, c45]; done) | (simp_all [hasBonus, c22, c45]; done))
    · skip
      show G X 0 0 (mW (xT X) o a s S) 48 [(0, .ref o), (1, .int (nI k)), (2, .int (nI (pa s k 0))), (3, .int (nI (pa s k 1))), (4, .int (nI 0))] []
      exact absurd c45 (by decide)
  · skip
    show G X 0 0 (mW (xT X) o a s S) 25 [(0, .ref o), (1, .int (nI k)), (2, .int (nI (pa s k 0))), (3, .int (nI (pa s k 1)))] []
    refine g_aload_n h dX5_hasBonus_25 rfl ?_
    refine g_iload_n h dX5_hasBonus_26 rfl ?_
    refine g_iconst (v := nI 2) h dX5_hasBonus_27 (by decide) ?_
    refine g_callVR h (m5_its _ _ _ o a s S (pa s k 1) 2 (by first | assumption | omega)) (fun _ q => q) 0 rfl rfl (lw_V q1479 q1481 qs42 q95 q1482) gy_X5_its ⟨Nat.le_of_ble_eq_true rfl, Nat.le_of_ble_eq_true rfl⟩ ⟨Nat.le_of_ble_eq_true rfl, Nat.le_of_ble_eq_true rfl⟩ rfl rfl (Nat.le_of_ble_eq_true rfl) dX5_hasBonus_28 ?_
    refine g_bipush (v := nI 50) h dX5_hasBonus_31 (by decide) ?_
    refine g_toI (y := 50) rfl ?_
    refine g_icmp_lt h 40 dX5_hasBonus_33 (by decide) (fun c33 => ?_) (fun c33 => ?_)
    · skip
      show G X 0 0 (mW (xT X) o a s S) 40 [(0, .ref o), (1, .int (nI k)), (2, .int (nI (pa s k 0))), (3, .int (nI (pa s k 1)))] []
      refine g_iconst (v := nI 0) h dX5_hasBonus_40 (by decide) ?_
      refine g_istore (lv' := [(0, .ref o), (1, .int (nI k)), (2, .int (nI (pa s k 0))), (3, .int (nI (pa s k 1))), (4, .int (nI 0))]) h dX5_hasBonus_41 (by decide) rfl ?_
      refine g_iload h dX5_hasBonus_43 rfl ?_
      refine g_if_eqN h 69 dX5_hasBonus_45 (by decide) (by first | omega | decide) (fun c45 => ?_) (fun c45 => ?_)
      · skip
        show G X 0 0 (mW (xT X) o a s S) 69 [(0, .ref o), (1, .int (nI k)), (2, .int (nI (pa s k 0))), (3, .int (nI (pa s k 1))), (4, .int (nI 0))] []
        refine g_iconst (v := -1) h dX5_hasBonus_69 (by decide) ?_
        exact g_iretRv h hE dX5_hasBonus_70 (by first | (simp [hasBonus, c22, c33, c45]; done) | (simp_all [hasBonus, c22, c33, c45]; done))
      · skip
        show G X 0 0 (mW (xT X) o a s S) 48 [(0, .ref o), (1, .int (nI k)), (2, .int (nI (pa s k 0))), (3, .int (nI (pa s k 1))), (4, .int (nI 0))] []
        exact absurd c45 (by decide)
    · skip
      show G X 0 0 (mW (xT X) o a s S) 36 [(0, .ref o), (1, .int (nI k)), (2, .int (nI (pa s k 0))), (3, .int (nI (pa s k 1)))] []
      refine g_iconst (v := nI 1) h dX5_hasBonus_36 (by decide) ?_
      refine g_goto h 41 dX5_hasBonus_37 (by decide) ?_
      refine g_istore (lv' := [(0, .ref o), (1, .int (nI k)), (2, .int (nI (pa s k 0))), (3, .int (nI (pa s k 1))), (4, .int (nI 1))]) h dX5_hasBonus_41 (by decide) rfl ?_
      refine g_iload h dX5_hasBonus_43 rfl ?_
      refine g_if_eqN h 69 dX5_hasBonus_45 (by decide) (by first | omega | decide) (fun c45 => ?_) (fun c45 => ?_)
      · skip
        show G X 0 0 (mW (xT X) o a s S) 69 [(0, .ref o), (1, .int (nI k)), (2, .int (nI (pa s k 0))), (3, .int (nI (pa s k 1))), (4, .int (nI 1))] []
        exact absurd c45 (by decide)
      · skip
        show G X 0 0 (mW (xT X) o a s S) 48 [(0, .ref o), (1, .int (nI k)), (2, .int (nI (pa s k 0))), (3, .int (nI (pa s k 1))), (4, .int (nI 1))] []
        refine g_aload_n h dX5_hasBonus_48 rfl ?_
        refine g_iload_n h dX5_hasBonus_49 rfl ?_
        refine g_callVR h (m5_owner _ _ _ o a s S (pa s k 0) (by first | assumption | omega)) (fun _ q => q) 0 rfl rfl (lw_V q1475 q1477 qs41 q95 q1478) gy_X5_owner ⟨Nat.le_of_ble_eq_true rfl, Nat.le_of_ble_eq_true rfl⟩ ⟨Nat.le_of_ble_eq_true rfl, Nat.le_of_ble_eq_true rfl⟩ rfl rfl (Nat.le_of_ble_eq_true rfl) dX5_hasBonus_50 ?_
        refine g_aload_n h dX5_hasBonus_53 rfl ?_
        refine g_iload_n h dX5_hasBonus_54 rfl ?_
        refine g_callVR h (m5_owner _ _ _ o a s S (pa s k 1) (by first | assumption | omega)) (fun _ q => q) 0 rfl rfl (lw_V q1475 q1477 qs41 q95 q1478) gy_X5_owner ⟨Nat.le_of_ble_eq_true rfl, Nat.le_of_ble_eq_true rfl⟩ ⟨Nat.le_of_ble_eq_true rfl, Nat.le_of_ble_eq_true rfl⟩ rfl rfl (Nat.le_of_ble_eq_true rfl) dX5_hasBonus_55 ?_
        refine g_icmp_ne h 69 dX5_hasBonus_58 (by decide) (fun c58 => ?_) (fun c58 => ?_)
        · skip
          show G X 0 0 (mW (xT X) o a s S) 69 [(0, .ref o), (1, .int (nI k)), (2, .int (nI (pa s k 0))), (3, .int (nI (pa s k 1))), (4, .int (nI 1))] []
          refine g_iconst (v := -1) h dX5_hasBonus_69 (by decide) ?_
          exact g_iretRv h hE dX5_hasBonus_70 (by first | (simp [hasBonus, c22, c33, c45, c58]; done) | (simp_all [hasBonus, c22, c33, c45, c58]; done))
        · skip
          show G X 0 0 (mW (xT X) o a s S) 61 [(0, .ref o), (1, .int (nI k)), (2, .int (nI (pa s k 0))), (3, .int (nI (pa s k 1))), (4, .int (nI 1))] []
          refine g_aload_n h dX5_hasBonus_61 rfl ?_
          refine g_iload_n h dX5_hasBonus_62 rfl ?_
          refine g_callVR h (m5_owner _ _ _ o a s S (pa s k 0) (by first | assumption | omega)) (fun _ q => q) 0 rfl rfl (lw_V q1475 q1477 qs41 q95 q1478) gy_X5_owner ⟨Nat.le_of_ble_eq_true rfl, Nat.le_of_ble_eq_true rfl⟩ ⟨Nat.le_of_ble_eq_true rfl, Nat.le_of_ble_eq_true rfl⟩ rfl rfl (Nat.le_of_ble_eq_true rfl) dX5_hasBonus_63 ?_
          refine g_goto h 70 dX5_hasBonus_66 (by decide) ?_
          exact g_iretRv h hE dX5_hasBonus_70 (by first | (simp [hasBonus, c22, c33, c45, c58]; done) | (simp_all [hasBonus, c22, c33, c45, c58]; done))
set_option maxHeartbeats 4000000 in
set_option maxRecDepth 100000 in
theorem m5_pairIs (l : Launch) (D : va_G) (T : Nat → ClassId) (o : Nat) (a : Nat → Nat) (s : Nat → Int32) (S : Nat → Nat → Int32) (x : Int32) (w : Int32) (h0 : Inv s) : MetW l D T yX5_pairIs cX5_pairIs 3 (some .int) 3 67 0 0 [.ref o, .int x, .int w] (mW T o a s S) (fun r_ w_ => r_ = some (.int ((o_pairIs s (S 3) x w).1)) ∧ (w_ = mW T o a ((o_pairIs s (S 3) x w).2.1) (sU S 3 (o_pairIs s (S 3) x w).2.2))) := by
  refine metW (own := RX5) rfl (by decide) rfl (fun X h hl hDx hTx hnm hE => ?_)
  subst hl; subst hDx; subst hTx
  have hnp := h0.npl; have hnt := h0.ntl; have hnq := h0.nql
  show G X 0 0 (mW (xT X) o a s S) 0 [(0, .ref o), (1, .int x), (2, .int w)] []
  refine g_iload_n h dX5_pairIs_0 rfl ?_
  refine g_iconst (v := nI 0) h dX5_pairIs_1 (by decide) ?_
  refine g_aload_n h dX5_pairIs_2 rfl ?_
  refine g_get h in_X5 0 rfl rfl 0 rfl q1374 rfl rfl dX5_pairIs_3 ?_
  refine g_iconst (v := nI 2) h dX5_pairIs_6 (by decide) ?_
  refine g_iald h 1 rfl (by first | assumption | omega) (by decide) dX5_pairIs_7 ?_
  refine g_iconst (v := nI 1) h dX5_pairIs_8 (by decide) ?_
  refine g_toI (y := 1) rfl ?_
  refine g_isub h dX5_pairIs_9 ?_
  refine g_callSR h (m5_in _ _ _ x 0 ((s 2) - 1) ) (fun _ q => nomatch q) (lw_S q1439 q1440 q95 q1441) gy_X5_in ⟨Nat.le_of_ble_eq_true rfl, Nat.le_of_ble_eq_true rfl⟩ ⟨Nat.le_of_ble_eq_true rfl, Nat.le_of_ble_eq_true rfl⟩ rfl rfl (Nat.le_of_ble_eq_true rfl) dX5_pairIs_10 ?_
  refine g_toI (y := bI (isQ s x)) rfl ?_
  refine g_if_eqB h 25 dX5_pairIs_13 (by decide) (fun c13 => ?_) (fun c13 => ?_)
  · skip
    show G X 0 0 (mW (xT X) o a s S) 25 [(0, .ref o), (1, .int x), (2, .int w)] []
    refine g_aload_n h dX5_pairIs_25 rfl ?_
    refine g_iconst (v := nI 1) h dX5_pairIs_26 (by decide) ?_
    refine g_callVW0 h hE (m5_error _ _ _ o a s S 1 (by first | assumption | omega)) 0 rfl rfl (lw_V q1446 q1448 qs35 q95 q1449) gy_X5_error ⟨Nat.le_of_ble_eq_true rfl, Nat.le_of_ble_eq_true rfl⟩ ⟨Nat.le_of_ble_eq_true rfl, Nat.le_of_ble_eq_true rfl⟩ rfl rfl (Nat.le_of_ble_eq_true rfl) dX5_pairIs_27 (st' := [.int (LOW - nI 1)]) rfl (fun _ e27 => ?_)
    subst e27
    exact g_iretWv h hE dX5_pairIs_30 (by first | (simp [o_pairIs, er, LOW, sU_self, nI_pred, nv_nI, c13]; done) | (simp_all [o_pairIs, er, LOW, sU_self, nI_pred, nv_nI, c13]; done)) (mW_eq (by first | (simp [o_pairIs, er, LOW, sU_self, nI_pred, nv_nI, c13]; done) | (simp_all [o_pairIs, er, LOW, sU_self, nI_pred, nv_nI, c13]; done)) (by first | (simp [o_pairIs, er, LOW, sU_self, nI_pred, nv_nI, c13]; done) | (simp_all [o_pairIs, er, LOW, sU_self, nI_pred, nv_nI, c13]; done)))
  · skip
    show G X 0 0 (mW (xT X) o a s S) 16 [(0, .ref o), (1, .int x), (2, .int w)] []
    obtain ⟨xn, hx, rfl⟩ := isQ_of h0 c13
    have vx : nv (nI xn) = xn := nv_nI (by omega)
    refine g_iload_n h dX5_pairIs_16 rfl ?_
    refine g_iconst (v := nI 0) h dX5_pairIs_17 (by decide) ?_
    refine g_iconst (v := nI 3) h dX5_pairIs_18 (by decide) ?_
    refine g_callSR h (m5_in _ _ _ w 0 3 ) (fun _ q => nomatch q) (lw_S q1439 q1440 q95 q1441) gy_X5_in ⟨Nat.le_of_ble_eq_true rfl, Nat.le_of_ble_eq_true rfl⟩ ⟨Nat.le_of_ble_eq_true rfl, Nat.le_of_ble_eq_true rfl⟩ rfl rfl (Nat.le_of_ble_eq_true rfl) dX5_pairIs_19 ?_
    refine g_if_neB h 31 dX5_pairIs_22 (by decide) (fun c22 => ?_) (fun c22 => ?_)
    · skip
      show G X 0 0 (mW (xT X) o a s S) 31 [(0, .ref o), (1, .int (nI xn)), (2, .int w)] []
      obtain ⟨wn, hw, rfl⟩ := inB_of (n := 3) (by decide) c22
      have vw : nv (nI wn) = wn := nv_nI (by omega)
      refine g_iload_n h dX5_pairIs_31 rfl ?_
      refine g_iconst (v := nI 3) h dX5_pairIs_32 (by decide) ?_
      refine g_icmp_geN h 45 dX5_pairIs_33 (by decide) (by first | omega | decide) (by first | omega | decide) (fun c33 => ?_) (fun c33 => ?_)
      · skip
        show G X 0 0 (mW (xT X) o a s S) 45 [(0, .ref o), (1, .int (nI xn)), (2, .int (nI wn))] []
        refine g_aload_n h dX5_pairIs_45 rfl ?_
        refine g_iload_n h dX5_pairIs_46 rfl ?_
        refine g_callVR h (m5_hasBonus _ _ _ o a s S xn h0 (by first | assumption | omega)) (fun _ q => q) 0 rfl rfl (lw_V q1542 q1544 qs47 q95 q1545) gy_X5_hasBonus ⟨Nat.le_of_ble_eq_true rfl, Nat.le_of_ble_eq_true rfl⟩ ⟨Nat.le_of_ble_eq_true rfl, Nat.le_of_ble_eq_true rfl⟩ rfl rfl (Nat.le_of_ble_eq_true rfl) dX5_pairIs_47 ?_
        exact g_iretWv h hE dX5_pairIs_50 (by first | (simp [o_pairIs, er, LOW, sU_self, nI_pred, nv_nI, c13, vx, c22, vw, c33]; done) | (simp_all [o_pairIs, er, LOW, sU_self, nI_pred, nv_nI, c13, vx, c22, vw, c33]; done)) (mW_eq (by first | (simp [o_pairIs, er, LOW, sU_self, nI_pred, nv_nI, c13, vx, c22, vw, c33]; done) | (simp_all [o_pairIs, er, LOW, sU_self, nI_pred, nv_nI, c13, vx, c22, vw, c33]; done)) (by first | (simp [o_pairIs, er, LOW, sU_self, nI_pred, nv_nI, c13, vx, c22, vw, c33]; done) | (simp_all [o_pairIs, er, LOW, sU_self, nI_pred, nv_nI, c13, vx, c22, vw, c33]; done)))
      · skip
        show G X 0 0 (mW (xT X) o a s S) 36 [(0, .ref o), (1, .int (nI xn)), (2, .int (nI wn))] []
        refine g_aload_n h dX5_pairIs_36 rfl ?_
        refine g_iload_n h dX5_pairIs_37 rfl ?_
        refine g_iload_n h dX5_pairIs_38 rfl ?_
        refine g_callVR h (m5_pairIts _ _ _ o a s S xn wn (by first | assumption | omega)) (fun _ q => q) 0 rfl rfl (lw_V q1471 q1473 qs40 q95 q1474) gy_X5_pairIts ⟨Nat.le_of_ble_eq_true rfl, Nat.le_of_ble_eq_true rfl⟩ ⟨Nat.le_of_ble_eq_true rfl, Nat.le_of_ble_eq_true rfl⟩ rfl rfl (Nat.le_of_ble_eq_true rfl) dX5_pairIs_39 ?_
        refine g_goto h 50 dX5_pairIs_42 (by decide) ?_
        exact g_iretWv h hE dX5_pairIs_50 (by first | (simp [o_pairIs, er, LOW, sU_self, nI_pred, nv_nI, c13, vx, c22, vw, c33]; done) | (simp_all [o_pairIs, er, LOW, sU_self, nI_pred, nv_nI, c13, vx, c22, vw, c33]; done)) (mW_eq (by first | (simp [o_pairIs, er, LOW, sU_self, nI_pred, nv_nI, c13, vx, c22, vw, c33]; done) | (simp_all [o_pairIs, er, LOW, sU_self, nI_pred, nv_nI, c13, vx, c22, vw, c33]; done)) (by first | (simp [o_pairIs, er, LOW, sU_self, nI_pred, nv_nI, c13, vx, c22, vw, c33]; done) | (simp_all [o_pairIs, er, LOW, sU_self, nI_pred, nv_nI, c13, vx, c22, vw, c33]; done)))
    · skip
      show G X 0 0 (mW (xT X) o a s S) 25 [(0, .ref o), (1, .int (nI xn)), (2, .int w)] []
      refine g_aload_n h dX5_pairIs_25 rfl ?_
      refine g_iconst (v := nI 1) h dX5_pairIs_26 (by decide) ?_
      refine g_callVW0 h hE (m5_error _ _ _ o a s S 1 (by first | assumption | omega)) 0 rfl rfl (lw_V q1446 q1448 qs35 q95 q1449) gy_X5_error ⟨Nat.le_of_ble_eq_true rfl, Nat.le_of_ble_eq_true rfl⟩ ⟨Nat.le_of_ble_eq_true rfl, Nat.le_of_ble_eq_true rfl⟩ rfl rfl (Nat.le_of_ble_eq_true rfl) dX5_pairIs_27 (st' := [.int (LOW - nI 1)]) rfl (fun _ e27 => ?_)
      subst e27
      exact g_iretWv h hE dX5_pairIs_30 (by first | (simp [o_pairIs, er, LOW, sU_self, nI_pred, nv_nI, c13, vx, c22]; done) | (simp_all [o_pairIs, er, LOW, sU_self, nI_pred, nv_nI, c13, vx, c22]; done)) (mW_eq (by first | (simp [o_pairIs, er, LOW, sU_self, nI_pred, nv_nI, c13, vx, c22]; done) | (simp_all [o_pairIs, er, LOW, sU_self, nI_pred, nv_nI, c13, vx, c22]; done)) (by first | (simp [o_pairIs, er, LOW, sU_self, nI_pred, nv_nI, c13, vx, c22]; done) | (simp_all [o_pairIs, er, LOW, sU_self, nI_pred, nv_nI, c13, vx, c22]; done)))
set_option maxHeartbeats 4000000 in
set_option maxRecDepth 100000 in
theorem m5_mostOf (l : Launch) (D : va_G) (T : Nat → ClassId) (r : Int32) : MetR l D T yX5_mostOf cX5_mostOf 1 (some .int) 0 0 [.int r] (([] : va_W)) (fun r_ => r_ = some (.int (mostOf r))) := by
  refine metR (own := RX5) rfl (by decide) rfl (fun X h hl hDx hTx hE => ?_)
  subst hl; subst hDx; subst hTx
  show G X 0 0 (([] : va_W)) 0 [(0, .int r)] []
  refine g_iload_n h dX5_mostOf_0 rfl ?_
  refine g_iconst (v := nI 2) h dX5_mostOf_1 (by decide) ?_
  refine g_toI (y := 2) rfl ?_
  refine g_icmp_ne h 9 dX5_mostOf_2 (by decide) (fun c2 => ?_) (fun c2 => ?_)
  · skip
    show G X 0 0 (([] : va_W)) 9 [(0, .int r)] []
    refine g_iload_n h dX5_mostOf_9 rfl ?_
    refine g_iconst (v := nI 3) h dX5_mostOf_10 (by decide) ?_
    refine g_toI (y := 3) rfl ?_
    refine g_icmp_ne h 19 dX5_mostOf_11 (by decide) (fun c11 => ?_) (fun c11 => ?_)
    · skip
      show G X 0 0 (([] : va_W)) 19 [(0, .int r)] []
      refine g_iload_n h dX5_mostOf_19 rfl ?_
      refine g_iconst (v := nI 4) h dX5_mostOf_20 (by decide) ?_
      refine g_toI (y := 4) rfl ?_
      refine g_icmp_ne h 30 dX5_mostOf_21 (by decide) (fun c21 => ?_) (fun c21 => ?_)
      · skip
        show G X 0 0 (([] : va_W)) 30 [(0, .int r)] []
        refine g_bipush (v := nI 99) h dX5_mostOf_30 (by decide) ?_
        refine g_toI (y := 99) rfl ?_
        exact g_iretRv h hE dX5_mostOf_32 (by first | (simp [mostOf, c2, c11, c21]; done) | (simp_all [mostOf, c2, c11, c21]; done))
      · skip
        show G X 0 0 (([] : va_W)) 24 [(0, .int r)] []
        refine g_sipush (v := nI 999) h dX5_mostOf_24 (by decide) ?_
        refine g_goto h 32 dX5_mostOf_27 (by decide) ?_
        refine g_toI (y := 999) rfl ?_
        exact g_iretRv h hE dX5_mostOf_32 (by first | (simp [mostOf, c2, c11, c21]; done) | (simp_all [mostOf, c2, c11, c21]; done))
    · skip
      show G X 0 0 (([] : va_W)) 14 [(0, .int r)] []
      refine g_bipush (v := nI 9) h dX5_mostOf_14 (by decide) ?_
      refine g_goto h 32 dX5_mostOf_16 (by decide) ?_
      refine g_toI (y := 9) rfl ?_
      exact g_iretRv h hE dX5_mostOf_32 (by first | (simp [mostOf, c2, c11]; done) | (simp_all [mostOf, c2, c11]; done))
  · skip
    show G X 0 0 (([] : va_W)) 5 [(0, .int r)] []
    refine g_iconst (v := nI 2) h dX5_mostOf_5 (by decide) ?_
    refine g_goto h 32 dX5_mostOf_6 (by decide) ?_
    refine g_toI (y := 2) rfl ?_
    exact g_iretRv h hE dX5_mostOf_32 (by first | (simp [mostOf, c2]; done) | (simp_all [mostOf, c2]; done))
set_option maxHeartbeats 4000000 in
set_option maxRecDepth 100000 in
theorem m5_rule (l : Launch) (D : va_G) (T : Nat → ClassId) (o : Nat) (a : Nat → Nat) (s : Nat → Int32) (S : Nat → Nat → Int32) (x : Int32) (v : Int32) (h0 : Inv s) : MetW l D T yX5_rule cX5_rule 4 (some .int) 1 22 0 0 [.ref o, .int x, .int v] (mW T o a s S) (fun r_ w_ => r_ = some (.int ((o_rule s (S 3) x v).1)) ∧ (w_ = mW T o a ((o_rule s (S 3) x v).2.1) (sU S 3 (o_rule s (S 3) x v).2.2))) := by
  refine metW (own := RX5) rfl (by decide) rfl (fun X h hl hDx hTx hnm hE => ?_)
  subst hl; subst hDx; subst hTx
  have hnp := h0.npl; have hnt := h0.ntl; have hnq := h0.nql
  show G X 0 0 (mW (xT X) o a s S) 0 [(0, .ref o), (1, .int x), (2, .int v)] []
  refine g_iload_n h dX5_rule_0 rfl ?_
  refine g_iconst (v := nI 0) h dX5_rule_1 (by decide) ?_
  refine g_iconst (v := nI 4) h dX5_rule_2 (by decide) ?_
  refine g_callSR h (m5_in _ _ _ x 0 4 ) (fun _ q => nomatch q) (lw_S q1439 q1440 q95 q1441) gy_X5_in ⟨Nat.le_of_ble_eq_true rfl, Nat.le_of_ble_eq_true rfl⟩ ⟨Nat.le_of_ble_eq_true rfl, Nat.le_of_ble_eq_true rfl⟩ rfl rfl (Nat.le_of_ble_eq_true rfl) dX5_rule_3 ?_
  refine g_if_eqB h 21 dX5_rule_6 (by decide) (fun c6 => ?_) (fun c6 => ?_)
  · skip
    show G X 0 0 (mW (xT X) o a s S) 21 [(0, .ref o), (1, .int x), (2, .int v)] []
    refine g_aload_n h dX5_rule_21 rfl ?_
    refine g_iconst (v := nI 1) h dX5_rule_22 (by decide) ?_
    refine g_callVW0 h hE (m5_error _ _ _ o a s S 1 (by first | assumption | omega)) 0 rfl rfl (lw_V q1446 q1448 qs35 q95 q1449) gy_X5_error ⟨Nat.le_of_ble_eq_true rfl, Nat.le_of_ble_eq_true rfl⟩ ⟨Nat.le_of_ble_eq_true rfl, Nat.le_of_ble_eq_true rfl⟩ rfl rfl (Nat.le_of_ble_eq_true rfl) dX5_rule_23 (st' := [.int (LOW - nI 1)]) rfl (fun _ e23 => ?_)
    subst e23
    exact g_iretWv h hE dX5_rule_26 (by first | (simp [o_rule, er, LOW, sU_self, nI_pred, nv_nI, c6]; done) | (simp_all [o_rule, er, LOW, sU_self, nI_pred, nv_nI, c6]; done)) (mW_eq (by first | (simp [o_rule, er, LOW, sU_self, nI_pred, nv_nI, c6]; done) | (simp_all [o_rule, er, LOW, sU_self, nI_pred, nv_nI, c6]; done)) (by first | (simp [o_rule, er, LOW, sU_self, nI_pred, nv_nI, c6]; done) | (simp_all [o_rule, er, LOW, sU_self, nI_pred, nv_nI, c6]; done)))
  · skip
    show G X 0 0 (mW (xT X) o a s S) 9 [(0, .ref o), (1, .int x), (2, .int v)] []
    obtain ⟨xn, hx, rfl⟩ := inB_of (n := 4) (by decide) c6
    have vx : nv (nI xn) = xn := nv_nI (by omega)
    refine g_iload_n h dX5_rule_9 rfl ?_
    refine g_iconst (v := nI 0) h dX5_rule_10 (by decide) ?_
    refine g_iload_n h dX5_rule_11 rfl ?_
    refine g_callSR h (m5_mostOf _ _ _ (nI xn) ) (fun _ q => nomatch q) (lw_S q1550 q1551 q95 q1552) gy_X5_mostOf ⟨Nat.le_of_ble_eq_true rfl, Nat.le_of_ble_eq_true rfl⟩ ⟨Nat.le_of_ble_eq_true rfl, Nat.le_of_ble_eq_true rfl⟩ rfl rfl (Nat.le_of_ble_eq_true rfl) dX5_rule_12 ?_
    refine g_callSR h (m5_in _ _ _ v 0 (mostOf (nI xn)) ) (fun _ q => nomatch q) (lw_S q1439 q1440 q95 q1441) gy_X5_in ⟨Nat.le_of_ble_eq_true rfl, Nat.le_of_ble_eq_true rfl⟩ ⟨Nat.le_of_ble_eq_true rfl, Nat.le_of_ble_eq_true rfl⟩ rfl rfl (Nat.le_of_ble_eq_true rfl) dX5_rule_15 ?_
    refine g_if_neB h 27 dX5_rule_18 (by decide) (fun c18 => ?_) (fun c18 => ?_)
    · skip
      show G X 0 0 (mW (xT X) o a s S) 27 [(0, .ref o), (1, .int (nI xn)), (2, .int v)] []
      refine g_aload_n h dX5_rule_27 rfl ?_
      refine g_get h in_X5 0 rfl rfl 0 rfl q1374 rfl rfl dX5_rule_28 ?_
      refine g_bipush (v := nI 10) h dX5_rule_31 (by decide) ?_
      refine g_iload_n h dX5_rule_33 rfl ?_
      refine g_iaddN h dX5_rule_34 ?_
      refine g_iald h 1 rfl (by first | assumption | omega) (by decide) dX5_rule_35 ?_
      refine g_istore_n (lv' := [(0, .ref o), (1, .int (nI xn)), (2, .int v), (3, .int (s (10 + xn)))]) h dX5_rule_36 (by decide) rfl ?_
      refine g_aload_n h dX5_rule_37 rfl ?_
      refine g_get h in_X5 0 rfl rfl 0 rfl q1374 rfl rfl dX5_rule_38 ?_
      refine g_bipush (v := nI 10) h dX5_rule_41 (by decide) ?_
      refine g_iload_n h dX5_rule_43 rfl ?_
      refine g_iaddN h dX5_rule_44 ?_
      refine g_iload_n h dX5_rule_45 rfl ?_
      refine g_iast (ws' := mW (xT X) o a (upd s (10 + xn) v) S) h hE.1 1 rfl (by first | assumption | omega) (by decide) dX5_rule_46 rfl ?_
      refine g_iload_n h dX5_rule_47 rfl ?_
      exact g_iretWv h hE dX5_rule_48 (by first | (simp [o_rule, er, LOW, sU_self, nI_pred, nv_nI, c6, vx, c18]; done) | (simp_all [o_rule, er, LOW, sU_self, nI_pred, nv_nI, c6, vx, c18]; done)) (mW_eq (by first | (simp [o_rule, er, LOW, sU_self, nI_pred, nv_nI, c6, vx, c18]; done) | (simp_all [o_rule, er, LOW, sU_self, nI_pred, nv_nI, c6, vx, c18]; done)) (by first | (simp [o_rule, er, LOW, sU_self, nI_pred, nv_nI, c6, vx, c18]; done) | (simp_all [o_rule, er, LOW, sU_self, nI_pred, nv_nI, c6, vx, c18]; done)))
    · skip
      show G X 0 0 (mW (xT X) o a s S) 21 [(0, .ref o), (1, .int (nI xn)), (2, .int v)] []
      refine g_aload_n h dX5_rule_21 rfl ?_
      refine g_iconst (v := nI 1) h dX5_rule_22 (by decide) ?_
      refine g_callVW0 h hE (m5_error _ _ _ o a s S 1 (by first | assumption | omega)) 0 rfl rfl (lw_V q1446 q1448 qs35 q95 q1449) gy_X5_error ⟨Nat.le_of_ble_eq_true rfl, Nat.le_of_ble_eq_true rfl⟩ ⟨Nat.le_of_ble_eq_true rfl, Nat.le_of_ble_eq_true rfl⟩ rfl rfl (Nat.le_of_ble_eq_true rfl) dX5_rule_23 (st' := [.int (LOW - nI 1)]) rfl (fun _ e23 => ?_)
      subst e23
      exact g_iretWv h hE dX5_rule_26 (by first | (simp [o_rule, er, LOW, sU_self, nI_pred, nv_nI, c6, vx, c18]; done) | (simp_all [o_rule, er, LOW, sU_self, nI_pred, nv_nI, c6, vx, c18]; done)) (mW_eq (by first | (simp [o_rule, er, LOW, sU_self, nI_pred, nv_nI, c6, vx, c18]; done) | (simp_all [o_rule, er, LOW, sU_self, nI_pred, nv_nI, c6, vx, c18]; done)) (by first | (simp [o_rule, er, LOW, sU_self, nI_pred, nv_nI, c6, vx, c18]; done) | (simp_all [o_rule, er, LOW, sU_self, nI_pred, nv_nI, c6, vx, c18]; done)))
