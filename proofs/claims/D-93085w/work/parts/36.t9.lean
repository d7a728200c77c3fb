
theorem gy_X5_image : gY yX5_image RX5 0 := ⟨rfl, by decide +kernel, by decide +kernel, by decide +kernel⟩
theorem gy_X5_restore : gY yX5_restore RX5 0 := ⟨rfl, by decide +kernel, by decide +kernel, by decide +kernel⟩
theorem gy_X5_tell : gY yX5_tell RX5 1 := ⟨rfl, by decide +kernel, by decide +kernel, by decide +kernel⟩
theorem gy_X5_told : gY yX5_told RX5 1 := ⟨rfl, by decide +kernel, by decide +kernel, by decide +kernel⟩
theorem gy_X5_count : gY yX5_count RX5 1 := ⟨rfl, by decide +kernel, by decide +kernel, by decide +kernel⟩
theorem gy_X5_body : gY yX5_body RX5 1 := ⟨rfl, by decide +kernel, by decide +kernel, by decide +kernel⟩
theorem gy_X5_check : gY yX5_check RX5 1 := ⟨rfl, by decide +kernel, by decide +kernel, by decide +kernel⟩
set_option maxHeartbeats 4000000 in
set_option maxRecDepth 100000 in
theorem m5_image (l : Launch) (D : va_G) (T : Nat → ClassId) (o : Nat) (a : Nat → Nat) (s : Nat → Int32) (S : Nat → Nat → Int32) : MetW l D T yX5_image cX5_image 1 (some .int) 1 22 0 0 [.ref o] (mW T o a s S) (fun r_ w_ => r_ = some (.int (S 0 0 + 1)) ∧ (w_ = mW T o a s (sU (sU S 1 s) 0 (upd (S 0) 0 (S 0 0 + 1))))) := by
  refine metW (own := RX5) rfl (by decide) rfl (fun X h hl hDx hTx hnm hE => ?_)
  subst hl; subst hDx; subst hTx
  show G X 0 0 (mW (xT X) o a s S) 0 [(0, .ref o)] []
  refine g_aload_n h dX5_image_0 rfl ?_
  refine g_get h in_X5 0 rfl rfl 0 rfl q1374 rfl rfl dX5_image_1 ?_
  refine g_aload_n h dX5_image_4 rfl ?_
  refine g_get h in_X5 0 rfl rfl 1 rfl q1375 rfl rfl dX5_image_5 ?_
  refine g_callSW0 h hE (m5_lay_01 _ _ _ o a s S ) (lw_S q1754 q1755 q95 q1756) gy_X5_lay ⟨Nat.le_of_ble_eq_true rfl, Nat.le_of_ble_eq_true rfl⟩ ⟨Nat.le_of_ble_eq_true rfl, Nat.le_of_ble_eq_true rfl⟩ rfl rfl (Nat.le_of_ble_eq_true rfl) dX5_image_8 (st' := []) rfl (fun _ e8 => ?_)
  subst e8
  refine g_aload_n h dX5_image_11 rfl ?_
  refine g_dup h dX5_image_12 rfl ?_
  refine g_get h in_X5 0 rfl rfl 3 rfl q1377 rfl rfl dX5_image_13 ?_
  refine g_iconst (v := nI 1) h dX5_image_16 (by decide) ?_
  refine g_toI (y := 1) rfl ?_
  refine g_iadd h dX5_image_17 ?_
  refine g_put (ws' := mW (xT X) o a s (sU (sU S 1 s) 0 (upd (S 0) 0 (((sU S 1 s) 0 0) + 1)))) h hE.1 in_X5 tyX5 tyX5_ok nmX5 0 rfl rfl 3 rfl q1377 rfl rfl rfl rfl rfl rfl dX5_image_18 rfl ?_
  refine g_aload_n h dX5_image_21 rfl ?_
  refine g_get h in_X5 0 rfl rfl 3 rfl q1377 rfl rfl dX5_image_22 ?_
  exact g_iretWv h hE dX5_image_25 rfl (mW_eq rfl rfl)
set_option maxHeartbeats 4000000 in
set_option maxRecDepth 100000 in
theorem m5_restore (l : Launch) (D : va_G) (T : Nat → ClassId) (o : Nat) (a : Nat → Nat) (s : Nat → Int32) (S : Nat → Nat → Int32) : MetW l D T yX5_restore cX5_restore 1 (some .int) 1 22 0 0 [.ref o] (mW T o a s S) (fun r_ w_ => r_ = some (.int ((o_restore s (S 3) (S 1) (S 0 0)).1)) ∧ (w_ = mW T o a ((o_restore s (S 3) (S 1) (S 0 0)).2.1) (sU S 3 (o_restore s (S 3) (S 1) (S 0 0)).2.2))) := by
  refine metW (own := RX5) rfl (by decide) rfl (fun X h hl hDx hTx hnm hE => ?_)
  subst hl; subst hDx; subst hTx
  show G X 0 0 (mW (xT X) o a s S) 0 [(0, .ref o)] []
  refine g_aload_n h dX5_restore_0 rfl ?_
  refine g_get h in_X5 0 rfl rfl 3 rfl q1377 rfl rfl dX5_restore_1 ?_
  refine g_if_ne h 13 dX5_restore_4 (by decide) (fun c4 => ?_) (fun c4 => ?_)
  · skip
    show G X 0 0 (mW (xT X) o a s S) 13 [(0, .ref o)] []
    refine g_aload_n h dX5_restore_13 rfl ?_
    refine g_get h in_X5 0 rfl rfl 1 rfl q1375 rfl rfl dX5_restore_14 ?_
    refine g_aload_n h dX5_restore_17 rfl ?_
    refine g_get h in_X5 0 rfl rfl 0 rfl q1374 rfl rfl dX5_restore_18 ?_
    refine g_callSW0 h hE (m5_lay_10 _ _ _ o a s S ) (lw_S q1754 q1755 q95 q1756) gy_X5_lay ⟨Nat.le_of_ble_eq_true rfl, Nat.le_of_ble_eq_true rfl⟩ ⟨Nat.le_of_ble_eq_true rfl, Nat.le_of_ble_eq_true rfl⟩ rfl rfl (Nat.le_of_ble_eq_true rfl) dX5_restore_21 (st' := []) rfl (fun _ e21 => ?_)
    subst e21
    refine g_aload_n h dX5_restore_24 rfl ?_
    refine g_get h in_X5 0 rfl rfl 0 rfl q1374 rfl rfl dX5_restore_25 ?_
    refine g_iconst (v := nI 3) h dX5_restore_28 (by decide) ?_
    refine g_iald h 1 rfl (by first | assumption | omega) (by decide) dX5_restore_29 ?_
    exact g_iretWv h hE dX5_restore_30 (by first | (simp [o_restore, er, LOW, sU_self, nI_pred, nv_nI, c4]; done) | (simp_all [o_restore, er, LOW, sU_self, nI_pred, nv_nI, c4]; done)) (mW_eq (by first | (simp [o_restore, er, LOW, sU_self, nI_pred, nv_nI, c4]; done) | (simp_all [o_restore, er, LOW, sU_self, nI_pred, nv_nI, c4]; done)) (by first | (simp [o_restore, er, LOW, sU_self, nI_pred, nv_nI, c4]; done) | (simp_all [o_restore, er, LOW, sU_self, nI_pred, nv_nI, c4]; done)))
  · skip
    show G X 0 0 (mW (xT X) o a s S) 7 [(0, .ref o)] []
    refine g_aload_n h dX5_restore_7 rfl ?_
    refine g_iconst (v := nI 2) h dX5_restore_8 (by decide) ?_
    refine g_callVW0 h hE (m5_error _ _ _ o a s S 2 (by first | assumption | omega)) 0 rfl rfl (lw_V q1446 q1448 qs35 q95 q1449) gy_X5_error ⟨Nat.le_of_ble_eq_true rfl, Nat.le_of_ble_eq_true rfl⟩ ⟨Nat.le_of_ble_eq_true rfl, Nat.le_of_ble_eq_true rfl⟩ rfl rfl (Nat.le_of_ble_eq_true rfl) dX5_restore_9 (st' := [.int (LOW - nI 2)]) rfl (fun _ e9 => ?_)
    subst e9
    exact g_iretWv h hE dX5_restore_12 (by first | (simp [o_restore, er, LOW, sU_self, nI_pred, nv_nI, c4]; done) | (simp_all [o_restore, er, LOW, sU_self, nI_pred, nv_nI, c4]; done)) (mW_eq (by first | (simp [o_restore, er, LOW, sU_self, nI_pred, nv_nI, c4]; done) | (simp_all [o_restore, er, LOW, sU_self, nI_pred, nv_nI, c4]; done)) (by first | (simp [o_restore, er, LOW, sU_self, nI_pred, nv_nI, c4]; done) | (simp_all [o_restore, er, LOW, sU_self, nI_pred, nv_nI, c4]; done)))
set_option maxHeartbeats 4000000 in
set_option maxRecDepth 100000 in
theorem m5_tell (l : Launch) (D : va_G) (T : Nat → ClassId) (o : Nat) (a : Nat → Nat) (s : Nat → Int32) (S : Nat → Nat → Int32) (v : Int32) (h0 : Inv s) : MetW l D T yX5_tell cX5_tell 2 (some .int) 1 21 0 0 [.ref o, .int v] (mW T o a s S) (fun r_ w_ => r_ = some (.int ((o_tell s (S 3) v).1)) ∧ (w_ = mW T o a ((o_tell s (S 3) v).2.1) (sU S 3 (o_tell s (S 3) v).2.2))) := by
  refine metW (own := RX5) rfl (by decide) rfl (fun X h hl hDx hTx hnm hE => ?_)
  subst hl; subst hDx; subst hTx
  have hnp := h0.npl; have hnt := h0.ntl; have hnq := h0.nql
  have hnw := h0.nwl
  show G X 0 0 (mW (xT X) o a s S) 0 [(0, .ref o), (1, .int v)] []
  refine g_aload_n h dX5_tell_0 rfl ?_
  refine g_get h in_X5 0 rfl rfl 0 rfl q1374 rfl rfl dX5_tell_1 ?_
  refine g_bipush (v := nI 7) h dX5_tell_4 (by decide) ?_
  refine g_iald h 1 rfl (by first | assumption | omega) (by decide) dX5_tell_6 ?_
  refine g_toN (a := nW s) (Inv.nw h0) ?_
  refine g_bipush (v := nI 24) h dX5_tell_7 (by decide) ?_
  refine g_icmp_neN h 18 dX5_tell_9 (by decide) (by first | omega | decide) (by first | omega | decide) (fun c9 => ?_) (fun c9 => ?_)
  · skip
    show G X 0 0 (mW (xT X) o a s S) 18 [(0, .ref o), (1, .int v)] []
    refine g_aload_n h dX5_tell_18 rfl ?_
    refine g_get h in_X5 0 rfl rfl 0 rfl q1374 rfl rfl dX5_tell_19 ?_
    refine g_sipush (v := nI 492) h dX5_tell_22 (by decide) ?_
    refine g_aload_n h dX5_tell_25 rfl ?_
    refine g_get h in_X5 0 rfl rfl 0 rfl q1374 rfl rfl dX5_tell_26 ?_
    refine g_bipush (v := nI 7) h dX5_tell_29 (by decide) ?_
    refine g_iald h 1 rfl (by first | assumption | omega) (by decide) dX5_tell_31 ?_
    refine g_toN (a := nW s) (Inv.nw h0) ?_
    refine g_iaddN h dX5_tell_32 ?_
    refine g_iload_n h dX5_tell_33 rfl ?_
    refine g_iast (ws' := mW (xT X) o a (upd s (492 + nW s) v) S) h hE.1 1 rfl (by first | assumption | omega) (by decide) dX5_tell_34 rfl ?_
    refine g_aload_n h dX5_tell_35 rfl ?_
    refine g_get h in_X5 0 rfl rfl 0 rfl q1374 rfl rfl dX5_tell_36 ?_
    refine g_bipush (v := nI 7) h dX5_tell_39 (by decide) ?_
    refine g_dup2_11 h dX5_tell_41 rfl rfl ?_
    refine g_iald h 1 rfl (by first | assumption | omega) (by decide) dX5_tell_42 ?_
    refine g_toI (y := s 7) (show (upd s (492 + nW s) v) 7 = _ from (upd_n (by omega))) ?_
    refine g_toN (a := nW s) (Inv.nw h0) ?_
    refine g_iconst (v := nI 1) h dX5_tell_43 (by decide) ?_
    refine g_iaddN h dX5_tell_44 ?_
    refine g_iast (ws' := mW (xT X) o a (upd (upd s (492 + nW s) v) 7 (nI (nW s + 1))) S) h hE.1 1 rfl (by first | assumption | omega) (by decide) dX5_tell_45 rfl ?_
    refine g_aload_n h dX5_tell_46 rfl ?_
    refine g_get h in_X5 0 rfl rfl 0 rfl q1374 rfl rfl dX5_tell_47 ?_
    refine g_bipush (v := nI 7) h dX5_tell_50 (by decide) ?_
    refine g_iald h 1 rfl (by first | assumption | omega) (by decide) dX5_tell_52 ?_
    refine g_toI (y := nI (nW s + 1)) (show (upd (upd s (492 + nW s) v) 7 (nI (nW s + 1))) 7 = _ from (upd_s _ _ _)) ?_
    exact g_iretWv h hE dX5_tell_53 (by first | (simp [o_tell, er, LOW, sU_self, nI_pred, nv_nI, c9]; done) | (simp_all [o_tell, er, LOW, sU_self, nI_pred, nv_nI, c9]; done)) (mW_eq (by first | (simp [o_tell, er, LOW, sU_self, nI_pred, nv_nI, c9]; done) | (simp_all [o_tell, er, LOW, sU_self, nI_pred, nv_nI, c9]; done)) (by first | (simp [o_tell, er, LOW, sU_self, nI_pred, nv_nI, c9]; done) | (simp_all [o_tell, er, LOW, sU_self, nI_pred, nv_nI, c9]; done)))
  · skip
    show G X 0 0 (mW (xT X) o a s S) 12 [(0, .ref o), (1, .int v)] []
    refine g_aload_n h dX5_tell_12 rfl ?_
    refine g_iconst (v := nI 4) h dX5_tell_13 (by decide) ?_
    refine g_callVW0 h hE (m5_error _ _ _ o a s S 4 (by first | assumption | omega)) 0 rfl rfl (lw_V q1446 q1448 qs35 q95 q1449) gy_X5_error ⟨Nat.le_of_ble_eq_true rfl, Nat.le_of_ble_eq_true rfl⟩ ⟨Nat.le_of_ble_eq_true rfl, Nat.le_of_ble_eq_true rfl⟩ rfl rfl (Nat.le_of_ble_eq_true rfl) dX5_tell_14 (st' := [.int (LOW - nI 4)]) rfl (fun _ e14 => ?_)
    subst e14
    exact g_iretWv h hE dX5_tell_17 (by first | (simp [o_tell, er, LOW, sU_self, nI_pred, nv_nI, c9]; done) | (simp_all [o_tell, er, LOW, sU_self, nI_pred, nv_nI, c9]; done)) (mW_eq (by first | (simp [o_tell, er, LOW, sU_self, nI_pred, nv_nI, c9]; done) | (simp_all [o_tell, er, LOW, sU_self, nI_pred, nv_nI, c9]; done)) (by first | (simp [o_tell, er, LOW, sU_self, nI_pred, nv_nI, c9]; done) | (simp_all [o_tell, er, LOW, sU_self, nI_pred, nv_nI, c9]; done)))
set_option maxHeartbeats 4000000 in
set_option maxRecDepth 100000 in
theorem m5_told (l : Launch) (D : va_G) (T : Nat → ClassId) (o : Nat) (a : Nat → Nat) (s : Nat → Int32) (S : Nat → Nat → Int32) (k : Int32) (h0 : Inv s) : MetW l D T yX5_told cX5_told 2 (some .int) 1 22 0 0 [.ref o, .int k] (mW T o a s S) (fun r_ w_ => r_ = some (.int ((o_told s (S 3) k).1)) ∧ (w_ = mW T o a ((o_told s (S 3) k).2.1) (sU S 3 (o_told s (S 3) k).2.2))) := by
  refine metW (own := RX5) rfl (by decide) rfl (fun X h hl hDx hTx hnm hE => ?_)
  subst hl; subst hDx; subst hTx
  have hnp := h0.npl; have hnt := h0.ntl; have hnq := h0.nql
  show G X 0 0 (mW (xT X) o a s S) 0 [(0, .ref o), (1, .int k)] []
  refine g_iload_n h dX5_told_0 rfl ?_
  refine g_iconst (v := nI 1) h dX5_told_1 (by decide) ?_
  refine g_bipush (v := nI 6) h dX5_told_2 (by decide) ?_
  refine g_callSR h (m5_in _ _ _ k 1 6 ) (fun _ q => nomatch q) (lw_S q1439 q1440 q95 q1441) gy_X5_in ⟨Nat.le_of_ble_eq_true rfl, Nat.le_of_ble_eq_true rfl⟩ ⟨Nat.le_of_ble_eq_true rfl, Nat.le_of_ble_eq_true rfl⟩ rfl rfl (Nat.le_of_ble_eq_true rfl) dX5_told_4 ?_
  refine g_if_eqB h 19 dX5_told_7 (by decide) (fun c7 => ?_) (fun c7 => ?_)
  · skip
    show G X 0 0 (mW (xT X) o a s S) 19 [(0, .ref o), (1, .int k)] []
    refine g_aload_n h dX5_told_19 rfl ?_
    refine g_iconst (v := nI 1) h dX5_told_20 (by decide) ?_
    refine g_callVW0 h hE (m5_error _ _ _ o a s S 1 (by first | assumption | omega)) 0 rfl rfl (lw_V q1446 q1448 qs35 q95 q1449) gy_X5_error ⟨Nat.le_of_ble_eq_true rfl, Nat.le_of_ble_eq_true rfl⟩ ⟨Nat.le_of_ble_eq_true rfl, Nat.le_of_ble_eq_true rfl⟩ rfl rfl (Nat.le_of_ble_eq_true rfl) dX5_told_21 (st' := [.int (LOW - nI 1)]) rfl (fun _ e21 => ?_)
    subst e21
    exact g_iretWv h hE dX5_told_24 (by first | (simp [o_told, er, LOW, sU_self, nI_pred, nv_nI, c7]; done) | (simp_all [o_told, er, LOW, sU_self, nI_pred, nv_nI, c7]; done)) (mW_eq (by first | (simp [o_told, er, LOW, sU_self, nI_pred, nv_nI, c7]; done) | (simp_all [o_told, er, LOW, sU_self, nI_pred, nv_nI, c7]; done)) (by first | (simp [o_told, er, LOW, sU_self, nI_pred, nv_nI, c7]; done) | (simp_all [o_told, er, LOW, sU_self, nI_pred, nv_nI, c7]; done)))
  · skip
    show G X 0 0 (mW (xT X) o a s S) 10 [(0, .ref o), (1, .int k)] []
    obtain ⟨kn, hk1, hk2, rfl⟩ := inB1_of (n := 6) (by decide) c7
    have vk : nv (nI kn) = kn := nv_nI (by omega)
    refine g_aload_n h dX5_told_10 rfl ?_
    refine g_get h in_X5 0 rfl rfl 4 rfl q1378 rfl rfl dX5_told_11 ?_
    refine g_iload_n h dX5_told_14 rfl ?_
    refine g_iald h 4 rfl (by first | assumption | omega) (by decide) dX5_told_15 ?_
    refine g_toI (y := S 3 kn) (show S 3 kn = _ from rfl) ?_
    refine g_goto h 24 dX5_told_16 (by decide) ?_
    exact g_iretWv h hE dX5_told_24 (by first | (simp [o_told, er, LOW, sU_self, nI_pred, nv_nI, c7, vk]; done) | (simp_all [o_told, er, LOW, sU_self, nI_pred, nv_nI, c7, vk]; done)) (mW_eq (by first | (simp [o_told, er, LOW, sU_self, nI_pred, nv_nI, c7, vk]; done) | (simp_all [o_told, er, LOW, sU_self, nI_pred, nv_nI, c7, vk]; done)) (by first | (simp [o_told, er, LOW, sU_self, nI_pred, nv_nI, c7, vk]; done) | (simp_all [o_told, er, LOW, sU_self, nI_pred, nv_nI, c7, vk]; done)))
set_option maxHeartbeats 4000000 in
set_option maxRecDepth 100000 in
theorem m5_count (l : Launch) (D : va_G) (T : Nat → ClassId) (o : Nat) (a : Nat → Nat) (s : Nat → Int32) (S : Nat → Nat → Int32) (w : Int32) (h0 : Inv s) : MetW l D T yX5_count cX5_count 2 (some .int) 1 21 0 0 [.ref o, .int w] (mW T o a s S) (fun r_ w_ => r_ = some (.int ((o_count s (S 3) (S 0 5) w).1)) ∧ (w_ = mW T o a ((o_count s (S 3) (S 0 5) w).2.1) (sU S 3 (o_count s (S 3) (S 0 5) w).2.2))) := by
  refine metW (own := RX5) rfl (by decide) rfl (fun X h hl hDx hTx hnm hE => ?_)
  subst hl; subst hDx; subst hTx
  have hnp := h0.npl; have hnt := h0.ntl; have hnq := h0.nql
  show G X 0 0 (mW (xT X) o a s S) 0 [(0, .ref o), (1, .int w)] []
  refine g_iload_n h dX5_count_0 rfl ?_
  rcases g_sw w 0 8 with c1 | ⟨j1, hj1, e1⟩
  · skip
    have d1_0 : ¬ w = 0 := fun z => absurd c1 (by rw [z]; decide)
    have d1_1 : ¬ w = 1 := fun z => absurd c1 (by rw [z]; decide)
    have d1_2 : ¬ w = 2 := fun z => absurd c1 (by rw [z]; decide)
    have d1_3 : ¬ w = 3 := fun z => absurd c1 (by rw [z]; decide)
    have d1_4 : ¬ w = 4 := fun z => absurd c1 (by rw [z]; decide)
    have d1_5 : ¬ w = 5 := fun z => absurd c1 (by rw [z]; decide)
    have d1_6 : ¬ w = 6 := fun z => absurd c1 (by rw [z]; decide)
    have d1_7 : ¬ w = 7 := fun z => absurd c1 (by rw [z]; decide)
    refine g_tableOut h 105 dX5_count_1 (by omega) (by decide) ?_
    show G X 0 0 (mW (xT X) o a s S) 105 [(0, .ref o), (1, .int w)] []
    have cb : inB w 0 7 = false := inB_out (n := 7) (by decide) (by omega)
    refine g_aload_n h dX5_count_105 rfl ?_
    refine g_iconst (v := nI 1) h dX5_count_106 (by decide) ?_
    refine g_callVW0 h hE (m5_error _ _ _ o a s S 1 (by first | assumption | omega)) 0 rfl rfl (lw_V q1446 q1448 qs35 q95 q1449) gy_X5_error ⟨Nat.le_of_ble_eq_true rfl, Nat.le_of_ble_eq_true rfl⟩ ⟨Nat.le_of_ble_eq_true rfl, Nat.le_of_ble_eq_true rfl⟩ rfl rfl (Nat.le_of_ble_eq_true rfl) dX5_count_107 (st' := [.int (LOW - nI 1)]) rfl (fun _ e107 => ?_)
    subst e107
    exact g_iretWv h hE dX5_count_110 (by simp only [o_count, cb]; simp [er, LOW, sU_self]) (mW_eq (by simp only [o_count, cb]; simp [er, LOW, sU_self]) (by simp only [o_count, cb]; simp [er, LOW, sU_self]))
  · skip
    rcases (show j1 = 0 ∨ j1 = 1 ∨ j1 = 2 ∨ j1 = 3 ∨ j1 = 4 ∨ j1 = 5 ∨ j1 = 6 ∨ j1 = 7 by omega) with rfl | rfl | rfl | rfl | rfl | rfl | rfl | rfl
    · skip
      have e1 : w = 0 := i32_of e1 (by decide)
      subst e1
      refine g_tableIn h 48 dX5_count_1 0 (by decide) (by decide) (by decide) rfl (by decide) ?_
      show G X 0 0 (mW (xT X) o a s S) 48 [(0, .ref o), (1, .int 0)] []
      refine g_aload_n h dX5_count_48 rfl ?_
      refine g_get h in_X5 0 rfl rfl 0 rfl q1374 rfl rfl dX5_count_49 ?_
      refine g_iconst (v := nI 0) h dX5_count_52 (by decide) ?_
      refine g_iald h 1 rfl (by first | assumption | omega) (by decide) dX5_count_53 ?_
      exact g_iretWv h hE dX5_count_54 (by first | (simp [o_count, cntV, inB, er, LOW, sU_self, nI_pred, nv_nI]; done) | (simp_all [o_count, cntV, inB, er, LOW, sU_self, nI_pred, nv_nI]; done)) (mW_eq (by first | (simp [o_count, cntV, inB, er, LOW, sU_self, nI_pred, nv_nI]; done) | (simp_all [o_count, cntV, inB, er, LOW, sU_self, nI_pred, nv_nI]; done)) (by first | (simp [o_count, cntV, inB, er, LOW, sU_self, nI_pred, nv_nI]; done) | (simp_all [o_count, cntV, inB, er, LOW, sU_self, nI_pred, nv_nI]; done)))
    · skip
      have e1 : w = 1 := i32_of e1 (by decide)
      subst e1
      refine g_tableIn h 55 dX5_count_1 1 (by decide) (by decide) (by decide) rfl (by decide) ?_
      show G X 0 0 (mW (xT X) o a s S) 55 [(0, .ref o), (1, .int 1)] []
      refine g_aload_n h dX5_count_55 rfl ?_
      refine g_get h in_X5 0 rfl rfl 0 rfl q1374 rfl rfl dX5_count_56 ?_
      refine g_iconst (v := nI 1) h dX5_count_59 (by decide) ?_
      refine g_iald h 1 rfl (by first | assumption | omega) (by decide) dX5_count_60 ?_
      exact g_iretWv h hE dX5_count_61 (by first | (simp [o_count, cntV, inB, er, LOW, sU_self, nI_pred, nv_nI]; done) | (simp_all [o_count, cntV, inB, er, LOW, sU_self, nI_pred, nv_nI]; done)) (mW_eq (by first | (simp [o_count, cntV, inB, er, LOW, sU_self, nI_pred, nv_nI]; done) | (simp_all [o_count, cntV, inB, er, LOW, sU_self, nI_pred, nv_nI]; done)) (by first | (simp [o_count, cntV, inB, er, LOW, sU_self, nI_pred, nv_nI]; done) | (simp_all [o_count, cntV, inB, er, LOW, sU_self, nI_pred, nv_nI]; done)))
    · skip
      have e1 : w = 2 := i32_of e1 (by decide)
      subst e1
      refine g_tableIn h 62 dX5_count_1 2 (by decide) (by decide) (by decide) rfl (by decide) ?_
      show G X 0 0 (mW (xT X) o a s S) 62 [(0, .ref o), (1, .int 2)] []
      refine g_aload_n h dX5_count_62 rfl ?_
      refine g_get h in_X5 0 rfl rfl 0 rfl q1374 rfl rfl dX5_count_63 ?_
      refine g_iconst (v := nI 2) h dX5_count_66 (by decide) ?_
      refine g_iald h 1 rfl (by first | assumption | omega) (by decide) dX5_count_67 ?_
      exact g_iretWv h hE dX5_count_68 (by first | (simp [o_count, cntV, inB, er, LOW, sU_self, nI_pred, nv_nI]; done) | (simp_all [o_count, cntV, inB, er, LOW, sU_self, nI_pred, nv_nI]; done)) (mW_eq (by first | (simp [o_count, cntV, inB, er, LOW, sU_self, nI_pred, nv_nI]; done) | (simp_all [o_count, cntV, inB, er, LOW, sU_self, nI_pred, nv_nI]; done)) (by first | (simp [o_count, cntV, inB, er, LOW, sU_self, nI_pred, nv_nI]; done) | (simp_all [o_count, cntV, inB, er, LOW, sU_self, nI_pred, nv_nI]; done)))
    · skip
      have e1 : w = 3 := i32_of e1 (by decide)
      subst e1
      refine g_tableIn h 69 dX5_count_1 3 (by decide) (by decide) (by decide) rfl (by decide) ?_
      show G X 0 0 (mW (xT X) o a s S) 69 [(0, .ref o), (1, .int 3)] []
      refine g_aload_n h dX5_count_69 rfl ?_
      refine g_get h in_X5 0 rfl rfl 0 rfl q1374 rfl rfl dX5_count_70 ?_
      refine g_iconst (v := nI 3) h dX5_count_73 (by decide) ?_
      refine g_iald h 1 rfl (by first | assumption | omega) (by decide) dX5_count_74 ?_
      exact g_iretWv h hE dX5_count_75 (by first | (simp [o_count, cntV, inB, er, LOW, sU_self, nI_pred, nv_nI]; done) | (simp_all [o_count, cntV, inB, er, LOW, sU_self, nI_pred, nv_nI]; done)) (mW_eq (by first | (simp [o_count, cntV, inB, er, LOW, sU_self, nI_pred, nv_nI]; done) | (simp_all [o_count, cntV, inB, er, LOW, sU_self, nI_pred, nv_nI]; done)) (by first | (simp [o_count, cntV, inB, er, LOW, sU_self, nI_pred, nv_nI]; done) | (simp_all [o_count, cntV, inB, er, LOW, sU_self, nI_pred, nv_nI]; done)))
    · skip
      have e1 : w = 4 := i32_of e1 (by decide)
      subst e1
      refine g_tableIn h 76 dX5_count_1 4 (by decide) (by decide) (by decide) rfl (by decide) ?_
      show G X 0 0 (mW (xT X) o a s S) 76 [(0, .ref o), (1, .int 4)] []
      refine g_aload_n h dX5_count_76 rfl ?_
      refine g_get h in_X5 0 rfl rfl 0 rfl q1374 rfl rfl dX5_count_77 ?_
      refine g_bipush (v := nI 6) h dX5_count_80 (by decide) ?_
      refine g_iald h 1 rfl (by first | assumption | omega) (by decide) dX5_count_82 ?_
      exact g_iretWv h hE dX5_count_83 (by first | (simp [o_count, cntV, inB, er, LOW, sU_self, nI_pred, nv_nI]; done) | (simp_all [o_count, cntV, inB, er, LOW, sU_self, nI_pred, nv_nI]; done)) (mW_eq (by first | (simp [o_count, cntV, inB, er, LOW, sU_self, nI_pred, nv_nI]; done) | (simp_all [o_count, cntV, inB, er, LOW, sU_self, nI_pred, nv_nI]; done)) (by first | (simp [o_count, cntV, inB, er, LOW, sU_self, nI_pred, nv_nI]; done) | (simp_all [o_count, cntV, inB, er, LOW, sU_self, nI_pred, nv_nI]; done)))
    · skip
      have e1 : w = 5 := i32_of e1 (by decide)
      subst e1
      refine g_tableIn h 84 dX5_count_1 5 (by decide) (by decide) (by decide) rfl (by decide) ?_
      show G X 0 0 (mW (xT X) o a s S) 84 [(0, .ref o), (1, .int 5)] []
      refine g_aload_n h dX5_count_84 rfl ?_
      refine g_get h in_X5 0 rfl rfl 0 rfl q1374 rfl rfl dX5_count_85 ?_
      refine g_bipush (v := nI 7) h dX5_count_88 (by decide) ?_
      refine g_iald h 1 rfl (by first | assumption | omega) (by decide) dX5_count_90 ?_
      exact g_iretWv h hE dX5_count_91 (by first | (simp [o_count, cntV, inB, er, LOW, sU_self, nI_pred, nv_nI]; done) | (simp_all [o_count, cntV, inB, er, LOW, sU_self, nI_pred, nv_nI]; done)) (mW_eq (by first | (simp [o_count, cntV, inB, er, LOW, sU_self, nI_pred, nv_nI]; done) | (simp_all [o_count, cntV, inB, er, LOW, sU_self, nI_pred, nv_nI]; done)) (by first | (simp [o_count, cntV, inB, er, LOW, sU_self, nI_pred, nv_nI]; done) | (simp_all [o_count, cntV, inB, er, LOW, sU_self, nI_pred, nv_nI]; done)))
    · skip
      have e1 : w = 6 := i32_of e1 (by decide)
      subst e1
      refine g_tableIn h 92 dX5_count_1 6 (by decide) (by decide) (by decide) rfl (by decide) ?_
      show G X 0 0 (mW (xT X) o a s S) 92 [(0, .ref o), (1, .int 6)] []
      refine g_aload_n h dX5_count_92 rfl ?_
      refine g_get h in_X5 0 rfl rfl 13 rfl q1387 rfl rfl dX5_count_93 ?_
      exact g_iretWv h hE dX5_count_96 (by first | (simp [o_count, cntV, inB, er, LOW, sU_self, nI_pred, nv_nI]; done) | (simp_all [o_count, cntV, inB, er, LOW, sU_self, nI_pred, nv_nI]; done)) (mW_eq (by first | (simp [o_count, cntV, inB, er, LOW, sU_self, nI_pred, nv_nI]; done) | (simp_all [o_count, cntV, inB, er, LOW, sU_self, nI_pred, nv_nI]; done)) (by first | (simp [o_count, cntV, inB, er, LOW, sU_self, nI_pred, nv_nI]; done) | (simp_all [o_count, cntV, inB, er, LOW, sU_self, nI_pred, nv_nI]; done)))
    · skip
      have e1 : w = 7 := i32_of e1 (by decide)
      subst e1
      refine g_tableIn h 97 dX5_count_1 7 (by decide) (by decide) (by decide) rfl (by decide) ?_
      show G X 0 0 (mW (xT X) o a s S) 97 [(0, .ref o), (1, .int 7)] []
      refine g_aload_n h dX5_count_97 rfl ?_
      refine g_get h in_X5 0 rfl rfl 0 rfl q1374 rfl rfl dX5_count_98 ?_
      refine g_bipush (v := nI 8) h dX5_count_101 (by decide) ?_
      refine g_iald h 1 rfl (by first | assumption | omega) (by decide) dX5_count_103 ?_
      exact g_iretWv h hE dX5_count_104 (by first | (simp [o_count, cntV, inB, er, LOW, sU_self, nI_pred, nv_nI]; done) | (simp_all [o_count, cntV, inB, er, LOW, sU_self, nI_pred, nv_nI]; done)) (mW_eq (by first | (simp [o_count, cntV, inB, er, LOW, sU_self, nI_pred, nv_nI]; done) | (simp_all [o_count, cntV, inB, er, LOW, sU_self, nI_pred, nv_nI]; done)) (by first | (simp [o_count, cntV, inB, er, LOW, sU_self, nI_pred, nv_nI]; done) | (simp_all [o_count, cntV, inB, er, LOW, sU_self, nI_pred, nv_nI]; done)))
set_option maxHeartbeats 4000000 in
set_option maxRecDepth 100000 in
theorem m5_body (l : Launch) (D : va_G) (T : Nat → ClassId) (o : Nat) (a : Nat → Nat) (s : Nat → Int32) (S : Nat → Nat → Int32) (i : Int32) (h0 : Inv s) (h1 : TrI S) : MetW l D T yX5_body cX5_body 2 (some .int) 1 22 0 0 [.ref o, .int i] (mW T o a s S) (fun r_ w_ => r_ = some (.int ((o_body s (S 3) (S 7) (S 0 5) i).1)) ∧ (w_ = mW T o a ((o_body s (S 3) (S 7) (S 0 5) i).2.1) (sU S 3 (o_body s (S 3) (S 7) (S 0 5) i).2.2))) := by
  refine metW (own := RX5) rfl (by decide) rfl (fun X h hl hDx hTx hnm hE => ?_)
  subst hl; subst hDx; subst hTx
  have hnp := h0.npl; have hnt := h0.ntl; have hnq := h0.nql
  have htr := h1.2
  show G X 0 0 (mW (xT X) o a s S) 0 [(0, .ref o), (1, .int i)] []
  refine g_iload_n h dX5_body_0 rfl ?_
  refine g_iconst (v := nI 0) h dX5_body_1 (by decide) ?_
  refine g_aload_n h dX5_body_2 rfl ?_
  refine g_get h in_X5 0 rfl rfl 13 rfl q1387 rfl rfl dX5_body_3 ?_
  refine g_iconst (v := nI 1) h dX5_body_6 (by decide) ?_
  refine g_toI (y := 1) rfl ?_
  refine g_isub h dX5_body_7 ?_
  refine g_callSR h (m5_in _ _ _ i 0 ((S 0 5) - 1) ) (fun _ q => nomatch q) (lw_S q1439 q1440 q95 q1441) gy_X5_in ⟨Nat.le_of_ble_eq_true rfl, Nat.le_of_ble_eq_true rfl⟩ ⟨Nat.le_of_ble_eq_true rfl, Nat.le_of_ble_eq_true rfl⟩ rfl rfl (Nat.le_of_ble_eq_true rfl) dX5_body_8 ?_
  refine g_if_eqB h 23 dX5_body_11 (by decide) (fun c11 => ?_) (fun c11 => ?_)
  · skip
    show G X 0 0 (mW (xT X) o a s S) 23 [(0, .ref o), (1, .int i)] []
    refine g_aload_n h dX5_body_23 rfl ?_
    refine g_iconst (v := nI 2) h dX5_body_24 (by decide) ?_
    refine g_callVW0 h hE (m5_error _ _ _ o a s S 2 (by first | assumption | omega)) 0 rfl rfl (lw_V q1446 q1448 qs35 q95 q1449) gy_X5_error ⟨Nat.le_of_ble_eq_true rfl, Nat.le_of_ble_eq_true rfl⟩ ⟨Nat.le_of_ble_eq_true rfl, Nat.le_of_ble_eq_true rfl⟩ rfl rfl (Nat.le_of_ble_eq_true rfl) dX5_body_25 (st' := [.int (LOW - nI 2)]) rfl (fun _ e25 => ?_)
    subst e25
    exact g_iretWv h hE dX5_body_28 (by first | (simp [o_body, er, LOW, sU_self, nI_pred, nv_nI, c11]; done) | (simp_all [o_body, er, LOW, sU_self, nI_pred, nv_nI, c11]; done)) (mW_eq (by first | (simp [o_body, er, LOW, sU_self, nI_pred, nv_nI, c11]; done) | (simp_all [o_body, er, LOW, sU_self, nI_pred, nv_nI, c11]; done)) (by first | (simp [o_body, er, LOW, sU_self, nI_pred, nv_nI, c11]; done) | (simp_all [o_body, er, LOW, sU_self, nI_pred, nv_nI, c11]; done)))
  · skip
    show G X 0 0 (mW (xT X) o a s S) 14 [(0, .ref o), (1, .int i)] []
    obtain ⟨jn, hj, rfl⟩ := isPT_of (Nat.lt_of_le_of_lt h1.2 (by decide)) h1.1 c11
    have vi : nv (nI jn) = jn := nv_nI (by omega)
    refine g_aload_n h dX5_body_14 rfl ?_
    refine g_get h in_X5 0 rfl rfl 12 rfl q1386 rfl rfl dX5_body_15 ?_
    refine g_iload_n h dX5_body_18 rfl ?_
    refine g_iald h 8 rfl (by first | assumption | omega) (by decide) dX5_body_19 ?_
    refine g_toI (y := S 7 jn) (show S 7 jn = _ from rfl) ?_
    refine g_goto h 28 dX5_body_20 (by decide) ?_
    exact g_iretWv h hE dX5_body_28 (by first | (simp [o_body, er, LOW, sU_self, nI_pred, nv_nI, c11, vi]; done) | (simp_all [o_body, er, LOW, sU_self, nI_pred, nv_nI, c11, vi]; done)) (mW_eq (by first | (simp [o_body, er, LOW, sU_self, nI_pred, nv_nI, c11, vi]; done) | (simp_all [o_body, er, LOW, sU_self, nI_pred, nv_nI, c11, vi]; done)) (by first | (simp [o_body, er, LOW, sU_self, nI_pred, nv_nI, c11, vi]; done) | (simp_all [o_body, er, LOW, sU_self, nI_pred, nv_nI, c11, vi]; done)))
set_option maxHeartbeats 4000000 in
set_option maxRecDepth 100000 in
theorem m5_check (l : Launch) (D : va_G) (T : Nat → ClassId) (o : Nat) (a : Nat → Nat) (s : Nat → Int32) (S : Nat → Nat → Int32) (x : Int32) (h0 : Inv s) : MetW l D T yX5_check cX5_check 6 (some .int) 2 43 0 0 [.ref o, .int x] (mW T o a s S) (fun r_ w_ => r_ = some (.int ((o_check s (S 3) x).1)) ∧ (w_ = mW T o a ((o_check s (S 3) x).2.1) (sU S 3 (o_check s (S 3) x).2.2))) := by
  refine metW (own := RX5) rfl (by decide) rfl (fun X h hl hDx hTx hnm hE => ?_)
  subst hl; subst hDx; subst hTx
  have hnp := h0.npl; have hnt := h0.ntl; have hnq := h0.nql
  have hnw := h0.nwl; have k7 : Kp s (upd s 7 0) := h0.waits (rg_nI (k := 0) (by omega) (by decide)); have k7i := k7.1; have k7t := k7.2.2.1
  have iP7 : ∀ y, isP (upd s 7 0) y = isP s y := fun y => by unfold isP; rw [upd_n (by decide)]
  show G X 0 0 (mW (xT X) o a s S) 0 [(0, .ref o), (1, .int x)] []
  refine g_aload_n h dX5_check_0 rfl ?_
  refine g_get h in_X5 0 rfl rfl 0 rfl q1374 rfl rfl dX5_check_1 ?_
  refine g_bipush (v := nI 7) h dX5_check_4 (by decide) ?_
  refine g_iald h 1 rfl (by first | assumption | omega) (by decide) dX5_check_6 ?_
  refine g_toN (a := nW s) (Inv.nw h0) ?_
  refine g_istore_n (lv' := [(0, .ref o), (1, .int x), (2, .int (nI (nW s)))]) h dX5_check_7 (by decide) rfl ?_
  refine g_aload_n h dX5_check_8 rfl ?_
  refine g_get h in_X5 0 rfl rfl 0 rfl q1374 rfl rfl dX5_check_9 ?_
  refine g_bipush (v := nI 7) h dX5_check_12 (by decide) ?_
  refine g_iconst (v := nI 0) h dX5_check_14 (by decide) ?_
  refine g_iast (ws' := mW (xT X) o a (upd s 7 0) S) h hE.1 1 rfl (by first | assumption | omega) (by decide) dX5_check_15 rfl ?_
  refine g_aload_n h dX5_check_16 rfl ?_
  refine g_iload_n h dX5_check_17 rfl ?_
  refine g_callVR h (m5_isPerson _ _ _ o a (upd s 7 0) S x ) (fun _ q => q) 0 rfl rfl (lw_V q1455 q1457 qs36 q95 q1458) gy_X5_isPerson ⟨Nat.le_of_ble_eq_true rfl, Nat.le_of_ble_eq_true rfl⟩ ⟨Nat.le_of_ble_eq_true rfl, Nat.le_of_ble_eq_true rfl⟩ rfl rfl (Nat.le_of_ble_eq_true rfl) dX5_check_18 ?_
  refine g_toI (y := bI (isP s x)) (by rw [iP7]) ?_
  refine g_if_neB h 30 dX5_check_21 (by decide) (fun c21 => ?_) (fun c21 => ?_)
  · skip
    show G X 0 0 (mW (xT X) o a (upd s 7 0) S) 30 [(0, .ref o), (1, .int x), (2, .int (nI (nW s)))] []
    obtain ⟨xn, hx, rfl⟩ := isP_of h0 c21
    have vx : nv (nI xn) = xn := nv_nI (by omega)
    refine g_iconst (v := nI 0) h dX5_check_30 (by decide) ?_
    refine g_istore_n (lv' := [(0, .ref o), (1, .int (nI xn)), (2, .int (nI (nW s))), (3, .int (nI 0))]) h dX5_check_31 (by decide) rfl ?_
    refine g_iconst (v := nI 1) h dX5_check_32 (by decide) ?_
    refine g_istore (lv' := [(0, .ref o), (1, .int (nI xn)), (2, .int (nI (nW s))), (3, .int (nI 0)), (4, .int (nI 1))]) h dX5_check_33 (by decide) rfl ?_
    refine g_iconst (v := nI 0) h dX5_check_35 (by decide) ?_
    refine g_istore (lv' := [(0, .ref o), (1, .int (nI xn)), (2, .int (nI (nW s))), (3, .int (nI 0)), (4, .int (nI 1)), (5, .int (nI 0))]) h dX5_check_36 (by decide) rfl ?_
    have lp : ∀ i, i ≤ nT s → ∀ (_u : Unit) (r : Nat) (g : Bool), ((r, g) = fo i (chkF s (nW s) xn) (0, true)) → (r ≤ i) → G X 0 0 (mW (xT X) o a (upd s 7 0) S) 38 [(0, .ref o), (1, .int (nI xn)), (2, .int (nI (nW s))), (3, .int (nI r)), (4, .int (bI g)), (5, .int (nI i))] [] := by
      refine g_ind (N := nT s) (fun i hi_i ih_lp => ?_)
      intro _u r g e0_lp e1_lp
      refine g_iload h dX5_check_38 rfl ?_
      refine g_aload_n h dX5_check_40 rfl ?_
      refine g_get h in_X5 0 rfl rfl 0 rfl q1374 rfl rfl dX5_check_41 ?_
      refine g_iconst (v := nI 1) h dX5_check_44 (by decide) ?_
      refine g_iald h 1 rfl (by first | assumption | omega) (by decide) dX5_check_45 ?_
      refine g_toI (y := s 1) (show (upd s 7 0) 1 = _ from (upd_n (by omega))) ?_
      refine g_toN (a := nT s) (Inv.nt h0) ?_
      refine g_icmp_geN h 110 dX5_check_46 (by decide) (by first | omega | decide) (by first | omega | decide) (fun c46 => ?_) (fun c46 => ?_)
      · skip
        show G X 0 0 (mW (xT X) o a (upd s 7 0) S) 110 [(0, .ref o), (1, .int (nI xn)), (2, .int (nI (nW s))), (3, .int (nI r)), (4, .int (bI g)), (5, .int (nI i))] []
        have ce : chkV s (nW s) xn = (r, g) := by unfold chkV; first | (subst c51; exact chk_stop i (nT s) r e0_lp.symm (by omega)) | (rw [show nT s = i by omega]; exact e0_lp.symm)
        refine g_iload h dX5_check_110 rfl ?_
        refine g_if_eqB h 124 dX5_check_112 (by decide) (fun c112 => ?_) (fun c112 => ?_)
        · skip
          show G X 0 0 (mW (xT X) o a (upd s 7 0) S) 124 [(0, .ref o), (1, .int (nI xn)), (2, .int (nI (nW s))), (3, .int (nI r)), (4, .int (bI g)), (5, .int (nI i))] []
          refine g_iconst (v := nI 1) h dX5_check_124 (by decide) ?_
          refine g_iload_n h dX5_check_125 rfl ?_
          refine g_iaddN h dX5_check_126 ?_
          exact g_iretWv h hE dX5_check_127 (by first | (simp [o_check, er, LOW, sU_self, nI_pred, nv_nI, c21, vx, c46, ce, c112]; done) | (simp_all [o_check, er, LOW, sU_self, nI_pred, nv_nI, c21, vx, c46, ce, c112]; done)) (mW_eq (by first | (simp [o_check, er, LOW, sU_self, nI_pred, nv_nI, c21, vx, c46, ce, c112]; done) | (simp_all [o_check, er, LOW, sU_self, nI_pred, nv_nI, c21, vx, c46, ce, c112]; done)) (by first | (simp [o_check, er, LOW, sU_self, nI_pred, nv_nI, c21, vx, c46, ce, c112]; done) | (simp_all [o_check, er, LOW, sU_self, nI_pred, nv_nI, c21, vx, c46, ce, c112]; done)))
        · skip
          show G X 0 0 (mW (xT X) o a (upd s 7 0) S) 115 [(0, .ref o), (1, .int (nI xn)), (2, .int (nI (nW s))), (3, .int (nI r)), (4, .int (bI g)), (5, .int (nI i))] []
          refine g_iload_n h dX5_check_115 rfl ?_
          refine g_iload_n h dX5_check_116 rfl ?_
          refine g_icmp_neN h 124 dX5_check_117 (by decide) (by first | omega | decide) (by first | omega | decide) (fun c117 => ?_) (fun c117 => ?_)
          · skip
            show G X 0 0 (mW (xT X) o a (upd s 7 0) S) 124 [(0, .ref o), (1, .int (nI xn)), (2, .int (nI (nW s))), (3, .int (nI r)), (4, .int (bI g)), (5, .int (nI i))] []
            refine g_iconst (v := nI 1) h dX5_check_124 (by decide) ?_
            refine g_iload_n h dX5_check_125 rfl ?_
            refine g_iaddN h dX5_check_126 ?_
            exact g_iretWv h hE dX5_check_127 (by first | (simp [o_check, er, LOW, sU_self, nI_pred, nv_nI, c21, vx, c46, ce, c112, c117]; done) | (simp_all [o_check, er, LOW, sU_self, nI_pred, nv_nI, c21, vx, c46, ce, c112, c117]; done)) (mW_eq (by first | (simp [o_check, er, LOW, sU_self, nI_pred, nv_nI, c21, vx, c46, ce, c112, c117]; done) | (simp_all [o_check, er, LOW, sU_self, nI_pred, nv_nI, c21, vx, c46, ce, c112, c117]; done)) (by first | (simp [o_check, er, LOW, sU_self, nI_pred, nv_nI, c21, vx, c46, ce, c112, c117]; done) | (simp_all [o_check, er, LOW, sU_self, nI_pred, nv_nI, c21, vx, c46, ce, c112, c117]; done)))
          · skip
            show G X 0 0 (mW (xT X) o a (upd s 7 0) S) 120 [(0, .ref o), (1, .int (nI xn)), (2, .int (nI (nW s))), (3, .int (nI r)), (4, .int (bI g)), (5, .int (nI i))] []
            refine g_iconst (v := nI 0) h dX5_check_120 (by decide) ?_
            refine g_goto h 127 dX5_check_121 (by decide) ?_
            refine g_toI (y := 0) rfl ?_
            exact g_iretWv h hE dX5_check_127 (by first | (simp [o_check, er, LOW, sU_self, nI_pred, nv_nI, c21, vx, c46, ce, c112, c117]; done) | (simp_all [o_check, er, LOW, sU_self, nI_pred, nv_nI, c21, vx, c46, ce, c112, c117]; done)) (mW_eq (by first | (simp [o_check, er, LOW, sU_self, nI_pred, nv_nI, c21, vx, c46, ce, c112, c117]; done) | (simp_all [o_check, er, LOW, sU_self, nI_pred, nv_nI, c21, vx, c46, ce, c112, c117]; done)) (by first | (simp [o_check, er, LOW, sU_self, nI_pred, nv_nI, c21, vx, c46, ce, c112, c117]; done) | (simp_all [o_check, er, LOW, sU_self, nI_pred, nv_nI, c21, vx, c46, ce, c112, c117]; done)))
      · skip
        show G X 0 0 (mW (xT X) o a (upd s 7 0) S) 49 [(0, .ref o), (1, .int (nI xn)), (2, .int (nI (nW s))), (3, .int (nI r)), (4, .int (bI g)), (5, .int (nI i))] []
        refine g_iload h dX5_check_49 rfl ?_
        refine g_if_eqB h 110 dX5_check_51 (by decide) (fun c51 => ?_) (fun c51 => ?_)
        · skip
          show G X 0 0 (mW (xT X) o a (upd s 7 0) S) 110 [(0, .ref o), (1, .int (nI xn)), (2, .int (nI (nW s))), (3, .int (nI r)), (4, .int (bI g)), (5, .int (nI i))] []
          have ce : chkV s (nW s) xn = (r, g) := by unfold chkV; first | (subst c51; exact chk_stop i (nT s) r e0_lp.symm (by omega)) | (rw [show nT s = i by omega]; exact e0_lp.symm)
          refine g_iload h dX5_check_110 rfl ?_
          refine g_if_eqB h 124 dX5_check_112 (by decide) (fun c112 => ?_) (fun c112 => ?_)
          · skip
            show G X 0 0 (mW (xT X) o a (upd s 7 0) S) 124 [(0, .ref o), (1, .int (nI xn)), (2, .int (nI (nW s))), (3, .int (nI r)), (4, .int (bI g)), (5, .int (nI i))] []
            refine g_iconst (v := nI 1) h dX5_check_124 (by decide) ?_
            refine g_iload_n h dX5_check_125 rfl ?_
            refine g_iaddN h dX5_check_126 ?_
            exact g_iretWv h hE dX5_check_127 (by first | (simp [o_check, er, LOW, sU_self, nI_pred, nv_nI, c21, vx, c46, c51, ce, c112]; done) | (simp_all [o_check, er, LOW, sU_self, nI_pred, nv_nI, c21, vx, c46, c51, ce, c112]; done)) (mW_eq (by first | (simp [o_check, er, LOW, sU_self, nI_pred, nv_nI, c21, vx, c46, c51, ce, c112]; done) | (simp_all [o_check, er, LOW, sU_self, nI_pred, nv_nI, c21, vx, c46, c51, ce, c112]; done)) (by first | (simp [o_check, er, LOW, sU_self, nI_pred, nv_nI, c21, vx, c46, c51, ce, c112]; done) | (simp_all [o_check, er, LOW, sU_self, nI_pred, nv_nI, c21, vx, c46, c51, ce, c112]; done)))
          · skip
            show G X 0 0 (mW (xT X) o a (upd s 7 0) S) 115 [(0, .ref o), (1, .int (nI xn)), (2, .int (nI (nW s))), (3, .int (nI r)), (4, .int (bI g)), (5, .int (nI i))] []
            refine g_iload_n h dX5_check_115 rfl ?_
            refine g_iload_n h dX5_check_116 rfl ?_
            refine g_icmp_neN h 124 dX5_check_117 (by decide) (by first | omega | decide) (by first | omega | decide) (fun c117 => ?_) (fun c117 => ?_)
            · skip
              show G X 0 0 (mW (xT X) o a (upd s 7 0) S) 124 [(0, .ref o), (1, .int (nI xn)), (2, .int (nI (nW s))), (3, .int (nI r)), (4, .int (bI g)), (5, .int (nI i))] []
              refine g_iconst (v := nI 1) h dX5_check_124 (by decide) ?_
              refine g_iload_n h dX5_check_125 rfl ?_
              refine g_iaddN h dX5_check_126 ?_
              exact g_iretWv h hE dX5_check_127 (by first | (simp [o_check, er, LOW, sU_self, nI_pred, nv_nI, c21, vx, c46, c51, ce, c112, c117]; done) | (simp_all [o_check, er, LOW, sU_self, nI_pred, nv_nI, c21, vx, c46, c51, ce, c112, c117]; done)) (mW_eq (by first | (simp [o_check, er, LOW, sU_self, nI_pred, nv_nI, c21, vx, c46, c51, ce, c112, c117]; done) | (simp_all [o_check, er, LOW, sU_self, nI_pred, nv_nI, c21, vx, c46, c51, ce, c112, c117]; done)) (by first | (simp [o_check, er, LOW, sU_self, nI_pred, nv_nI, c21, vx, c46, c51, ce, c112, c117]; done) | (simp_all [o_check, er, LOW, sU_self, nI_pred, nv_nI, c21, vx, c46, c51, ce, c112, c117]; done)))
            · skip
              show G X 0 0 (mW (xT X) o a (upd s 7 0) S) 120 [(0, .ref o), (1, .int (nI xn)), (2, .int (nI (nW s))), (3, .int (nI r)), (4, .int (bI g)), (5, .int (nI i))] []
              refine g_iconst (v := nI 0) h dX5_check_120 (by decide) ?_
              refine g_goto h 127 dX5_check_121 (by decide) ?_
              refine g_toI (y := 0) rfl ?_
              exact g_iretWv h hE dX5_check_127 (by first | (simp [o_check, er, LOW, sU_self, nI_pred, nv_nI, c21, vx, c46, c51, ce, c112, c117]; done) | (simp_all [o_check, er, LOW, sU_self, nI_pred, nv_nI, c21, vx, c46, c51, ce, c112, c117]; done)) (mW_eq (by first | (simp [o_check, er, LOW, sU_self, nI_pred, nv_nI, c21, vx, c46, c51, ce, c112, c117]; done) | (simp_all [o_check, er, LOW, sU_self, nI_pred, nv_nI, c21, vx, c46, c51, ce, c112, c117]; done)) (by first | (simp [o_check, er, LOW, sU_self, nI_pred, nv_nI, c21, vx, c46, c51, ce, c112, c117]; done) | (simp_all [o_check, er, LOW, sU_self, nI_pred, nv_nI, c21, vx, c46, c51, ce, c112, c117]; done)))
        · skip
          show G X 0 0 (mW (xT X) o a (upd s 7 0) S) 54 [(0, .ref o), (1, .int (nI xn)), (2, .int (nI (nW s))), (3, .int (nI r)), (4, .int (bI g)), (5, .int (nI i))] []
          refine g_aload_n h dX5_check_54 rfl ?_
          refine g_iload h dX5_check_55 rfl ?_
          refine g_callVR h (m5_owner _ _ _ o a (upd s 7 0) S i (by first | assumption | omega)) (fun _ q => q) 0 rfl rfl (lw_V q1475 q1477 qs41 q95 q1478) gy_X5_owner ⟨Nat.le_of_ble_eq_true rfl, Nat.le_of_ble_eq_true rfl⟩ ⟨Nat.le_of_ble_eq_true rfl, Nat.le_of_ble_eq_true rfl⟩ rfl rfl (Nat.le_of_ble_eq_true rfl) dX5_check_57 ?_
          refine g_toI (y := s (44 + 4 * i)) (show (upd s 7 0) (44 + 4 * i) = _ from (upd_n (by omega))) ?_
          refine g_iload_n h dX5_check_60 rfl ?_
          refine g_icmp_ne h 104 dX5_check_61 (by decide) (fun c61 => ?_) (fun c61 => ?_)
          · skip
            show G X 0 0 (mW (xT X) o a (upd s 7 0) S) 104 [(0, .ref o), (1, .int (nI xn)), (2, .int (nI (nW s))), (3, .int (nI r)), (4, .int (bI g)), (5, .int (nI i))] []
            refine g_iincN (b := 1) (lv' := [(0, .ref o), (1, .int (nI xn)), (2, .int (nI (nW s))), (3, .int (nI r)), (4, .int (bI g)), (5, .int (nI (i + 1)))]) h dX5_check_104 rfl rfl (by decide) rfl ?_
            refine g_goto h 38 dX5_check_107 (by decide) ?_
            exact ih_lp (i + 1) (by omega) (by omega) () r g (by rw [fo_s, ← e0_lp]; simp [chkF, o_check, er, LOW, sU_self, nI_pred, nv_nI, c21, vx, c46, c51, c61]) (by omega)
          · skip
            show G X 0 0 (mW (xT X) o a (upd s 7 0) S) 64 [(0, .ref o), (1, .int (nI xn)), (2, .int (nI (nW s))), (3, .int (nI r)), (4, .int (bI g)), (5, .int (nI i))] []
            refine g_iload_n h dX5_check_64 rfl ?_
            refine g_iload_n h dX5_check_65 rfl ?_
            refine g_icmp_geN h 88 dX5_check_66 (by decide) (by first | omega | decide) (by first | omega | decide) (fun c66 => ?_) (fun c66 => ?_)
            · skip
              show G X 0 0 (mW (xT X) o a (upd s 7 0) S) 88 [(0, .ref o), (1, .int (nI xn)), (2, .int (nI (nW s))), (3, .int (nI r)), (4, .int (bI g)), (5, .int (nI i))] []
              refine g_iconst (v := nI 0) h dX5_check_88 (by decide) ?_
              refine g_istore (lv' := [(0, .ref o), (1, .int (nI xn)), (2, .int (nI (nW s))), (3, .int (nI r)), (4, .int (nI 0)), (5, .int (nI i))]) h dX5_check_89 (by decide) rfl ?_
              refine g_iload_n h dX5_check_91 rfl ?_
              refine g_iload h dX5_check_92 rfl ?_
              refine g_if_eqN h 101 dX5_check_94 (by decide) (by first | omega | decide) (fun c94 => ?_) (fun c94 => ?_)
              · skip
                show G X 0 0 (mW (xT X) o a (upd s 7 0) S) 101 [(0, .ref o), (1, .int (nI xn)), (2, .int (nI (nW s))), (3, .int (nI r)), (4, .int (nI 0)), (5, .int (nI i))] [.int (nI r)]
                refine g_iconst (v := nI 0) h dX5_check_101 (by decide) ?_
                refine g_iaddN h dX5_check_102 ?_
                refine g_toN (a := r) rfl ?_
                refine g_istore_n (lv' := [(0, .ref o), (1, .int (nI xn)), (2, .int (nI (nW s))), (3, .int (nI r)), (4, .int (nI 0)), (5, .int (nI i))]) h dX5_check_103 (by decide) rfl ?_
                refine g_iincN (b := 1) (lv' := [(0, .ref o), (1, .int (nI xn)), (2, .int (nI (nW s))), (3, .int (nI r)), (4, .int (nI 0)), (5, .int (nI (i + 1)))]) h dX5_check_104 rfl rfl (by decide) rfl ?_
                refine g_goto h 38 dX5_check_107 (by decide) ?_
                exact ih_lp (i + 1) (by omega) (by omega) () r false (by rw [fo_s, ← e0_lp]; simp [chkF, o_check, er, LOW, sU_self, nI_pred, nv_nI, c21, vx, c46, c51, c61, c66, c94]) (by omega)
              · skip
                show G X 0 0 (mW (xT X) o a (upd s 7 0) S) 97 [(0, .ref o), (1, .int (nI xn)), (2, .int (nI (nW s))), (3, .int (nI r)), (4, .int (nI 0)), (5, .int (nI i))] [.int (nI r)]
                exact absurd c94 (by decide)
            · skip
              show G X 0 0 (mW (xT X) o a (upd s 7 0) S) 69 [(0, .ref o), (1, .int (nI xn)), (2, .int (nI (nW s))), (3, .int (nI r)), (4, .int (bI g)), (5, .int (nI i))] []
              refine g_aload_n h dX5_check_69 rfl ?_
              refine g_get h in_X5 0 rfl rfl 0 rfl q1374 rfl rfl dX5_check_70 ?_
              refine g_sipush (v := nI 492) h dX5_check_73 (by decide) ?_
              refine g_iload_n h dX5_check_76 rfl ?_
              refine g_iaddN h dX5_check_77 ?_
              refine g_iald h 1 rfl (by first | assumption | omega) (by decide) dX5_check_78 ?_
              refine g_toI (y := s (492 + r)) (show (upd s 7 0) (492 + r) = _ from (upd_n (by omega))) ?_
              refine g_iload h dX5_check_79 rfl ?_
              refine g_icmp_ne h 88 dX5_check_81 (by decide) (fun c81 => ?_) (fun c81 => ?_)
              · skip
                show G X 0 0 (mW (xT X) o a (upd s 7 0) S) 88 [(0, .ref o), (1, .int (nI xn)), (2, .int (nI (nW s))), (3, .int (nI r)), (4, .int (bI g)), (5, .int (nI i))] []
                refine g_iconst (v := nI 0) h dX5_check_88 (by decide) ?_
                refine g_istore (lv' := [(0, .ref o), (1, .int (nI xn)), (2, .int (nI (nW s))), (3, .int (nI r)), (4, .int (nI 0)), (5, .int (nI i))]) h dX5_check_89 (by decide) rfl ?_
                refine g_iload_n h dX5_check_91 rfl ?_
                refine g_iload h dX5_check_92 rfl ?_
                refine g_if_eqN h 101 dX5_check_94 (by decide) (by first | omega | decide) (fun c94 => ?_) (fun c94 => ?_)
                · skip
                  show G X 0 0 (mW (xT X) o a (upd s 7 0) S) 101 [(0, .ref o), (1, .int (nI xn)), (2, .int (nI (nW s))), (3, .int (nI r)), (4, .int (nI 0)), (5, .int (nI i))] [.int (nI r)]
                  refine g_iconst (v := nI 0) h dX5_check_101 (by decide) ?_
                  refine g_iaddN h dX5_check_102 ?_
                  refine g_toN (a := r) rfl ?_
                  refine g_istore_n (lv' := [(0, .ref o), (1, .int (nI xn)), (2, .int (nI (nW s))), (3, .int (nI r)), (4, .int (nI 0)), (5, .int (nI i))]) h dX5_check_103 (by decide) rfl ?_
                  refine g_iincN (b := 1) (lv' := [(0, .ref o), (1, .int (nI xn)), (2, .int (nI (nW s))), (3, .int (nI r)), (4, .int (nI 0)), (5, .int (nI (i + 1)))]) h dX5_check_104 rfl rfl (by decide) rfl ?_
                  refine g_goto h 38 dX5_check_107 (by decide) ?_
                  exact ih_lp (i + 1) (by omega) (by omega) () r false (by rw [fo_s, ← e0_lp]; simp [chkF, o_check, er, LOW, sU_self, nI_pred, nv_nI, c21, vx, c46, c51, c61, c66, c81, c94]) (by omega)
                · skip
                  show G X 0 0 (mW (xT X) o a (upd s 7 0) S) 97 [(0, .ref o), (1, .int (nI xn)), (2, .int (nI (nW s))), (3, .int (nI r)), (4, .int (nI 0)), (5, .int (nI i))] [.int (nI r)]
                  exact absurd c94 (by decide)
              · skip
                show G X 0 0 (mW (xT X) o a (upd s 7 0) S) 84 [(0, .ref o), (1, .int (nI xn)), (2, .int (nI (nW s))), (3, .int (nI r)), (4, .int (bI g)), (5, .int (nI i))] []
                refine g_iconst (v := nI 1) h dX5_check_84 (by decide) ?_
                refine g_goto h 89 dX5_check_85 (by decide) ?_
                refine g_istore (lv' := [(0, .ref o), (1, .int (nI xn)), (2, .int (nI (nW s))), (3, .int (nI r)), (4, .int (nI 1)), (5, .int (nI i))]) h dX5_check_89 (by decide) rfl ?_
                refine g_iload_n h dX5_check_91 rfl ?_
                refine g_iload h dX5_check_92 rfl ?_
                refine g_if_eqN h 101 dX5_check_94 (by decide) (by first | omega | decide) (fun c94 => ?_) (fun c94 => ?_)
                · skip
                  show G X 0 0 (mW (xT X) o a (upd s 7 0) S) 101 [(0, .ref o), (1, .int (nI xn)), (2, .int (nI (nW s))), (3, .int (nI r)), (4, .int (nI 1)), (5, .int (nI i))] [.int (nI r)]
                  exact absurd c94 (by decide)
                · skip
                  show G X 0 0 (mW (xT X) o a (upd s 7 0) S) 97 [(0, .ref o), (1, .int (nI xn)), (2, .int (nI (nW s))), (3, .int (nI r)), (4, .int (nI 1)), (5, .int (nI i))] [.int (nI r)]
                  refine g_iconst (v := nI 1) h dX5_check_97 (by decide) ?_
                  refine g_goto h 102 dX5_check_98 (by decide) ?_
                  refine g_iaddN h dX5_check_102 ?_
                  refine g_istore_n (lv' := [(0, .ref o), (1, .int (nI xn)), (2, .int (nI (nW s))), (3, .int (nI (r + 1))), (4, .int (nI 1)), (5, .int (nI i))]) h dX5_check_103 (by decide) rfl ?_
                  refine g_iincN (b := 1) (lv' := [(0, .ref o), (1, .int (nI xn)), (2, .int (nI (nW s))), (3, .int (nI (r + 1))), (4, .int (nI 1)), (5, .int (nI (i + 1)))]) h dX5_check_104 rfl rfl (by decide) rfl ?_
                  refine g_goto h 38 dX5_check_107 (by decide) ?_
                  exact ih_lp (i + 1) (by omega) (by omega) () (r + 1) true (by rw [fo_s, ← e0_lp]; simp [chkF, o_check, er, LOW, sU_self, nI_pred, nv_nI, c21, vx, c46, c51, c61, c66, c81, c94]) (by omega)
    exact lp (0) (by omega) () 0 true rfl (Nat.le_refl _)
  · skip
    show G X 0 0 (mW (xT X) o a (upd s 7 0) S) 24 [(0, .ref o), (1, .int x), (2, .int (nI (nW s)))] []
    refine g_aload_n h dX5_check_24 rfl ?_
    refine g_iconst (v := nI 1) h dX5_check_25 (by decide) ?_
    refine g_callVW0 h hE (m5_error _ _ _ o a (upd s 7 0) S 1 (by first | assumption | omega)) 0 rfl rfl (lw_V q1446 q1448 qs35 q95 q1449) gy_X5_error ⟨Nat.le_of_ble_eq_true rfl, Nat.le_of_ble_eq_true rfl⟩ ⟨Nat.le_of_ble_eq_true rfl, Nat.le_of_ble_eq_true rfl⟩ rfl rfl (Nat.le_of_ble_eq_true rfl) dX5_check_26 (st' := [.int (LOW - nI 1)]) rfl (fun _ e26 => ?_)
    subst e26
    exact g_iretWv h hE dX5_check_29 (by first | (simp [o_check, er, LOW, sU_self, nI_pred, nv_nI, c21]; done) | (simp_all [o_check, er, LOW, sU_self, nI_pred, nv_nI, c21]; done)) (mW_eq (by first | (simp [o_check, er, LOW, sU_self, nI_pred, nv_nI, c21]; done) | (simp_all [o_check, er, LOW, sU_self, nI_pred, nv_nI, c21]; done)) (by first | (simp [o_check, er, LOW, sU_self, nI_pred, nv_nI, c21]; done) | (simp_all [o_check, er, LOW, sU_self, nI_pred, nv_nI, c21]; done)))
