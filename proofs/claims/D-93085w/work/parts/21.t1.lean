
theorem gy_X5_in : gY yX5_in RX5 3 := ⟨rfl, by decide +kernel, by decide +kernel, by decide +kernel⟩
theorem gy_X5_held : gY yX5_held RX5 3 := ⟨rfl, by decide +kernel, by decide +kernel, by decide +kernel⟩
theorem gy_X5_error : gY yX5_error RX5 1 := ⟨rfl, by decide +kernel, by decide +kernel, by decide +kernel⟩
theorem gy_X5_isPerson : gY yX5_isPerson RX5 1 := ⟨rfl, by decide +kernel, by decide +kernel, by decide +kernel⟩
theorem gy_X5_isThing : gY yX5_isThing RX5 1 := ⟨rfl, by decide +kernel, by decide +kernel, by decide +kernel⟩
theorem gy_X5_who : gY yX5_who RX5 2 := ⟨rfl, by decide +kernel, by decide +kernel, by decide +kernel⟩
theorem gy_X5_its : gY yX5_its RX5 2 := ⟨rfl, by decide +kernel, by decide +kernel, by decide +kernel⟩
theorem gy_X5_owner : gY yX5_owner RX5 1 := ⟨rfl, by decide +kernel, by decide +kernel, by decide +kernel⟩
theorem gy_X5_valueTo : gY yX5_valueTo RX5 2 := ⟨rfl, by decide +kernel, by decide +kernel, by decide +kernel⟩
theorem gy_X5_isPart : gY yX5_isPart RX5 1 := ⟨rfl, by decide +kernel, by decide +kernel, by decide +kernel⟩
set_option maxHeartbeats 4000000 in
set_option maxRecDepth 100000 in
theorem m5_in (l : Launch) (D : va_G) (T : Nat → ClassId) (v : Int32) (lo : Int32) (hi : Int32) : MetR l D T yX5_in cX5_in 3 (some .boolean) 0 0 [.int v, .int lo, .int hi] (([] : va_W)) (fun r_ => r_ = some (.int (bI (inB v lo hi)))) := by
  refine metR (own := RX5) rfl (by decide) rfl (fun X h hl hDx hTx hE => ?_)
  subst hl; subst hDx; subst hTx
  show G X 0 0 (([] : va_W)) 0 [(0, .int v), (1, .int lo), (2, .int hi)] []
  refine g_iload_n h dX5_in_0 rfl ?_
  refine g_iload_n h dX5_in_1 rfl ?_
  refine g_icmp_lt h 14 dX5_in_2 (by decide) (fun c2 => ?_) (fun c2 => ?_)
  · skip
    show G X 0 0 (([] : va_W)) 14 [(0, .int v), (1, .int lo), (2, .int hi)] []
    refine g_iconst (v := nI 0) h dX5_in_14 (by decide) ?_
    exact g_zretRv h hE dX5_in_15 (by rw [show (inB v lo hi) = false by first | (simp [inB, c2]; done) | (simp_all [inB, c2]; done)]; rfl)
  · skip
    show G X 0 0 (([] : va_W)) 5 [(0, .int v), (1, .int lo), (2, .int hi)] []
    refine g_iload_n h dX5_in_5 rfl ?_
    refine g_iload_n h dX5_in_6 rfl ?_
    refine g_icmp_gt h 14 dX5_in_7 (by decide) (fun c7 => ?_) (fun c7 => ?_)
    · skip
      show G X 0 0 (([] : va_W)) 14 [(0, .int v), (1, .int lo), (2, .int hi)] []
      refine g_iconst (v := nI 0) h dX5_in_14 (by decide) ?_
      exact g_zretRv h hE dX5_in_15 (by rw [show (inB v lo hi) = false by first | (simp [inB, c2, c7]; done) | (simp_all [inB, c2, c7]; done)]; rfl)
    · skip
      show G X 0 0 (([] : va_W)) 10 [(0, .int v), (1, .int lo), (2, .int hi)] []
      refine g_iconst (v := nI 1) h dX5_in_10 (by decide) ?_
      refine g_goto h 15 dX5_in_11 (by decide) ?_
      exact g_zretRv h hE dX5_in_15 (by rw [show (inB v lo hi) = true by first | (simp [inB, c2, c7]; done) | (simp_all [inB, c2, c7]; done)]; rfl)
set_option maxHeartbeats 4000000 in
set_option maxRecDepth 100000 in
theorem m5_held (l : Launch) (D : va_G) (T : Nat → ClassId) (v : Int32) (lo : Int32) (hi : Int32) : MetR l D T yX5_held cX5_held 3 (some .int) 0 0 [.int v, .int lo, .int hi] (([] : va_W)) (fun r_ => r_ = some (.int (heI v lo hi))) := by
  refine metR (own := RX5) rfl (by decide) rfl (fun X h hl hDx hTx hE => ?_)
  subst hl; subst hDx; subst hTx
  show G X 0 0 (([] : va_W)) 0 [(0, .int v), (1, .int lo), (2, .int hi)] []
  refine g_iload_n h dX5_held_0 rfl ?_
  refine g_iload_n h dX5_held_1 rfl ?_
  refine g_icmp_geC h 9 dX5_held_2 (by decide) (fun c2 => ?_) (fun c2 => ?_)
  · skip
    show G X 0 0 (([] : va_W)) 9 [(0, .int v), (1, .int lo), (2, .int hi)] []
    refine g_iload_n h dX5_held_9 rfl ?_
    refine g_iload_n h dX5_held_10 rfl ?_
    refine g_icmp_leC h 18 dX5_held_11 (by decide) (fun c11 => ?_) (fun c11 => ?_)
    · skip
      show G X 0 0 (([] : va_W)) 18 [(0, .int v), (1, .int lo), (2, .int hi)] []
      refine g_iload_n h dX5_held_18 rfl ?_
      exact g_iretRv h hE dX5_held_19 (by first | (simp [heI, c2, c11]; done) | (simp_all [heI, c2, c11]; done))
    · skip
      show G X 0 0 (([] : va_W)) 14 [(0, .int v), (1, .int lo), (2, .int hi)] []
      refine g_iload_n h dX5_held_14 rfl ?_
      refine g_goto h 19 dX5_held_15 (by decide) ?_
      exact g_iretRv h hE dX5_held_19 (by first | (simp [heI, c2, c11]; done) | (simp_all [heI, c2, c11]; done))
  · skip
    show G X 0 0 (([] : va_W)) 5 [(0, .int v), (1, .int lo), (2, .int hi)] []
    refine g_iload_n h dX5_held_5 rfl ?_
    refine g_goto h 19 dX5_held_6 (by decide) ?_
    exact g_iretRv h hE dX5_held_19 (by first | (simp [heI, c2]; done) | (simp_all [heI, c2]; done))
set_option maxHeartbeats 4000000 in
set_option maxRecDepth 100000 in
theorem m5_error (l : Launch) (D : va_G) (T : Nat → ClassId) (o : Nat) (a : Nat → Nat) (s : Nat → Int32) (S : Nat → Nat → Int32) (k : Nat) (h0 : k < 7) : MetW l D T yX5_error cX5_error 2 (some .int) 0 0 0 0 [.ref o, .int (nI k)] (mW T o a s S) (fun r_ w_ => r_ = some (.int (LOW - nI k)) ∧ (w_ = mW T o a s (sU S 3 (upd (S 3) k (S 3 k + 1))))) := by
  refine metW (own := RX5) rfl (by decide) rfl (fun X h hl hDx hTx hnm hE => ?_)
  subst hl; subst hDx; subst hTx
  show G X 0 0 (mW (xT X) o a s S) 0 [(0, .ref o), (1, .int (nI k))] []
  refine g_aload_n h dX5_error_0 rfl ?_
  refine g_get h in_X5 0 rfl rfl 4 rfl q1378 rfl rfl dX5_error_1 ?_
  refine g_iload_n h dX5_error_4 rfl ?_
  refine g_dup2_11 h dX5_error_5 rfl rfl ?_
  refine g_iald h 4 rfl (by first | assumption | omega) (by decide) dX5_error_6 ?_
  refine g_toI (y := S 3 k) (show S 3 k = _ from rfl) ?_
  refine g_iconst (v := nI 1) h dX5_error_7 (by decide) ?_
  refine g_toI (y := 1) rfl ?_
  refine g_iadd h dX5_error_8 ?_
  refine g_iast (ws' := mW (xT X) o a s (sU S 3 (upd (S 3) k ((S 3 k) + 1)))) h hE.1 4 rfl (by first | assumption | omega) (by decide) dX5_error_9 rfl ?_
  refine g_ldc h q1450 dX5_error_10 ?_
  refine g_iload_n h dX5_error_12 rfl ?_
  refine g_isub h dX5_error_13 ?_
  exact g_iretWv h hE dX5_error_14 (by first | (simp [LOW]; done) | (simp_all [LOW]; done)) (mW_eq rfl (by first | (simp [LOW]; done) | (simp_all [LOW]; done)))
set_option maxHeartbeats 4000000 in
set_option maxRecDepth 100000 in
theorem m5_isPerson (l : Launch) (D : va_G) (T : Nat → ClassId) (o : Nat) (a : Nat → Nat) (s : Nat → Int32) (S : Nat → Nat → Int32) (x : Int32) : MetR l D T yX5_isPerson cX5_isPerson 2 (some .boolean) 1 22 [.ref o, .int x] (mW T o a s S) (fun r_ => r_ = some (.int (bI (isP s x)))) := by
  refine metR (own := RX5) rfl (by decide) rfl (fun X h hl hDx hTx hE => ?_)
  subst hl; subst hDx; subst hTx
  show G X 0 0 (mW (xT X) o a s S) 0 [(0, .ref o), (1, .int x)] []
  refine g_iload_n h dX5_isPerson_0 rfl ?_
  refine g_iconst (v := nI 0) h dX5_isPerson_1 (by decide) ?_
  refine g_aload_n h dX5_isPerson_2 rfl ?_
  refine g_get h in_X5 0 rfl rfl 0 rfl q1374 rfl rfl dX5_isPerson_3 ?_
  refine g_iconst (v := nI 0) h dX5_isPerson_6 (by decide) ?_
  refine g_iald h 1 rfl (by first | assumption | omega) (by decide) dX5_isPerson_7 ?_
  refine g_iconst (v := nI 1) h dX5_isPerson_8 (by decide) ?_
  refine g_toI (y := 1) rfl ?_
  refine g_isub h dX5_isPerson_9 ?_
  refine g_callSR h (m5_in _ _ _ x 0 ((s 0) - 1) ) (fun _ q => nomatch q) (lw_S q1439 q1440 q95 q1441) gy_X5_in ⟨Nat.le_of_ble_eq_true rfl, Nat.le_of_ble_eq_true rfl⟩ ⟨Nat.le_of_ble_eq_true rfl, Nat.le_of_ble_eq_true rfl⟩ rfl rfl (Nat.le_of_ble_eq_true rfl) dX5_isPerson_10 ?_
  exact g_zretRv h hE dX5_isPerson_13 (by first | rfl | exact congrArg bI (by first | (simp [isP]; done) | (simp_all [isP]; done)))
set_option maxHeartbeats 4000000 in
set_option maxRecDepth 100000 in
theorem m5_isThing (l : Launch) (D : va_G) (T : Nat → ClassId) (o : Nat) (a : Nat → Nat) (s : Nat → Int32) (S : Nat → Nat → Int32) (x : Int32) : MetR l D T yX5_isThing cX5_isThing 2 (some .boolean) 1 22 [.ref o, .int x] (mW T o a s S) (fun r_ => r_ = some (.int (bI (isT s x)))) := by
  refine metR (own := RX5) rfl (by decide) rfl (fun X h hl hDx hTx hE => ?_)
  subst hl; subst hDx; subst hTx
  show G X 0 0 (mW (xT X) o a s S) 0 [(0, .ref o), (1, .int x)] []
  refine g_iload_n h dX5_isThing_0 rfl ?_
  refine g_iconst (v := nI 0) h dX5_isThing_1 (by decide) ?_
  refine g_aload_n h dX5_isThing_2 rfl ?_
  refine g_get h in_X5 0 rfl rfl 0 rfl q1374 rfl rfl dX5_isThing_3 ?_
  refine g_iconst (v := nI 1) h dX5_isThing_6 (by decide) ?_
  refine g_iald h 1 rfl (by first | assumption | omega) (by decide) dX5_isThing_7 ?_
  refine g_iconst (v := nI 1) h dX5_isThing_8 (by decide) ?_
  refine g_toI (y := 1) rfl ?_
  refine g_isub h dX5_isThing_9 ?_
  refine g_callSR h (m5_in _ _ _ x 0 ((s 1) - 1) ) (fun _ q => nomatch q) (lw_S q1439 q1440 q95 q1441) gy_X5_in ⟨Nat.le_of_ble_eq_true rfl, Nat.le_of_ble_eq_true rfl⟩ ⟨Nat.le_of_ble_eq_true rfl, Nat.le_of_ble_eq_true rfl⟩ rfl rfl (Nat.le_of_ble_eq_true rfl) dX5_isThing_10 ?_
  exact g_zretRv h hE dX5_isThing_13 (by first | rfl | exact congrArg bI (by first | (simp [isT]; done) | (simp_all [isT]; done)))
set_option maxHeartbeats 4000000 in
set_option maxRecDepth 100000 in
theorem m5_who (l : Launch) (D : va_G) (T : Nat → ClassId) (o : Nat) (a : Nat → Nat) (s : Nat → Int32) (S : Nat → Nat → Int32) (p : Nat) (w : Nat) (h0 : 20 + 4 * p + w < 516) : MetR l D T yX5_who cX5_who 3 (some .int) 0 0 [.ref o, .int (nI p), .int (nI w)] (mW T o a s S) (fun r_ => r_ = some (.int (s (20 + 4 * p + w)))) := by
  refine metR (own := RX5) rfl (by decide) rfl (fun X h hl hDx hTx hE => ?_)
  subst hl; subst hDx; subst hTx
  show G X 0 0 (mW (xT X) o a s S) 0 [(0, .ref o), (1, .int (nI p)), (2, .int (nI w))] []
  refine g_aload_n h dX5_who_0 rfl ?_
  refine g_get h in_X5 0 rfl rfl 0 rfl q1374 rfl rfl dX5_who_1 ?_
  refine g_bipush (v := nI 20) h dX5_who_4 (by decide) ?_
  refine g_iconst (v := nI 4) h dX5_who_6 (by decide) ?_
  refine g_iload_n h dX5_who_7 rfl ?_
  refine g_imulN h dX5_who_8 ?_
  refine g_iaddN h dX5_who_9 ?_
  refine g_iload_n h dX5_who_10 rfl ?_
  refine g_iaddN h dX5_who_11 ?_
  refine g_iald h 1 rfl (by first | assumption | omega) (by decide) dX5_who_12 ?_
  exact g_iretRv h hE dX5_who_13 rfl
set_option maxHeartbeats 4000000 in
set_option maxRecDepth 100000 in
theorem m5_its (l : Launch) (D : va_G) (T : Nat → ClassId) (o : Nat) (a : Nat → Nat) (s : Nat → Int32) (S : Nat → Nat → Int32) (t : Nat) (w : Nat) (h0 : 44 + 4 * t + w < 516) : MetR l D T yX5_its cX5_its 3 (some .int) 0 0 [.ref o, .int (nI t), .int (nI w)] (mW T o a s S) (fun r_ => r_ = some (.int (s (44 + 4 * t + w)))) := by
  refine metR (own := RX5) rfl (by decide) rfl (fun X h hl hDx hTx hE => ?_)
  subst hl; subst hDx; subst hTx
  show G X 0 0 (mW (xT X) o a s S) 0 [(0, .ref o), (1, .int (nI t)), (2, .int (nI w))] []
  refine g_aload_n h dX5_its_0 rfl ?_
  refine g_get h in_X5 0 rfl rfl 0 rfl q1374 rfl rfl dX5_its_1 ?_
  refine g_bipush (v := nI 44) h dX5_its_4 (by decide) ?_
  refine g_iconst (v := nI 4) h dX5_its_6 (by decide) ?_
  refine g_iload_n h dX5_its_7 rfl ?_
  refine g_imulN h dX5_its_8 ?_
  refine g_iaddN h dX5_its_9 ?_
  refine g_iload_n h dX5_its_10 rfl ?_
  refine g_iaddN h dX5_its_11 ?_
  refine g_iald h 1 rfl (by first | assumption | omega) (by decide) dX5_its_12 ?_
  exact g_iretRv h hE dX5_its_13 rfl
set_option maxHeartbeats 4000000 in
set_option maxRecDepth 100000 in
theorem m5_owner (l : Launch) (D : va_G) (T : Nat → ClassId) (o : Nat) (a : Nat → Nat) (s : Nat → Int32) (S : Nat → Nat → Int32) (t : Nat) (h0 : t < 12) : MetR l D T yX5_owner cX5_owner 2 (some .int) 1 22 [.ref o, .int (nI t)] (mW T o a s S) (fun r_ => r_ = some (.int (s (44 + 4 * t)))) := by
  refine metR (own := RX5) rfl (by decide) rfl (fun X h hl hDx hTx hE => ?_)
  subst hl; subst hDx; subst hTx
  show G X 0 0 (mW (xT X) o a s S) 0 [(0, .ref o), (1, .int (nI t))] []
  refine g_aload_n h dX5_owner_0 rfl ?_
  refine g_iload_n h dX5_owner_1 rfl ?_
  refine g_iconst (v := nI 0) h dX5_owner_2 (by decide) ?_
  refine g_callVR h (m5_its _ _ _ o a s S t 0 (by first | assumption | omega)) (fun _ q => q) 0 rfl rfl (lw_V q1479 q1481 qs42 q95 q1482) gy_X5_its ⟨Nat.le_of_ble_eq_true rfl, Nat.le_of_ble_eq_true rfl⟩ ⟨Nat.le_of_ble_eq_true rfl, Nat.le_of_ble_eq_true rfl⟩ rfl rfl (Nat.le_of_ble_eq_true rfl) dX5_owner_3 ?_
  show G X 0 0 (mW (xT X) o a s S) 6 [(0, .ref o), (1, .int (nI t))] [.int (s (44 + 4 * t))]
  exact g_iretRv h hE dX5_owner_6 rfl
set_option maxHeartbeats 4000000 in
set_option maxRecDepth 100000 in
theorem m5_valueTo (l : Launch) (D : va_G) (T : Nat → ClassId) (o : Nat) (a : Nat → Nat) (s : Nat → Int32) (S : Nat → Nat → Int32) (p : Nat) (t : Nat) (h0 : p < 6) (h1 : t < 12) : MetR l D T yX5_valueTo cX5_valueTo 3 (some .int) 1 22 [.ref o, .int (nI p), .int (nI t)] (mW T o a s S) (fun r_ => r_ = some (.int (val s p t))) := by
  refine metR (own := RX5) rfl (by decide) rfl (fun X h hl hDx hTx hE => ?_)
  subst hl; subst hDx; subst hTx
  show G X 0 0 (mW (xT X) o a s S) 0 [(0, .ref o), (1, .int (nI p)), (2, .int (nI t))] []
  refine g_aload_n h dX5_valueTo_0 rfl ?_
  refine g_get h in_X5 0 rfl rfl 0 rfl q1374 rfl rfl dX5_valueTo_1 ?_
  refine g_bipush (v := nI 110) h dX5_valueTo_4 (by decide) ?_
  refine g_bipush (v := nI 12) h dX5_valueTo_6 (by decide) ?_
  refine g_iload_n h dX5_valueTo_8 rfl ?_
  refine g_imulN h dX5_valueTo_9 ?_
  refine g_iaddN h dX5_valueTo_10 ?_
  refine g_iload_n h dX5_valueTo_11 rfl ?_
  refine g_iaddN h dX5_valueTo_12 ?_
  refine g_iald h 1 rfl (by first | assumption | omega) (by decide) dX5_valueTo_13 ?_
  refine g_aload_n h dX5_valueTo_14 rfl ?_
  refine g_iload_n h dX5_valueTo_15 rfl ?_
  refine g_iconst (v := nI 2) h dX5_valueTo_16 (by decide) ?_
  refine g_callVR h (m5_its _ _ _ o a s S t 2 (by first | assumption | omega)) (fun _ q => q) 0 rfl rfl (lw_V q1479 q1481 qs42 q95 q1482) gy_X5_its ⟨Nat.le_of_ble_eq_true rfl, Nat.le_of_ble_eq_true rfl⟩ ⟨Nat.le_of_ble_eq_true rfl, Nat.le_of_ble_eq_true rfl⟩ rfl rfl (Nat.le_of_ble_eq_true rfl) dX5_valueTo_17 ?_
  refine g_imul h dX5_valueTo_20 ?_
  refine g_bipush (v := nI 100) h dX5_valueTo_21 (by decide) ?_
  refine g_toI (y := 100) rfl ?_
  refine g_idiv h dX5_valueTo_23 (by decide) ?_
  exact g_iretRv h hE dX5_valueTo_24 (by first | (simp [val]; done) | (simp_all [val]; done))
set_option maxHeartbeats 4000000 in
set_option maxRecDepth 100000 in
theorem m5_isPart (l : Launch) (D : va_G) (T : Nat → ClassId) (x : Int32) : MetR l D T yX5_isPart cX5_isPart 1 (some .boolean) 0 0 [.int x] (([] : va_W)) (fun r_ => r_ = some (.int (bI (isPq x)))) := by
  refine metR (own := RX5) rfl (by decide) rfl (fun X h hl hDx hTx hE => ?_)
  subst hl; subst hDx; subst hTx
  show G X 0 0 (([] : va_W)) 0 [(0, .int x)] []
  refine g_iload_n h dX5_isPart_0 rfl ?_
  refine g_if_lt h 26 dX5_isPart_1 (by decide) (fun c1 => ?_) (fun c1 => ?_)
  · skip
    show G X 0 0 (([] : va_W)) 26 [(0, .int x)] []
    refine g_iconst (v := nI 0) h dX5_isPart_26 (by decide) ?_
    exact g_zretRv h hE dX5_isPart_27 (by rw [show (isPq x) = false by first | (simp [isPq, c1]; done) | (simp_all [isPq, c1]; done)]; rfl)
  · skip
    show G X 0 0 (([] : va_W)) 4 [(0, .int x)] []
    refine g_iload_n h dX5_isPart_4 rfl ?_
    refine g_bipush (v := nI 10) h dX5_isPart_5 (by decide) ?_
    refine g_toI (y := 10) rfl ?_
    refine g_irem h dX5_isPart_7 (by decide) ?_
    refine g_if_leC h 26 dX5_isPart_8 (by decide) (fun c8 => ?_) (fun c8 => ?_)
    · skip
      show G X 0 0 (([] : va_W)) 26 [(0, .int x)] []
      refine g_iconst (v := nI 0) h dX5_isPart_26 (by decide) ?_
      exact g_zretRv h hE dX5_isPart_27 (by rw [show (isPq x) = false by first | (simp [isPq, c1, c8]; done) | (simp_all [isPq, c1, c8]; done)]; rfl)
    · skip
      show G X 0 0 (([] : va_W)) 11 [(0, .int x)] []
      refine g_iload_n h dX5_isPart_11 rfl ?_
      refine g_bipush (v := nI 10) h dX5_isPart_12 (by decide) ?_
      refine g_toI (y := 10) rfl ?_
      refine g_idiv h dX5_isPart_14 (by decide) ?_
      refine g_iload_n h dX5_isPart_15 rfl ?_
      refine g_bipush (v := nI 10) h dX5_isPart_16 (by decide) ?_
      refine g_toI (y := 10) rfl ?_
      refine g_irem h dX5_isPart_18 (by decide) ?_
      refine g_icmp_gt h 26 dX5_isPart_19 (by decide) (fun c19 => ?_) (fun c19 => ?_)
      · skip
        show G X 0 0 (([] : va_W)) 26 [(0, .int x)] []
        refine g_iconst (v := nI 0) h dX5_isPart_26 (by decide) ?_
        exact g_zretRv h hE dX5_isPart_27 (by rw [show (isPq x) = false by first | (simp [isPq, c1, c8, c19]; done) | (simp_all [isPq, c1, c8, c19]; done)]; rfl)
      · skip
        show G X 0 0 (([] : va_W)) 22 [(0, .int x)] []
        refine g_iconst (v := nI 1) h dX5_isPart_22 (by decide) ?_
        refine g_goto h 27 dX5_isPart_23 (by decide) ?_
        exact g_zretRv h hE dX5_isPart_27 (by rw [show (isPq x) = true by first | (simp [isPq, c1, c8, c19]; done) | (simp_all [isPq, c1, c8, c19]; done)]; rfl)
