theorem isPq_out {x : Int32} (h : inB x 0 99 = false) : isPq x = false := by
  cases e : isPq x with
  | false => rfl
  | true =>
    exfalso
    have h2 := e
    unfold isPq at h2
    simp only [Bool.and_eq_true, Bool.not_eq_true', decide_eq_false_iff_not] at h2
    obtain ⟨j, hj, rfl⟩ := nI_of h2.1
    have q := (isPq_rg e).1
    have e1 : nI j / 10 = nI (j / 10) := nI_div (b := 10) hj (by decide)
    rw [e1] at q
    have q2 := q.2
    rw [nv_nI (by omega)] at q2
    have z : inB (nI j) 0 99 = true := inB_nI (j := j) (n := 99) (by omega) (by decide)
    rw [z] at h
    cases h
theorem inB_pos {x : Int32} {n : Int32} (h : inB x 0 n = true) : ¬ x < 0 := by
  unfold inB at h
  simp only [Bool.and_eq_true, Bool.not_eq_true', decide_eq_false_iff_not] at h
  exact h.1
theorem gy_X0_isIn : gY yX0_isIn RX0 3 := ⟨rfl, by decide +kernel, by decide +kernel, by decide +kernel⟩
theorem gy_X0_isUse : gY yX0_isUse RX0 1 := ⟨rfl, by decide +kernel, by decide +kernel, by decide +kernel⟩
theorem gy_X0_isSheet : gY yX0_isSheet RX0 1 := ⟨rfl, by decide +kernel, by decide +kernel, by decide +kernel⟩
theorem gy_X0_isAhead : gY yX0_isAhead RX0 1 := ⟨rfl, by decide +kernel, by decide +kernel, by decide +kernel⟩
theorem gy_X0_isPart : gY yX0_isPart RX0 1 := ⟨rfl, by decide +kernel, by decide +kernel, by decide +kernel⟩
theorem gy_X0_mostOf : gY yX0_mostOf RX0 1 := ⟨rfl, by decide +kernel, by decide +kernel, by decide +kernel⟩
set_option maxHeartbeats 4000000 in
set_option maxRecDepth 100000 in
theorem m0_isIn (l : Launch) (D : va_G) (T : Nat → ClassId) (v : Int32) (lo : Int32) (hi : Int32) : MetR l D T yX0_isIn cX0_isIn 3 (some .boolean) 0 0 [.int v, .int lo, .int hi] (([] : va_W)) (fun r_ => r_ = some (.int (bI (inB v lo hi)))) := by
  refine metR (own := RX0) rfl (by decide) rfl (fun X h hl hDx hTx hE => ?_)
  subst hl; subst hDx; subst hTx
  show G X 0 0 (([] : va_W)) 0 [(0, .int v), (1, .int lo), (2, .int hi)] []
  refine g_iload_n h dX0_isIn_0 rfl ?_
  refine g_iload_n h dX0_isIn_1 rfl ?_
  refine g_icmp_lt h 14 dX0_isIn_2 (by decide) (fun c2 => ?_) (fun c2 => ?_)
  · skip
    show G X 0 0 (([] : va_W)) 14 [(0, .int v), (1, .int lo), (2, .int hi)] []
    refine g_iconst (v := nI 0) h dX0_isIn_14 (by decide) ?_
    exact g_zretRv h hE dX0_isIn_15 (by rw [show (inB v lo hi) = false by first | (simp [inB, c2]; done) | (simp_all [inB, c2]; done)]; rfl)
  · skip
    show G X 0 0 (([] : va_W)) 5 [(0, .int v), (1, .int lo), (2, .int hi)] []
    refine g_iload_n h dX0_isIn_5 rfl ?_
    refine g_iload_n h dX0_isIn_6 rfl ?_
    refine g_icmp_gt h 14 dX0_isIn_7 (by decide) (fun c7 => ?_) (fun c7 => ?_)
    · skip
      show G X 0 0 (([] : va_W)) 14 [(0, .int v), (1, .int lo), (2, .int hi)] []
      refine g_iconst (v := nI 0) h dX0_isIn_14 (by decide) ?_
      exact g_zretRv h hE dX0_isIn_15 (by rw [show (inB v lo hi) = false by first | (simp [inB, c2, c7]; done) | (simp_all [inB, c2, c7]; done)]; rfl)
    · skip
      show G X 0 0 (([] : va_W)) 10 [(0, .int v), (1, .int lo), (2, .int hi)] []
      refine g_iconst (v := nI 1) h dX0_isIn_10 (by decide) ?_
      refine g_goto h 15 dX0_isIn_11 (by decide) ?_
      exact g_zretRv h hE dX0_isIn_15 (by rw [show (inB v lo hi) = true by first | (simp [inB, c2, c7]; done) | (simp_all [inB, c2, c7]; done)]; rfl)
set_option maxHeartbeats 4000000 in
set_option maxRecDepth 100000 in
theorem m0_isUse (l : Launch) (D : va_G) (T : Nat → ClassId) (x : Int32) : MetR l D T yX0_isUse cX0_isUse 1 (some .boolean) 1 22 [.int x] (([] : va_W)) (fun r_ => r_ = some (.int (bI (inB x 0 1)))) := by
  refine metR (own := RX0) rfl (by decide) rfl (fun X h hl hDx hTx hE => ?_)
  subst hl; subst hDx; subst hTx
  show G X 0 0 (([] : va_W)) 0 [(0, .int x)] []
  refine g_iload_n h dX0_isUse_0 rfl ?_
  refine g_iconst (v := nI 0) h dX0_isUse_1 (by decide) ?_
  refine g_iconst (v := nI 1) h dX0_isUse_2 (by decide) ?_
  refine g_callSR h (m0_isIn _ _ _ x 0 1 ) (fun _ q => nomatch q) (lw_S q321 q322 q90 q323) gy_X0_isIn ⟨Nat.le_of_ble_eq_true rfl, Nat.le_of_ble_eq_true rfl⟩ ⟨Nat.le_of_ble_eq_true rfl, Nat.le_of_ble_eq_true rfl⟩ rfl rfl (Nat.le_of_ble_eq_true rfl) dX0_isUse_3 ?_
  exact g_zretRv h hE dX0_isUse_6 rfl
set_option maxHeartbeats 4000000 in
set_option maxRecDepth 100000 in
theorem m0_isSheet (l : Launch) (D : va_G) (T : Nat → ClassId) (x : Int32) : MetR l D T yX0_isSheet cX0_isSheet 1 (some .boolean) 1 22 [.int x] (([] : va_W)) (fun r_ => r_ = some (.int (bI (inB x 0 3)))) := by
  refine metR (own := RX0) rfl (by decide) rfl (fun X h hl hDx hTx hE => ?_)
  subst hl; subst hDx; subst hTx
  show G X 0 0 (([] : va_W)) 0 [(0, .int x)] []
  refine g_iload_n h dX0_isSheet_0 rfl ?_
  refine g_iconst (v := nI 0) h dX0_isSheet_1 (by decide) ?_
  refine g_iconst (v := nI 3) h dX0_isSheet_2 (by decide) ?_
  refine g_callSR h (m0_isIn _ _ _ x 0 3 ) (fun _ q => nomatch q) (lw_S q321 q322 q90 q323) gy_X0_isIn ⟨Nat.le_of_ble_eq_true rfl, Nat.le_of_ble_eq_true rfl⟩ ⟨Nat.le_of_ble_eq_true rfl, Nat.le_of_ble_eq_true rfl⟩ rfl rfl (Nat.le_of_ble_eq_true rfl) dX0_isSheet_3 ?_
  exact g_zretRv h hE dX0_isSheet_6 rfl
set_option maxHeartbeats 4000000 in
set_option maxRecDepth 100000 in
theorem m0_isAhead (l : Launch) (D : va_G) (T : Nat → ClassId) (x : Int32) : MetR l D T yX0_isAhead cX0_isAhead 1 (some .boolean) 1 22 [.int x] (([] : va_W)) (fun r_ => r_ = some (.int (bI (inB x 0 40)))) := by
  refine metR (own := RX0) rfl (by decide) rfl (fun X h hl hDx hTx hE => ?_)
  subst hl; subst hDx; subst hTx
  show G X 0 0 (([] : va_W)) 0 [(0, .int x)] []
  refine g_iload_n h dX0_isAhead_0 rfl ?_
  refine g_iconst (v := nI 0) h dX0_isAhead_1 (by decide) ?_
  refine g_bipush (v := nI 40) h dX0_isAhead_2 (by decide) ?_
  refine g_callSR h (m0_isIn _ _ _ x 0 40 ) (fun _ q => nomatch q) (lw_S q321 q322 q90 q323) gy_X0_isIn ⟨Nat.le_of_ble_eq_true rfl, Nat.le_of_ble_eq_true rfl⟩ ⟨Nat.le_of_ble_eq_true rfl, Nat.le_of_ble_eq_true rfl⟩ rfl rfl (Nat.le_of_ble_eq_true rfl) dX0_isAhead_4 ?_
  exact g_zretRv h hE dX0_isAhead_7 rfl
set_option maxHeartbeats 4000000 in
set_option maxRecDepth 100000 in
theorem m0_isPart (l : Launch) (D : va_G) (T : Nat → ClassId) (x : Int32) : MetR l D T yX0_isPart cX0_isPart 1 (some .boolean) 1 22 [.int x] (([] : va_W)) (fun r_ => r_ = some (.int (bI (isPq x)))) := by
  refine metR (own := RX0) rfl (by decide) rfl (fun X h hl hDx hTx hE => ?_)
  subst hl; subst hDx; subst hTx
  show G X 0 0 (([] : va_W)) 0 [(0, .int x)] []
  refine g_iload_n h dX0_isPart_0 rfl ?_
  refine g_iconst (v := nI 0) h dX0_isPart_1 (by decide) ?_
  refine g_bipush (v := nI 99) h dX0_isPart_2 (by decide) ?_
  refine g_callSR h (m0_isIn _ _ _ x 0 99 ) (fun _ q => nomatch q) (lw_S q321 q322 q90 q323) gy_X0_isIn ⟨Nat.le_of_ble_eq_true rfl, Nat.le_of_ble_eq_true rfl⟩ ⟨Nat.le_of_ble_eq_true rfl, Nat.le_of_ble_eq_true rfl⟩ rfl rfl (Nat.le_of_ble_eq_true rfl) dX0_isPart_4 ?_
  refine g_if_eqB h 32 dX0_isPart_7 (by decide) (fun c7 => ?_) (fun c7 => ?_)
  · skip
    show G X 0 0 (([] : va_W)) 32 [(0, .int x)] []
    have z := isPq_out c7
    refine g_iconst (v := nI 0) h dX0_isPart_32 (by decide) ?_
    exact g_zretRv h hE dX0_isPart_33 (by rw [show (isPq x) = false by first | (simp [isPq, c7]; done) | (simp_all [isPq, c7]; done)]; rfl)
  · skip
    show G X 0 0 (([] : va_W)) 10 [(0, .int x)] []
    have z0 := inB_pos c7
    refine g_iload_n h dX0_isPart_10 rfl ?_
    refine g_bipush (v := nI 10) h dX0_isPart_11 (by decide) ?_
    refine g_toI (y := 10) rfl ?_
    refine g_irem h dX0_isPart_13 (by decide) ?_
    refine g_if_leC h 32 dX0_isPart_14 (by decide) (fun c14 => ?_) (fun c14 => ?_)
    · skip
      show G X 0 0 (([] : va_W)) 32 [(0, .int x)] []
      refine g_iconst (v := nI 0) h dX0_isPart_32 (by decide) ?_
      exact g_zretRv h hE dX0_isPart_33 (by rw [show (isPq x) = false by first | (simp [isPq, c7, c14]; done) | (simp_all [isPq, c7, c14]; done)]; rfl)
    · skip
      show G X 0 0 (([] : va_W)) 17 [(0, .int x)] []
      refine g_iload_n h dX0_isPart_17 rfl ?_
      refine g_bipush (v := nI 10) h dX0_isPart_18 (by decide) ?_
      refine g_toI (y := 10) rfl ?_
      refine g_idiv h dX0_isPart_20 (by decide) ?_
      refine g_iload_n h dX0_isPart_21 rfl ?_
      refine g_bipush (v := nI 10) h dX0_isPart_22 (by decide) ?_
      refine g_toI (y := 10) rfl ?_
      refine g_irem h dX0_isPart_24 (by decide) ?_
      refine g_icmp_gt h 32 dX0_isPart_25 (by decide) (fun c25 => ?_) (fun c25 => ?_)
      · skip
        show G X 0 0 (([] : va_W)) 32 [(0, .int x)] []
        refine g_iconst (v := nI 0) h dX0_isPart_32 (by decide) ?_
        exact g_zretRv h hE dX0_isPart_33 (by rw [show (isPq x) = false by first | (simp [isPq, c7, c14, c25]; done) | (simp_all [isPq, c7, c14, c25]; done)]; rfl)
      · skip
        show G X 0 0 (([] : va_W)) 28 [(0, .int x)] []
        refine g_iconst (v := nI 1) h dX0_isPart_28 (by decide) ?_
        refine g_goto h 33 dX0_isPart_29 (by decide) ?_
        exact g_zretRv h hE dX0_isPart_33 (by rw [show (isPq x) = true by first | (simp [isPq, c7, c14, c25]; done) | (simp_all [isPq, c7, c14, c25]; done)]; rfl)
set_option maxHeartbeats 4000000 in
set_option maxRecDepth 100000 in
theorem m0_mostOf (l : Launch) (D : va_G) (T : Nat → ClassId) (x : Int32) : MetR l D T yX0_mostOf cX0_mostOf 1 (some .int) 0 0 [.int x] (([] : va_W)) (fun r_ => r_ = some (.int (mostOf x))) := by
  refine metR (own := RX0) rfl (by decide) rfl (fun X h hl hDx hTx hE => ?_)
  subst hl; subst hDx; subst hTx
  show G X 0 0 (([] : va_W)) 0 [(0, .int x)] []
  refine g_iload_n h dX0_mostOf_0 rfl ?_
  rcases g_sw x 2 3 with c1 | ⟨j1, hj1, e1⟩
  · skip
    have d1_2 : ¬ x = 2 := fun z => absurd c1 (by rw [z]; decide)
    have d1_3 : ¬ x = 3 := fun z => absurd c1 (by rw [z]; decide)
    have d1_4 : ¬ x = 4 := fun z => absurd c1 (by rw [z]; decide)
    refine g_tableOut h 37 dX0_mostOf_1 (by omega) (by decide) ?_
    show G X 0 0 (([] : va_W)) 37 [(0, .int x)] []
    refine g_bipush (v := nI 99) h dX0_mostOf_37 (by decide) ?_
    refine g_toI (y := 99) rfl ?_
    exact g_iretRv h hE dX0_mostOf_39 (by first | (simp [mostOf, d1_2, d1_3, d1_4]; done) | (simp_all [mostOf, d1_2, d1_3, d1_4]; done))
  · skip
    rcases (show j1 = 0 ∨ j1 = 1 ∨ j1 = 2 by omega) with rfl | rfl | rfl
    · skip
      have e1 : x = 2 := i32_of e1 (by decide)
      subst e1
      refine g_tableIn h 28 dX0_mostOf_1 2 (by decide) (by decide) (by decide) rfl (by decide) ?_
      show G X 0 0 (([] : va_W)) 28 [(0, .int 2)] []
      refine g_iconst (v := nI 2) h dX0_mostOf_28 (by decide) ?_
      refine g_toI (y := 2) rfl ?_
      exact g_iretRv h hE dX0_mostOf_29 (by first | (simp [mostOf]; done) | (simp_all [mostOf]; done))
    · skip
      have e1 : x = 3 := i32_of e1 (by decide)
      subst e1
      refine g_tableIn h 30 dX0_mostOf_1 3 (by decide) (by decide) (by decide) rfl (by decide) ?_
      show G X 0 0 (([] : va_W)) 30 [(0, .int 3)] []
      refine g_bipush (v := nI 9) h dX0_mostOf_30 (by decide) ?_
      refine g_toI (y := 9) rfl ?_
      exact g_iretRv h hE dX0_mostOf_32 (by first | (simp [mostOf]; done) | (simp_all [mostOf]; done))
    · skip
      have e1 : x = 4 := i32_of e1 (by decide)
      subst e1
      refine g_tableIn h 33 dX0_mostOf_1 4 (by decide) (by decide) (by decide) rfl (by decide) ?_
      show G X 0 0 (([] : va_W)) 33 [(0, .int 4)] []
      refine g_sipush (v := nI 999) h dX0_mostOf_33 (by decide) ?_
      refine g_toI (y := 999) rfl ?_
      exact g_iretRv h hE dX0_mostOf_36 (by first | (simp [mostOf]; done) | (simp_all [mostOf]; done))
