
theorem gy_X5_look : gY yX5_look RX5 0 := ⟨rfl, by decide +kernel, by decide +kernel, by decide +kernel⟩
theorem gy_X5_isName : gY yX5_isName RX5 1 := ⟨rfl, by decide +kernel, by decide +kernel, by decide +kernel⟩
theorem gy_X5_lays : gY yX5_lays RX5 2 := ⟨rfl, by decide +kernel, by decide +kernel, by decide +kernel⟩
theorem gy_X5_opens : gY yX5_opens RX5 0 := ⟨rfl, by decide +kernel, by decide +kernel, by decide +kernel⟩
set_option maxHeartbeats 4000000 in
set_option maxRecDepth 100000 in
theorem m5_look (l : Launch) (D : va_G) (T : Nat → ClassId) (o : Nat) (a : Nat → Nat) (s : Nat → Int32) (S : Nat → Nat → Int32) (u : Nat) (p : PS) (h0 : Inv s) (h1 : p.1 ≤ nC s) : MetR l D T yX5_look cX5_look 1 (some .int) 0 0 [.ref o] (mW T o a s (paS S u p)) (fun r_ => r_ = some (.int (lk s p))) := by
  refine metR (own := RX5) rfl (by decide) rfl (fun X h hl hDx hTx hE => ?_)
  subst hl; subst hDx; subst hTx
  have hnp := h0.npl; have hnt := h0.ntl; have hnq := h0.nql
  have hnc := h0.ncl
  show G X 0 0 (mW (xT X) o a s (paS S u p)) 0 [(0, .ref o)] []
  refine g_aload_n h dX5_look_0 rfl ?_
  refine g_get h in_X5 0 rfl rfl 5 rfl q1379 rfl rfl dX5_look_1 ?_
  show G X 0 0 (mW (xT X) o a s (paS S u p)) 4 [(0, .ref o)] [.int (nI p.1)]
  refine g_aload_n h dX5_look_4 rfl ?_
  refine g_get h in_X5 0 rfl rfl 0 rfl q1374 rfl rfl dX5_look_5 ?_
  refine g_bipush (v := nI 6) h dX5_look_8 (by decide) ?_
  refine g_iald h 1 rfl (by first | assumption | omega) (by decide) dX5_look_10 ?_
  refine g_toN (a := nC s) h0.nc ?_
  refine g_icmp_geN h 30 dX5_look_11 (by decide) (by first | omega | decide) (by first | omega | decide) (fun c11 => ?_) (fun c11 => ?_)
  · skip
    show G X 0 0 (mW (xT X) o a s (paS S u p)) 30 [(0, .ref o)] []
    refine g_iconst (v := -1) h dX5_look_30 (by decide) ?_
    exact g_iretRv h hE dX5_look_31 (by unfold lk; first | (rw [if_pos c11]; done) | (rw [if_neg (by omega)]; done))
  · skip
    show G X 0 0 (mW (xT X) o a s (paS S u p)) 14 [(0, .ref o)] []
    refine g_aload_n h dX5_look_14 rfl ?_
    refine g_get h in_X5 0 rfl rfl 0 rfl q1374 rfl rfl dX5_look_15 ?_
    refine g_sipush (v := nI 432) h dX5_look_18 (by decide) ?_
    refine g_aload_n h dX5_look_21 rfl ?_
    refine g_get h in_X5 0 rfl rfl 5 rfl q1379 rfl rfl dX5_look_22 ?_
    show G X 0 0 (mW (xT X) o a s (paS S u p)) 25 [(0, .ref o)] [.int (nI p.1), .int (nI 432), .ref (a 0)]
    refine g_iaddN h dX5_look_25 ?_
    refine g_iald h 1 rfl (by first | assumption | omega) (by decide) dX5_look_26 ?_
    refine g_goto h 31 dX5_look_27 (by decide) ?_
    exact g_iretRv h hE dX5_look_31 (by unfold lk; first | (rw [if_pos c11]; done) | (rw [if_neg (by omega)]; done))
set_option maxHeartbeats 4000000 in
set_option maxRecDepth 100000 in
theorem m5_isName (l : Launch) (D : va_G) (T : Nat → ClassId) (o : Nat) (a : Nat → Nat) (s : Nat → Int32) (S : Nat → Nat → Int32) (u : Nat) (p : PS) (c : Int32) (h0 : u < 2) : MetR l D T yX5_isName cX5_isName 2 (some .boolean) 0 0 [.ref o, .int c] (mW T o a s (paS S u p)) (fun r_ => r_ = some (.int (bI (isNm u c)))) := by
  refine metR (own := RX5) rfl (by decide) rfl (fun X h hl hDx hTx hE => ?_)
  subst hl; subst hDx; subst hTx
  show G X 0 0 (mW (xT X) o a s (paS S u p)) 0 [(0, .ref o), (1, .int c)] []
  refine g_iload_n h dX5_isName_0 rfl ?_
  refine g_bipush (v := nI 118) h dX5_isName_1 (by decide) ?_
  refine g_toI (y := 118) rfl ?_
  refine g_icmp_eq h 12 dX5_isName_3 (by decide) (fun c3 => ?_) (fun c3 => ?_)
  · skip
    show G X 0 0 (mW (xT X) o a s (paS S u p)) 12 [(0, .ref o), (1, .int c)] []
    refine g_iconst (v := nI 1) h dX5_isName_12 (by decide) ?_
    exact g_zretRv h hE dX5_isName_13 (by rw [show (isNm u c) = true by first | (simp [isNm, c3]; done) | (simp_all [isNm, c3]; done)]; rfl)
  · skip
    show G X 0 0 (mW (xT X) o a s (paS S u p)) 6 [(0, .ref o), (1, .int c)] []
    refine g_iload_n h dX5_isName_6 rfl ?_
    refine g_bipush (v := nI 114) h dX5_isName_7 (by decide) ?_
    refine g_toI (y := 114) rfl ?_
    refine g_icmp_ne h 14 dX5_isName_9 (by decide) (fun c9 => ?_) (fun c9 => ?_)
    · skip
      show G X 0 0 (mW (xT X) o a s (paS S u p)) 14 [(0, .ref o), (1, .int c)] []
      refine g_aload_n h dX5_isName_14 rfl ?_
      refine g_get h in_X5 0 rfl rfl 8 rfl q1382 rfl rfl dX5_isName_15 ?_
      show G X 0 0 (mW (xT X) o a s (paS S u p)) 18 [(0, .ref o), (1, .int c)] [.int (nI u)]
      refine g_if_neN h 47 dX5_isName_18 (by decide) (by first | omega | decide) (fun c18 => ?_) (fun c18 => ?_)
      · skip
        show G X 0 0 (mW (xT X) o a s (paS S u p)) 47 [(0, .ref o), (1, .int c)] []
        refine g_iload_n h dX5_isName_47 rfl ?_
        refine g_bipush (v := nI 115) h dX5_isName_48 (by decide) ?_
        refine g_toI (y := 115) rfl ?_
        refine g_icmp_eq h 65 dX5_isName_50 (by decide) (fun c50 => ?_) (fun c50 => ?_)
        · skip
          show G X 0 0 (mW (xT X) o a s (paS S u p)) 65 [(0, .ref o), (1, .int c)] []
          refine g_iconst (v := nI 1) h dX5_isName_65 (by decide) ?_
          refine g_goto h 70 dX5_isName_66 (by decide) ?_
          exact g_zretRv h hE dX5_isName_70 (by rw [show (isNm u c) = true by first | (simp [isNm, c3, c9, c18, c50]; done) | (simp_all [isNm, c3, c9, c18, c50]; done)]; rfl)
        · skip
          show G X 0 0 (mW (xT X) o a s (paS S u p)) 53 [(0, .ref o), (1, .int c)] []
          refine g_iload_n h dX5_isName_53 rfl ?_
          refine g_bipush (v := nI 99) h dX5_isName_54 (by decide) ?_
          refine g_toI (y := 99) rfl ?_
          refine g_icmp_eq h 65 dX5_isName_56 (by decide) (fun c56 => ?_) (fun c56 => ?_)
          · skip
            show G X 0 0 (mW (xT X) o a s (paS S u p)) 65 [(0, .ref o), (1, .int c)] []
            refine g_iconst (v := nI 1) h dX5_isName_65 (by decide) ?_
            refine g_goto h 70 dX5_isName_66 (by decide) ?_
            exact g_zretRv h hE dX5_isName_70 (by rw [show (isNm u c) = true by first | (simp [isNm, c3, c9, c18, c50, c56]; done) | (simp_all [isNm, c3, c9, c18, c50, c56]; done)]; rfl)
          · skip
            show G X 0 0 (mW (xT X) o a s (paS S u p)) 59 [(0, .ref o), (1, .int c)] []
            refine g_iload_n h dX5_isName_59 rfl ?_
            refine g_bipush (v := nI 117) h dX5_isName_60 (by decide) ?_
            refine g_toI (y := 117) rfl ?_
            refine g_icmp_ne h 69 dX5_isName_62 (by decide) (fun c62 => ?_) (fun c62 => ?_)
            · skip
              show G X 0 0 (mW (xT X) o a s (paS S u p)) 69 [(0, .ref o), (1, .int c)] []
              refine g_iconst (v := nI 0) h dX5_isName_69 (by decide) ?_
              exact g_zretRv h hE dX5_isName_70 (by rw [show (isNm u c) = false by first | (simp [isNm, c3, c9, c18, c50, c56, c62]; done) | (simp_all [isNm, c3, c9, c18, c50, c56, c62]; done)]; rfl)
            · skip
              show G X 0 0 (mW (xT X) o a s (paS S u p)) 65 [(0, .ref o), (1, .int c)] []
              refine g_iconst (v := nI 1) h dX5_isName_65 (by decide) ?_
              refine g_goto h 70 dX5_isName_66 (by decide) ?_
              exact g_zretRv h hE dX5_isName_70 (by rw [show (isNm u c) = true by first | (simp [isNm, c3, c9, c18, c50, c56, c62]; done) | (simp_all [isNm, c3, c9, c18, c50, c56, c62]; done)]; rfl)
      · skip
        show G X 0 0 (mW (xT X) o a s (paS S u p)) 21 [(0, .ref o), (1, .int c)] []
        refine g_iload_n h dX5_isName_21 rfl ?_
        refine g_bipush (v := nI 109) h dX5_isName_22 (by decide) ?_
        refine g_toI (y := 109) rfl ?_
        refine g_icmp_eq h 39 dX5_isName_24 (by decide) (fun c24 => ?_) (fun c24 => ?_)
        · skip
          show G X 0 0 (mW (xT X) o a s (paS S u p)) 39 [(0, .ref o), (1, .int c)] []
          refine g_iconst (v := nI 1) h dX5_isName_39 (by decide) ?_
          refine g_goto h 70 dX5_isName_40 (by decide) ?_
          exact g_zretRv h hE dX5_isName_70 (by rw [show (isNm u c) = true by first | (simp [isNm, c3, c9, c18, c24]; done) | (simp_all [isNm, c3, c9, c18, c24]; done)]; rfl)
        · skip
          show G X 0 0 (mW (xT X) o a s (paS S u p)) 27 [(0, .ref o), (1, .int c)] []
          refine g_iload_n h dX5_isName_27 rfl ?_
          refine g_bipush (v := nI 112) h dX5_isName_28 (by decide) ?_
          refine g_toI (y := 112) rfl ?_
          refine g_icmp_eq h 39 dX5_isName_30 (by decide) (fun c30 => ?_) (fun c30 => ?_)
          · skip
            show G X 0 0 (mW (xT X) o a s (paS S u p)) 39 [(0, .ref o), (1, .int c)] []
            refine g_iconst (v := nI 1) h dX5_isName_39 (by decide) ?_
            refine g_goto h 70 dX5_isName_40 (by decide) ?_
            exact g_zretRv h hE dX5_isName_70 (by rw [show (isNm u c) = true by first | (simp [isNm, c3, c9, c18, c24, c30]; done) | (simp_all [isNm, c3, c9, c18, c24, c30]; done)]; rfl)
          · skip
            show G X 0 0 (mW (xT X) o a s (paS S u p)) 33 [(0, .ref o), (1, .int c)] []
            refine g_iload_n h dX5_isName_33 rfl ?_
            refine g_bipush (v := nI 121) h dX5_isName_34 (by decide) ?_
            refine g_toI (y := 121) rfl ?_
            refine g_icmp_ne h 43 dX5_isName_36 (by decide) (fun c36 => ?_) (fun c36 => ?_)
            · skip
              show G X 0 0 (mW (xT X) o a s (paS S u p)) 43 [(0, .ref o), (1, .int c)] []
              refine g_iconst (v := nI 0) h dX5_isName_43 (by decide) ?_
              refine g_goto h 70 dX5_isName_44 (by decide) ?_
              exact g_zretRv h hE dX5_isName_70 (by rw [show (isNm u c) = false by first | (simp [isNm, c3, c9, c18, c24, c30, c36]; done) | (simp_all [isNm, c3, c9, c18, c24, c30, c36]; done)]; rfl)
            · skip
              show G X 0 0 (mW (xT X) o a s (paS S u p)) 39 [(0, .ref o), (1, .int c)] []
              refine g_iconst (v := nI 1) h dX5_isName_39 (by decide) ?_
              refine g_goto h 70 dX5_isName_40 (by decide) ?_
              exact g_zretRv h hE dX5_isName_70 (by rw [show (isNm u c) = true by first | (simp [isNm, c3, c9, c18, c24, c30, c36]; done) | (simp_all [isNm, c3, c9, c18, c24, c30, c36]; done)]; rfl)
    · skip
      show G X 0 0 (mW (xT X) o a s (paS S u p)) 12 [(0, .ref o), (1, .int c)] []
      refine g_iconst (v := nI 1) h dX5_isName_12 (by decide) ?_
      exact g_zretRv h hE dX5_isName_13 (by rw [show (isNm u c) = true by first | (simp [isNm, c3, c9]; done) | (simp_all [isNm, c3, c9]; done)]; rfl)
set_option maxHeartbeats 4000000 in
set_option maxRecDepth 100000 in
theorem m5_lays (l : Launch) (D : va_G) (T : Nat → ClassId) (o : Nat) (a : Nat → Nat) (s : Nat → Int32) (S : Nat → Nat → Int32) (u : Nat) (p : PS) (w : Int32) (v : Int32) (h0 : p.2.2.1 < 62) : MetW l D T yX5_lays cX5_lays 3 (none) 0 0 0 0 [.ref o, .int w, .int v] (mW T o a s (paS S u p)) (fun r_ w_ => r_ = none ∧ (w_ = mW T o a s (paS S u (lay2 w v p)))) := by
  refine metW (own := RX5) rfl (by decide) rfl (fun X h hl hDx hTx hnm hE => ?_)
  subst hl; subst hDx; subst hTx
  show G X 0 0 (mW (xT X) o a s (paS S u p)) 0 [(0, .ref o), (1, .int w), (2, .int v)] []
  refine g_aload_n h dX5_lays_0 rfl ?_
  refine g_get h in_X5 0 rfl rfl 9 rfl q1383 rfl rfl dX5_lays_1 ?_
  refine g_iconst (v := nI 2) h dX5_lays_4 (by decide) ?_
  refine g_aload_n h dX5_lays_5 rfl ?_
  refine g_get h in_X5 0 rfl rfl 7 rfl q1381 rfl rfl dX5_lays_6 ?_
  show G X 0 0 (mW (xT X) o a s (paS S u p)) 9 [(0, .ref o), (1, .int w), (2, .int v)] [.int (nI p.2.2.1), .int (nI 2), .ref (a 4)]
  refine g_imulN h dX5_lays_9 ?_
  refine g_iload_n h dX5_lays_10 rfl ?_
  refine g_iast (ws' := mW (xT X) o a s (paS S u (p.1, p.2.1, p.2.2.1, upd p.2.2.2 (2 * p.2.2.1) w))) h hE.1 5 rfl (by omega) (by decide) dX5_lays_11 rfl ?_
  refine g_aload_n h dX5_lays_12 rfl ?_
  refine g_get h in_X5 0 rfl rfl 9 rfl q1383 rfl rfl dX5_lays_13 ?_
  refine g_iconst (v := nI 2) h dX5_lays_16 (by decide) ?_
  refine g_aload_n h dX5_lays_17 rfl ?_
  refine g_get h in_X5 0 rfl rfl 7 rfl q1381 rfl rfl dX5_lays_18 ?_
  show G X 0 0 (mW (xT X) o a s (paS S u (p.1, p.2.1, p.2.2.1, upd p.2.2.2 (2 * p.2.2.1) w))) 21 [(0, .ref o), (1, .int w), (2, .int v)] [.int (nI p.2.2.1), .int (nI 2), .ref (a 4)]
  refine g_imulN h dX5_lays_21 ?_
  refine g_iconst (v := nI 1) h dX5_lays_22 (by decide) ?_
  refine g_iaddN h dX5_lays_23 ?_
  refine g_iload_n h dX5_lays_24 rfl ?_
  refine g_iast (ws' := mW (xT X) o a s (paS S u (p.1, p.2.1, p.2.2.1, upd (upd p.2.2.2 (2 * p.2.2.1) w) (2 * p.2.2.1 + 1) v))) h hE.1 5 rfl (by omega) (by decide) dX5_lays_25 rfl ?_
  refine g_aload_n h dX5_lays_26 rfl ?_
  refine g_dup h dX5_lays_27 rfl ?_
  refine g_get h in_X5 0 rfl rfl 7 rfl q1381 rfl rfl dX5_lays_28 ?_
  show G X 0 0 (mW (xT X) o a s (paS S u (p.1, p.2.1, p.2.2.1, upd (upd p.2.2.2 (2 * p.2.2.1) w) (2 * p.2.2.1 + 1) v))) 31 [(0, .ref o), (1, .int w), (2, .int v)] [.int (nI p.2.2.1), .ref o]
  refine g_iconst (v := nI 1) h dX5_lays_31 (by decide) ?_
  refine g_iaddN h dX5_lays_32 ?_
  refine g_put (ws' := mW (xT X) o a s (paS S u (p.1, p.2.1, p.2.2.1 + 1, upd (upd p.2.2.2 (2 * p.2.2.1) w) (2 * p.2.2.1 + 1) v))) h hE.1 in_X5 tyX5 tyX5_ok nmX5 0 rfl rfl 7 rfl q1381 rfl rfl rfl rfl rfl rfl dX5_lays_33 rfl ?_
  exact g_vretWv h hE dX5_lays_36 (paW_eq (rfl))
set_option maxHeartbeats 4000000 in
set_option maxRecDepth 100000 in
theorem m5_opens_1 (l : Launch) (D : va_G) (T : Nat → ClassId) (o : Nat) (a : Nat → Nat) (s : Nat → Int32) (S : Nat → Nat → Int32) (u : Nat) (p : PS) (h0 : p.2.1 < 5) : MetW l D T yX5_opens cX5_opens 1 (some .boolean) 0 0 0 0 [.ref o] (mW T o a s (paS S u p)) (fun r_ w_ => r_ = some (.int (bI true)) ∧ (w_ = mW T o a s (paS S u (opn p)))) := by
  refine metW (own := RX5) rfl (by decide) rfl (fun X h hl hDx hTx hnm hE => ?_)
  subst hl; subst hDx; subst hTx
  show G X 0 0 (mW (xT X) o a s (paS S u p)) 0 [(0, .ref o)] []
  refine g_aload_n h dX5_opens_0 rfl ?_
  refine g_get h in_X5 0 rfl rfl 6 rfl q1380 rfl rfl dX5_opens_1 ?_
  show G X 0 0 (mW (xT X) o a s (paS S u p)) 4 [(0, .ref o)] [.int (nI p.2.1)]
  refine g_iconst (v := nI 5) h dX5_opens_4 (by decide) ?_
  refine g_icmp_neN h 10 dX5_opens_5 (by decide) (by first | omega | decide) (by first | omega | decide) (fun c5 => ?_) (fun c5 => ?_)
  · skip
    show G X 0 0 (mW (xT X) o a s (paS S u p)) 10 [(0, .ref o)] []
    refine g_aload_n h dX5_opens_10 rfl ?_
    refine g_dup h dX5_opens_11 rfl ?_
    refine g_get h in_X5 0 rfl rfl 6 rfl q1380 rfl rfl dX5_opens_12 ?_
    show G X 0 0 (mW (xT X) o a s (paS S u p)) 15 [(0, .ref o)] [.int (nI p.2.1), .ref o]
    refine g_iconst (v := nI 1) h dX5_opens_15 (by decide) ?_
    refine g_iaddN h dX5_opens_16 ?_
    refine g_put (ws' := mW (xT X) o a s (paS S u (p.1, p.2.1 + 1, p.2.2.1, p.2.2.2))) h hE.1 in_X5 tyX5 tyX5_ok nmX5 0 rfl rfl 6 rfl q1380 rfl rfl rfl rfl rfl rfl dX5_opens_17 rfl ?_
    refine g_aload_n h dX5_opens_20 rfl ?_
    refine g_dup h dX5_opens_21 rfl ?_
    refine g_get h in_X5 0 rfl rfl 5 rfl q1379 rfl rfl dX5_opens_22 ?_
    show G X 0 0 (mW (xT X) o a s (paS S u (p.1, p.2.1 + 1, p.2.2.1, p.2.2.2))) 25 [(0, .ref o)] [.int (nI p.1), .ref o]
    refine g_iconst (v := nI 1) h dX5_opens_25 (by decide) ?_
    refine g_iaddN h dX5_opens_26 ?_
    refine g_put (ws' := mW (xT X) o a s (paS S u (p.1 + 1, p.2.1 + 1, p.2.2.1, p.2.2.2))) h hE.1 in_X5 tyX5 tyX5_ok nmX5 0 rfl rfl 5 rfl q1379 rfl rfl rfl rfl rfl rfl dX5_opens_27 rfl ?_
    refine g_iconst (v := nI 1) h dX5_opens_30 (by decide) ?_
    exact g_zretWv h hE dX5_opens_31 (by rw [show true = true by first | (simp [c5]; done) | (simp_all [c5]; done)]; rfl) (paW_eq (rfl))
  · skip
    show G X 0 0 (mW (xT X) o a s (paS S u p)) 8 [(0, .ref o)] []
    omega
set_option maxHeartbeats 4000000 in
set_option maxRecDepth 100000 in
theorem m5_opens_0 (l : Launch) (D : va_G) (T : Nat → ClassId) (o : Nat) (a : Nat → Nat) (s : Nat → Int32) (S : Nat → Nat → Int32) (u : Nat) (p : PS) (h0 : p.2.1 = 5) : MetW l D T yX5_opens cX5_opens 1 (some .boolean) 0 0 0 0 [.ref o] (mW T o a s (paS S u p)) (fun r_ w_ => r_ = some (.int (bI false)) ∧ (w_ = mW T o a s (paS S u p))) := by
  refine metW (own := RX5) rfl (by decide) rfl (fun X h hl hDx hTx hnm hE => ?_)
  subst hl; subst hDx; subst hTx
  show G X 0 0 (mW (xT X) o a s (paS S u p)) 0 [(0, .ref o)] []
  refine g_aload_n h dX5_opens_0 rfl ?_
  refine g_get h in_X5 0 rfl rfl 6 rfl q1380 rfl rfl dX5_opens_1 ?_
  show G X 0 0 (mW (xT X) o a s (paS S u p)) 4 [(0, .ref o)] [.int (nI p.2.1)]
  refine g_iconst (v := nI 5) h dX5_opens_4 (by decide) ?_
  refine g_icmp_neN h 10 dX5_opens_5 (by decide) (by first | omega | decide) (by first | omega | decide) (fun c5 => ?_) (fun c5 => ?_)
  · skip
    show G X 0 0 (mW (xT X) o a s (paS S u p)) 10 [(0, .ref o)] []
    omega
  · skip
    show G X 0 0 (mW (xT X) o a s (paS S u p)) 8 [(0, .ref o)] []
    refine g_iconst (v := nI 0) h dX5_opens_8 (by decide) ?_
    exact g_zretWv h hE dX5_opens_9 (by rw [show false = false by first | (simp [c5]; done) | (simp_all [c5]; done)]; rfl) (paW_eq (rfl))
