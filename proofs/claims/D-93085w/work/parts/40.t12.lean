
theorem gy_X5_begins : gY yX5_begins RX5 1 := ⟨rfl, by decide +kernel, by decide +kernel, by decide +kernel⟩
theorem gy_X5_kindNow : gY yX5_kindNow RX5 0 := ⟨rfl, by decide +kernel, by decide +kernel, by decide +kernel⟩
theorem gy_X5_partNow : gY yX5_partNow RX5 0 := ⟨rfl, by decide +kernel, by decide +kernel, by decide +kernel⟩
theorem gy_X5_above : gY yX5_above RX5 1 := ⟨rfl, by decide +kernel, by decide +kernel, by decide +kernel⟩
theorem gy_X5_calls : gY yX5_calls RX5 2 := ⟨rfl, by decide +kernel, by decide +kernel, by decide +kernel⟩
theorem gy_X5_buys : gY yX5_buys RX5 2 := ⟨rfl, by decide +kernel, by decide +kernel, by decide +kernel⟩
theorem gy_X5_gives : gY yX5_gives RX5 2 := ⟨rfl, by decide +kernel, by decide +kernel, by decide +kernel⟩
theorem gy_X5_minds : gY yX5_minds RX5 2 := ⟨rfl, by decide +kernel, by decide +kernel, by decide +kernel⟩
theorem gy_X5_voice : gY yX5_voice RX5 3 := ⟨rfl, by decide +kernel, by decide +kernel, by decide +kernel⟩
set_option maxHeartbeats 4000000 in
set_option maxRecDepth 100000 in
theorem m5_begins (l : Launch) (D : va_G) (T : Nat → ClassId) (o : Nat) (a : Nat → Nat) (s : Nat → Int32) (S : Nat → Nat → Int32) (p : Nat) (t : TR) (b : Bool) (v : Int32) (h0 : t.2 ≤ 30) : MetW l D T yX5_begins cX5_begins 2 (none) 0 0 0 0 [.ref o, .int v] (mW T o a s (trS S p t b)) (fun r_ w_ => r_ = none ∧ (w_ = mW T o a s (trS S p (ranT v t) b))) := by
  refine metW (own := RX5) rfl (by decide) rfl (fun X h hl hDx hTx hnm hE => ?_)
  subst hl; subst hDx; subst hTx
  show G X 0 0 (mW (xT X) o a s (trS S p t b)) 0 [(0, .ref o), (1, .int v)] []
  refine g_aload_n h dX5_begins_0 rfl ?_
  refine g_get h in_X5 0 rfl rfl 13 rfl q1387 rfl rfl dX5_begins_1 ?_
  show G X 0 0 (mW (xT X) o a s (trS S p t b)) 4 [(0, .ref o), (1, .int v)] [.int (nI t.2)]
  refine g_bipush (v := nI 30) h dX5_begins_4 (by decide) ?_
  refine g_icmp_geN h 29 dX5_begins_6 (by decide) (by first | omega | decide) (by first | omega | decide) (fun c6 => ?_) (fun c6 => ?_)
  · skip
    show G X 0 0 (mW (xT X) o a s (trS S p t b)) 29 [(0, .ref o), (1, .int v)] []
    exact g_vretWv h hE dX5_begins_29 (trW_eq (by first | (simp [ranT, c6]; done) | (simp_all [ranT, c6]; done)) rfl)
  · skip
    show G X 0 0 (mW (xT X) o a s (trS S p t b)) 9 [(0, .ref o), (1, .int v)] []
    refine g_aload_n h dX5_begins_9 rfl ?_
    refine g_get h in_X5 0 rfl rfl 12 rfl q1386 rfl rfl dX5_begins_10 ?_
    refine g_aload_n h dX5_begins_13 rfl ?_
    refine g_get h in_X5 0 rfl rfl 13 rfl q1387 rfl rfl dX5_begins_14 ?_
    show G X 0 0 (mW (xT X) o a s (trS S p t b)) 17 [(0, .ref o), (1, .int v)] [.int (nI t.2), .ref (a 7)]
    refine g_iload_n h dX5_begins_17 rfl ?_
    refine g_iast (ws' := mW (xT X) o a s (trS S p (upd t.1 t.2 v, t.2) b)) h hE.1 8 rfl (by omega) (by decide) dX5_begins_18 rfl ?_
    refine g_aload_n h dX5_begins_19 rfl ?_
    refine g_dup h dX5_begins_20 rfl ?_
    refine g_get h in_X5 0 rfl rfl 13 rfl q1387 rfl rfl dX5_begins_21 ?_
    show G X 0 0 (mW (xT X) o a s (trS S p (upd t.1 t.2 v, t.2) b)) 24 [(0, .ref o), (1, .int v)] [.int (nI t.2), .ref o]
    refine g_iconst (v := nI 1) h dX5_begins_24 (by decide) ?_
    refine g_iaddN h dX5_begins_25 ?_
    refine g_put (ws' := mW (xT X) o a s (trS S p (upd t.1 t.2 v, t.2 + 1) b)) h hE.1 in_X5 tyX5 tyX5_ok nmX5 0 rfl rfl 13 rfl q1387 rfl rfl rfl rfl rfl rfl dX5_begins_26 rfl ?_
    exact g_vretWv h hE dX5_begins_29 (trW_eq (by first | (simp [ranT, c6]; done) | (simp_all [ranT, c6]; done)) rfl)
set_option maxHeartbeats 4000000 in
set_option maxRecDepth 100000 in
theorem m5_kindNow (l : Launch) (D : va_G) (T : Nat → ClassId) (o : Nat) (a : Nat → Nat) (s : Nat → Int32) (S : Nat → Nat → Int32) (p : Nat) (t : TR) (b : Bool) (h0 : p < 6) : MetR l D T yX5_kindNow cX5_kindNow 1 (some .int) 1 22 [.ref o] (mW T o a s (trS S p t b)) (fun r_ => r_ = some (.int (s (20 + 4 * p)))) := by
  refine metR (own := RX5) rfl (by decide) rfl (fun X h hl hDx hTx hE => ?_)
  subst hl; subst hDx; subst hTx
  show G X 0 0 (mW (xT X) o a s (trS S p t b)) 0 [(0, .ref o)] []
  refine g_aload_n h dX5_kindNow_0 rfl ?_
  refine g_aload_n h dX5_kindNow_1 rfl ?_
  refine g_get h in_X5 0 rfl rfl 14 rfl q1388 rfl rfl dX5_kindNow_2 ?_
  show G X 0 0 (mW (xT X) o a s (trS S p t b)) 5 [(0, .ref o)] [.int (nI p), .ref o]
  refine g_iconst (v := nI 0) h dX5_kindNow_5 (by decide) ?_
  refine g_callVR h (m5_who _ _ _ o a s (trS S p t b) p 0 (by first | assumption | omega)) (fun _ q => q) 0 rfl rfl (lw_V q1459 q1461 qs37 q95 q1462) gy_X5_who ⟨Nat.le_of_ble_eq_true rfl, Nat.le_of_ble_eq_true rfl⟩ ⟨Nat.le_of_ble_eq_true rfl, Nat.le_of_ble_eq_true rfl⟩ rfl rfl (Nat.le_of_ble_eq_true rfl) dX5_kindNow_6 ?_
  show G X 0 0 (mW (xT X) o a s (trS S p t b)) 9 [(0, .ref o)] [.int (s (20 + 4 * p))]
  exact g_iretRv h hE dX5_kindNow_9 rfl
set_option maxHeartbeats 4000000 in
set_option maxRecDepth 100000 in
theorem m5_partNow (l : Launch) (D : va_G) (T : Nat → ClassId) (o : Nat) (a : Nat → Nat) (s : Nat → Int32) (S : Nat → Nat → Int32) (p : Nat) (t : TR) (b : Bool) (h0 : p < 6) : MetR l D T yX5_partNow cX5_partNow 1 (some .int) 1 22 [.ref o] (mW T o a s (trS S p t b)) (fun r_ => r_ = some (.int (s (20 + 4 * p + 2)))) := by
  refine metR (own := RX5) rfl (by decide) rfl (fun X h hl hDx hTx hE => ?_)
  subst hl; subst hDx; subst hTx
  show G X 0 0 (mW (xT X) o a s (trS S p t b)) 0 [(0, .ref o)] []
  refine g_aload_n h dX5_partNow_0 rfl ?_
  refine g_aload_n h dX5_partNow_1 rfl ?_
  refine g_get h in_X5 0 rfl rfl 14 rfl q1388 rfl rfl dX5_partNow_2 ?_
  show G X 0 0 (mW (xT X) o a s (trS S p t b)) 5 [(0, .ref o)] [.int (nI p), .ref o]
  refine g_iconst (v := nI 2) h dX5_partNow_5 (by decide) ?_
  refine g_callVR h (m5_who _ _ _ o a s (trS S p t b) p 2 (by first | assumption | omega)) (fun _ q => q) 0 rfl rfl (lw_V q1459 q1461 qs37 q95 q1462) gy_X5_who ⟨Nat.le_of_ble_eq_true rfl, Nat.le_of_ble_eq_true rfl⟩ ⟨Nat.le_of_ble_eq_true rfl, Nat.le_of_ble_eq_true rfl⟩ rfl rfl (Nat.le_of_ble_eq_true rfl) dX5_partNow_6 ?_
  exact g_iretRv h hE dX5_partNow_9 rfl
set_option maxHeartbeats 4000000 in
set_option maxRecDepth 100000 in
theorem m5_above_0 (l : Launch) (D : va_G) (T : Nat → ClassId) : MetR l D T yX5_above cX5_above 1 (some .int) 0 0 [.int (nI 0)] (([] : va_W)) (fun r_ => r_ = some (.int (nI 0))) := by
  refine metR (own := RX5) rfl (by decide) rfl (fun X h hl hDx hTx hE => ?_)
  subst hl; subst hDx; subst hTx
  show G X 0 0 (([] : va_W)) 0 [(0, .int (nI 0))] []
  refine g_iload_n h dX5_above_0 rfl ?_
  refine g_iconst (v := nI 2) h dX5_above_1 (by decide) ?_
  refine g_icmp_eqN h 16 dX5_above_2 (by decide) (by first | omega | decide) (by first | omega | decide) (fun c2 => ?_) (fun c2 => ?_)
  · skip
    show G X 0 0 (([] : va_W)) 16 [(0, .int (nI 0))] []
    exact absurd c2 (by decide)
  · skip
    show G X 0 0 (([] : va_W)) 5 [(0, .int (nI 0))] []
    refine g_iload_n h dX5_above_5 rfl ?_
    refine g_iconst (v := nI 3) h dX5_above_6 (by decide) ?_
    refine g_icmp_eqN h 16 dX5_above_7 (by decide) (by first | omega | decide) (by first | omega | decide) (fun c7 => ?_) (fun c7 => ?_)
    · skip
      show G X 0 0 (([] : va_W)) 16 [(0, .int (nI 0))] []
      exact absurd c7 (by decide)
    · skip
      show G X 0 0 (([] : va_W)) 10 [(0, .int (nI 0))] []
      refine g_iload_n h dX5_above_10 rfl ?_
      refine g_bipush (v := nI 6) h dX5_above_11 (by decide) ?_
      refine g_icmp_neN h 20 dX5_above_13 (by decide) (by first | omega | decide) (by first | omega | decide) (fun c13 => ?_) (fun c13 => ?_)
      · skip
        show G X 0 0 (([] : va_W)) 20 [(0, .int (nI 0))] []
        refine g_iconst (v := nI 0) h dX5_above_20 (by decide) ?_
        exact g_iretRv h hE dX5_above_21 rfl
      · skip
        show G X 0 0 (([] : va_W)) 16 [(0, .int (nI 0))] []
        exact absurd c13 (by decide)
set_option maxHeartbeats 4000000 in
set_option maxRecDepth 100000 in
theorem m5_above_1 (l : Launch) (D : va_G) (T : Nat → ClassId) : MetR l D T yX5_above cX5_above 1 (some .int) 0 0 [.int (nI 1)] (([] : va_W)) (fun r_ => r_ = some (.int (nI 0))) := by
  refine metR (own := RX5) rfl (by decide) rfl (fun X h hl hDx hTx hE => ?_)
  subst hl; subst hDx; subst hTx
  show G X 0 0 (([] : va_W)) 0 [(0, .int (nI 1))] []
  refine g_iload_n h dX5_above_0 rfl ?_
  refine g_iconst (v := nI 2) h dX5_above_1 (by decide) ?_
  refine g_icmp_eqN h 16 dX5_above_2 (by decide) (by first | omega | decide) (by first | omega | decide) (fun c2 => ?_) (fun c2 => ?_)
  · skip
    show G X 0 0 (([] : va_W)) 16 [(0, .int (nI 1))] []
    exact absurd c2 (by decide)
  · skip
    show G X 0 0 (([] : va_W)) 5 [(0, .int (nI 1))] []
    refine g_iload_n h dX5_above_5 rfl ?_
    refine g_iconst (v := nI 3) h dX5_above_6 (by decide) ?_
    refine g_icmp_eqN h 16 dX5_above_7 (by decide) (by first | omega | decide) (by first | omega | decide) (fun c7 => ?_) (fun c7 => ?_)
    · skip
      show G X 0 0 (([] : va_W)) 16 [(0, .int (nI 1))] []
      exact absurd c7 (by decide)
    · skip
      show G X 0 0 (([] : va_W)) 10 [(0, .int (nI 1))] []
      refine g_iload_n h dX5_above_10 rfl ?_
      refine g_bipush (v := nI 6) h dX5_above_11 (by decide) ?_
      refine g_icmp_neN h 20 dX5_above_13 (by decide) (by first | omega | decide) (by first | omega | decide) (fun c13 => ?_) (fun c13 => ?_)
      · skip
        show G X 0 0 (([] : va_W)) 20 [(0, .int (nI 1))] []
        refine g_iconst (v := nI 0) h dX5_above_20 (by decide) ?_
        exact g_iretRv h hE dX5_above_21 rfl
      · skip
        show G X 0 0 (([] : va_W)) 16 [(0, .int (nI 1))] []
        exact absurd c13 (by decide)
set_option maxHeartbeats 4000000 in
set_option maxRecDepth 100000 in
theorem m5_above_2 (l : Launch) (D : va_G) (T : Nat → ClassId) : MetR l D T yX5_above cX5_above 1 (some .int) 0 0 [.int (nI 2)] (([] : va_W)) (fun r_ => r_ = some (.int (nI 1))) := by
  refine metR (own := RX5) rfl (by decide) rfl (fun X h hl hDx hTx hE => ?_)
  subst hl; subst hDx; subst hTx
  show G X 0 0 (([] : va_W)) 0 [(0, .int (nI 2))] []
  refine g_iload_n h dX5_above_0 rfl ?_
  refine g_iconst (v := nI 2) h dX5_above_1 (by decide) ?_
  refine g_icmp_eqN h 16 dX5_above_2 (by decide) (by first | omega | decide) (by first | omega | decide) (fun c2 => ?_) (fun c2 => ?_)
  · skip
    show G X 0 0 (([] : va_W)) 16 [(0, .int (nI 2))] []
    refine g_iconst (v := nI 1) h dX5_above_16 (by decide) ?_
    refine g_goto h 21 dX5_above_17 (by decide) ?_
    exact g_iretRv h hE dX5_above_21 rfl
  · skip
    show G X 0 0 (([] : va_W)) 5 [(0, .int (nI 2))] []
    exact absurd c2 (by decide)
set_option maxHeartbeats 4000000 in
set_option maxRecDepth 100000 in
theorem m5_above_3 (l : Launch) (D : va_G) (T : Nat → ClassId) : MetR l D T yX5_above cX5_above 1 (some .int) 0 0 [.int (nI 3)] (([] : va_W)) (fun r_ => r_ = some (.int (nI 1))) := by
  refine metR (own := RX5) rfl (by decide) rfl (fun X h hl hDx hTx hE => ?_)
  subst hl; subst hDx; subst hTx
  show G X 0 0 (([] : va_W)) 0 [(0, .int (nI 3))] []
  refine g_iload_n h dX5_above_0 rfl ?_
  refine g_iconst (v := nI 2) h dX5_above_1 (by decide) ?_
  refine g_icmp_eqN h 16 dX5_above_2 (by decide) (by first | omega | decide) (by first | omega | decide) (fun c2 => ?_) (fun c2 => ?_)
  · skip
    show G X 0 0 (([] : va_W)) 16 [(0, .int (nI 3))] []
    exact absurd c2 (by decide)
  · skip
    show G X 0 0 (([] : va_W)) 5 [(0, .int (nI 3))] []
    refine g_iload_n h dX5_above_5 rfl ?_
    refine g_iconst (v := nI 3) h dX5_above_6 (by decide) ?_
    refine g_icmp_eqN h 16 dX5_above_7 (by decide) (by first | omega | decide) (by first | omega | decide) (fun c7 => ?_) (fun c7 => ?_)
    · skip
      show G X 0 0 (([] : va_W)) 16 [(0, .int (nI 3))] []
      refine g_iconst (v := nI 1) h dX5_above_16 (by decide) ?_
      refine g_goto h 21 dX5_above_17 (by decide) ?_
      exact g_iretRv h hE dX5_above_21 rfl
    · skip
      show G X 0 0 (([] : va_W)) 10 [(0, .int (nI 3))] []
      exact absurd c7 (by decide)
set_option maxHeartbeats 4000000 in
set_option maxRecDepth 100000 in
theorem m5_above_4 (l : Launch) (D : va_G) (T : Nat → ClassId) : MetR l D T yX5_above cX5_above 1 (some .int) 0 0 [.int (nI 4)] (([] : va_W)) (fun r_ => r_ = some (.int (nI 0))) := by
  refine metR (own := RX5) rfl (by decide) rfl (fun X h hl hDx hTx hE => ?_)
  subst hl; subst hDx; subst hTx
  show G X 0 0 (([] : va_W)) 0 [(0, .int (nI 4))] []
  refine g_iload_n h dX5_above_0 rfl ?_
  refine g_iconst (v := nI 2) h dX5_above_1 (by decide) ?_
  refine g_icmp_eqN h 16 dX5_above_2 (by decide) (by first | omega | decide) (by first | omega | decide) (fun c2 => ?_) (fun c2 => ?_)
  · skip
    show G X 0 0 (([] : va_W)) 16 [(0, .int (nI 4))] []
    exact absurd c2 (by decide)
  · skip
    show G X 0 0 (([] : va_W)) 5 [(0, .int (nI 4))] []
    refine g_iload_n h dX5_above_5 rfl ?_
    refine g_iconst (v := nI 3) h dX5_above_6 (by decide) ?_
    refine g_icmp_eqN h 16 dX5_above_7 (by decide) (by first | omega | decide) (by first | omega | decide) (fun c7 => ?_) (fun c7 => ?_)
    · skip
      show G X 0 0 (([] : va_W)) 16 [(0, .int (nI 4))] []
      exact absurd c7 (by decide)
    · skip
      show G X 0 0 (([] : va_W)) 10 [(0, .int (nI 4))] []
      refine g_iload_n h dX5_above_10 rfl ?_
      refine g_bipush (v := nI 6) h dX5_above_11 (by decide) ?_
      refine g_icmp_neN h 20 dX5_above_13 (by decide) (by first | omega | decide) (by first | omega | decide) (fun c13 => ?_) (fun c13 => ?_)
      · skip
        show G X 0 0 (([] : va_W)) 20 [(0, .int (nI 4))] []
        refine g_iconst (v := nI 0) h dX5_above_20 (by decide) ?_
        exact g_iretRv h hE dX5_above_21 rfl
      · skip
        show G X 0 0 (([] : va_W)) 16 [(0, .int (nI 4))] []
        exact absurd c13 (by decide)
set_option maxHeartbeats 4000000 in
set_option maxRecDepth 100000 in
theorem m5_above_5 (l : Launch) (D : va_G) (T : Nat → ClassId) : MetR l D T yX5_above cX5_above 1 (some .int) 0 0 [.int (nI 5)] (([] : va_W)) (fun r_ => r_ = some (.int (nI 0))) := by
  refine metR (own := RX5) rfl (by decide) rfl (fun X h hl hDx hTx hE => ?_)
  subst hl; subst hDx; subst hTx
  show G X 0 0 (([] : va_W)) 0 [(0, .int (nI 5))] []
  refine g_iload_n h dX5_above_0 rfl ?_
  refine g_iconst (v := nI 2) h dX5_above_1 (by decide) ?_
  refine g_icmp_eqN h 16 dX5_above_2 (by decide) (by first | omega | decide) (by first | omega | decide) (fun c2 => ?_) (fun c2 => ?_)
  · skip
    show G X 0 0 (([] : va_W)) 16 [(0, .int (nI 5))] []
    exact absurd c2 (by decide)
  · skip
    show G X 0 0 (([] : va_W)) 5 [(0, .int (nI 5))] []
    refine g_iload_n h dX5_above_5 rfl ?_
    refine g_iconst (v := nI 3) h dX5_above_6 (by decide) ?_
    refine g_icmp_eqN h 16 dX5_above_7 (by decide) (by first | omega | decide) (by first | omega | decide) (fun c7 => ?_) (fun c7 => ?_)
    · skip
      show G X 0 0 (([] : va_W)) 16 [(0, .int (nI 5))] []
      exact absurd c7 (by decide)
    · skip
      show G X 0 0 (([] : va_W)) 10 [(0, .int (nI 5))] []
      refine g_iload_n h dX5_above_10 rfl ?_
      refine g_bipush (v := nI 6) h dX5_above_11 (by decide) ?_
      refine g_icmp_neN h 20 dX5_above_13 (by decide) (by first | omega | decide) (by first | omega | decide) (fun c13 => ?_) (fun c13 => ?_)
      · skip
        show G X 0 0 (([] : va_W)) 20 [(0, .int (nI 5))] []
        refine g_iconst (v := nI 0) h dX5_above_20 (by decide) ?_
        exact g_iretRv h hE dX5_above_21 rfl
      · skip
        show G X 0 0 (([] : va_W)) 16 [(0, .int (nI 5))] []
        exact absurd c13 (by decide)
set_option maxHeartbeats 4000000 in
set_option maxRecDepth 100000 in
theorem m5_above_6 (l : Launch) (D : va_G) (T : Nat → ClassId) : MetR l D T yX5_above cX5_above 1 (some .int) 0 0 [.int (nI 6)] (([] : va_W)) (fun r_ => r_ = some (.int (nI 1))) := by
  refine metR (own := RX5) rfl (by decide) rfl (fun X h hl hDx hTx hE => ?_)
  subst hl; subst hDx; subst hTx
  show G X 0 0 (([] : va_W)) 0 [(0, .int (nI 6))] []
  refine g_iload_n h dX5_above_0 rfl ?_
  refine g_iconst (v := nI 2) h dX5_above_1 (by decide) ?_
  refine g_icmp_eqN h 16 dX5_above_2 (by decide) (by first | omega | decide) (by first | omega | decide) (fun c2 => ?_) (fun c2 => ?_)
  · skip
    show G X 0 0 (([] : va_W)) 16 [(0, .int (nI 6))] []
    exact absurd c2 (by decide)
  · skip
    show G X 0 0 (([] : va_W)) 5 [(0, .int (nI 6))] []
    refine g_iload_n h dX5_above_5 rfl ?_
    refine g_iconst (v := nI 3) h dX5_above_6 (by decide) ?_
    refine g_icmp_eqN h 16 dX5_above_7 (by decide) (by first | omega | decide) (by first | omega | decide) (fun c7 => ?_) (fun c7 => ?_)
    · skip
      show G X 0 0 (([] : va_W)) 16 [(0, .int (nI 6))] []
      exact absurd c7 (by decide)
    · skip
      show G X 0 0 (([] : va_W)) 10 [(0, .int (nI 6))] []
      refine g_iload_n h dX5_above_10 rfl ?_
      refine g_bipush (v := nI 6) h dX5_above_11 (by decide) ?_
      refine g_icmp_neN h 20 dX5_above_13 (by decide) (by first | omega | decide) (by first | omega | decide) (fun c13 => ?_) (fun c13 => ?_)
      · skip
        show G X 0 0 (([] : va_W)) 20 [(0, .int (nI 6))] []
        exact absurd c13 (by decide)
      · skip
        show G X 0 0 (([] : va_W)) 16 [(0, .int (nI 6))] []
        refine g_iconst (v := nI 1) h dX5_above_16 (by decide) ?_
        refine g_goto h 21 dX5_above_17 (by decide) ?_
        exact g_iretRv h hE dX5_above_21 rfl
set_option maxHeartbeats 4000000 in
set_option maxRecDepth 100000 in
theorem m5_calls_0 (l : Launch) (D : va_G) (T : Nat → ClassId) (o : Nat) (a : Nat → Nat) (s : Nat → Int32) (S : Nat → Nat → Int32) (p : Nat) (t : TR) (b : Bool) (x : Int32) (h0 : t.2 ≤ 30) (h1 : p < 6) : MetW l D T yX5_calls cX5_calls 3 (some .int) 1 21 0 0 [.ref o, .int (nI 0), .int x] (mW T o a s (trS S p t b)) (fun r_ w_ => r_ = some (.int ((cN 0 p x t).1)) ∧ (w_ = mW T o a s (trS S p ((cN 0 p x t).2) b))) := by
  refine metW (own := RX5) rfl (by decide) rfl (fun X h hl hDx hTx hnm hE => ?_)
  subst hl; subst hDx; subst hTx
  show G X 0 0 (mW (xT X) o a s (trS S p t b)) 0 [(0, .ref o), (1, .int (nI 0)), (2, .int x)] []
  refine g_iload_n h dX5_calls_0 rfl ?_
  refine g_tableIn h 44 dX5_calls_1 0 (by decide) (by decide) (by decide) rfl (by decide) ?_
  refine g_aload_n h dX5_calls_44 rfl ?_
  refine g_bipush (v := nI 10) h dX5_calls_45 (by decide) ?_
  refine g_callVW0 h hE (m5_begins _ _ _ o a s S p t b 10 (by repeat (first | assumption | apply ranT_le | apply cN_le | apply bu_le | apply bu0_le | apply gi_le | apply mi0_le | apply mi1_le))) 0 rfl rfl (lw_V q1777 q1779 qs83 q95 q1780) gy_X5_begins ⟨Nat.le_of_ble_eq_true rfl, Nat.le_of_ble_eq_true rfl⟩ ⟨Nat.le_of_ble_eq_true rfl, Nat.le_of_ble_eq_true rfl⟩ rfl rfl (Nat.le_of_ble_eq_true rfl) dX5_calls_47 (st' := []) rfl (fun _ e47 => ?_)
  subst e47
  refine g_iload_n h dX5_calls_50 rfl ?_
  refine g_aload_n h dX5_calls_51 rfl ?_
  refine g_get h in_X5 0 rfl rfl 14 rfl q1388 rfl rfl dX5_calls_52 ?_
  show G X 0 0 (mW (xT X) o a s (trS S p (ranT 10 t) b)) 55 [(0, .ref o), (1, .int (nI 0)), (2, .int x)] [.int (nI p), .int x]
  refine g_iadd h dX5_calls_55 ?_
  exact g_iretWv h hE dX5_calls_56 (by first | (simp [cN, cN0, cN1]; done) | (simp_all [cN, cN0, cN1]; done)) (trW_eq (by first | (simp [cN, cN0, cN1]; done) | (simp_all [cN, cN0, cN1]; done)) rfl)
set_option maxHeartbeats 4000000 in
set_option maxRecDepth 100000 in
theorem m5_calls_1 (l : Launch) (D : va_G) (T : Nat → ClassId) (o : Nat) (a : Nat → Nat) (s : Nat → Int32) (S : Nat → Nat → Int32) (p : Nat) (t : TR) (b : Bool) (x : Int32) (h0 : t.2 ≤ 30) (h1 : p < 6) : MetW l D T yX5_calls cX5_calls 3 (some .int) 2 43 0 0 [.ref o, .int (nI 1), .int x] (mW T o a s (trS S p t b)) (fun r_ w_ => r_ = some (.int ((cN 1 p x t).1)) ∧ (w_ = mW T o a s (trS S p ((cN 1 p x t).2) b))) := by
  refine metW (own := RX5) rfl (by decide) rfl (fun X h hl hDx hTx hnm hE => ?_)
  subst hl; subst hDx; subst hTx
  show G X 0 0 (mW (xT X) o a s (trS S p t b)) 0 [(0, .ref o), (1, .int (nI 1)), (2, .int x)] []
  refine g_iload_n h dX5_calls_0 rfl ?_
  refine g_tableIn h 57 dX5_calls_1 1 (by decide) (by decide) (by decide) rfl (by decide) ?_
  refine g_aload_n h dX5_calls_57 rfl ?_
  refine g_bipush (v := nI 20) h dX5_calls_58 (by decide) ?_
  refine g_callVW0 h hE (m5_begins _ _ _ o a s S p t b 20 (by repeat (first | assumption | apply ranT_le | apply cN_le | apply bu_le | apply bu0_le | apply gi_le | apply mi0_le | apply mi1_le))) 0 rfl rfl (lw_V q1777 q1779 qs83 q95 q1780) gy_X5_begins ⟨Nat.le_of_ble_eq_true rfl, Nat.le_of_ble_eq_true rfl⟩ ⟨Nat.le_of_ble_eq_true rfl, Nat.le_of_ble_eq_true rfl⟩ rfl rfl (Nat.le_of_ble_eq_true rfl) dX5_calls_60 (st' := []) rfl (fun _ e60 => ?_)
  subst e60
  refine g_aload_n h dX5_calls_63 rfl ?_
  refine g_iconst (v := nI 1) h dX5_calls_64 (by decide) ?_
  refine g_callSR h (m5_above_1 _ _ _ ) (fun _ q => nomatch q) (lw_S q1781 q1782 q95 q1783) gy_X5_above ⟨Nat.le_of_ble_eq_true rfl, Nat.le_of_ble_eq_true rfl⟩ ⟨Nat.le_of_ble_eq_true rfl, Nat.le_of_ble_eq_true rfl⟩ rfl rfl (Nat.le_of_ble_eq_true rfl) dX5_calls_65 ?_
  refine g_iload_n h dX5_calls_68 rfl ?_
  refine g_callVW0 h hE (m5_calls_0 _ _ _ o a s S p (ranT 20 t) b x (by repeat (first | assumption | apply ranT_le | apply cN_le | apply bu_le | apply bu0_le | apply gi_le | apply mi0_le | apply mi1_le)) (by first | assumption | omega)) 0 rfl rfl (lw_V q1773 q1775 qs82 q95 q1776) gy_X5_calls ⟨Nat.le_of_ble_eq_true rfl, Nat.le_of_ble_eq_true rfl⟩ ⟨Nat.le_of_ble_eq_true rfl, Nat.le_of_ble_eq_true rfl⟩ rfl rfl (Nat.le_of_ble_eq_true rfl) dX5_calls_69 (st' := [.int ((cN 0 p x (ranT 20 t)).1)]) rfl (fun _ e69 => ?_)
  subst e69
  refine g_iconst (v := nI 5) h dX5_calls_72 (by decide) ?_
  refine g_toI (y := 5) rfl ?_
  refine g_iadd h dX5_calls_73 ?_
  exact g_iretWv h hE dX5_calls_74 (by first | (simp [cN, cN0, cN1]; done) | (simp_all [cN, cN0, cN1]; done)) (trW_eq (by first | (simp [cN, cN0, cN1]; done) | (simp_all [cN, cN0, cN1]; done)) rfl)
set_option maxHeartbeats 4000000 in
set_option maxRecDepth 100000 in
theorem m5_calls_2 (l : Launch) (D : va_G) (T : Nat → ClassId) (o : Nat) (a : Nat → Nat) (s : Nat → Int32) (S : Nat → Nat → Int32) (p : Nat) (t : TR) (b : Bool) (x : Int32) (h0 : t.2 ≤ 30) (h1 : p < 6) : MetW l D T yX5_calls cX5_calls 3 (some .int) 3 65 0 0 [.ref o, .int (nI 2), .int x] (mW T o a s (trS S p t b)) (fun r_ w_ => r_ = some (.int ((cN 2 p x t).1)) ∧ (w_ = mW T o a s (trS S p ((cN 2 p x t).2) b))) := by
  refine metW (own := RX5) rfl (by decide) rfl (fun X h hl hDx hTx hnm hE => ?_)
  subst hl; subst hDx; subst hTx
  show G X 0 0 (mW (xT X) o a s (trS S p t b)) 0 [(0, .ref o), (1, .int (nI 2)), (2, .int x)] []
  refine g_iload_n h dX5_calls_0 rfl ?_
  refine g_tableIn h 121 dX5_calls_1 2 (by decide) (by decide) (by decide) rfl (by decide) ?_
  refine g_aload_n h dX5_calls_121 rfl ?_
  refine g_iload_n h dX5_calls_122 rfl ?_
  refine g_callSR h (m5_above_2 _ _ _ ) (fun _ q => nomatch q) (lw_S q1781 q1782 q95 q1783) gy_X5_above ⟨Nat.le_of_ble_eq_true rfl, Nat.le_of_ble_eq_true rfl⟩ ⟨Nat.le_of_ble_eq_true rfl, Nat.le_of_ble_eq_true rfl⟩ rfl rfl (Nat.le_of_ble_eq_true rfl) dX5_calls_123 ?_
  refine g_iload_n h dX5_calls_126 rfl ?_
  refine g_callVW0 h hE (m5_calls_1 _ _ _ o a s S p t b x (by repeat (first | assumption | apply ranT_le | apply cN_le | apply bu_le | apply bu0_le | apply gi_le | apply mi0_le | apply mi1_le)) (by first | assumption | omega)) 0 rfl rfl (lw_V q1773 q1775 qs82 q95 q1776) gy_X5_calls ⟨Nat.le_of_ble_eq_true rfl, Nat.le_of_ble_eq_true rfl⟩ ⟨Nat.le_of_ble_eq_true rfl, Nat.le_of_ble_eq_true rfl⟩ rfl rfl (Nat.le_of_ble_eq_true rfl) dX5_calls_127 (st' := [.int ((cN 1 p x t).1)]) rfl (fun _ e127 => ?_)
  subst e127
  exact g_iretWv h hE dX5_calls_130 (by first | (simp [cN, cN0, cN1]; done) | (simp_all [cN, cN0, cN1]; done)) (trW_eq (by first | (simp [cN, cN0, cN1]; done) | (simp_all [cN, cN0, cN1]; done)) rfl)
set_option maxHeartbeats 4000000 in
set_option maxRecDepth 100000 in
theorem m5_calls_3 (l : Launch) (D : va_G) (T : Nat → ClassId) (o : Nat) (a : Nat → Nat) (s : Nat → Int32) (S : Nat → Nat → Int32) (p : Nat) (t : TR) (b : Bool) (x : Int32) (h0 : t.2 ≤ 30) (h1 : p < 6) : MetW l D T yX5_calls cX5_calls 3 (some .int) 3 65 0 0 [.ref o, .int (nI 3), .int x] (mW T o a s (trS S p t b)) (fun r_ w_ => r_ = some (.int ((cN 3 p x t).1)) ∧ (w_ = mW T o a s (trS S p ((cN 3 p x t).2) b))) := by
  refine metW (own := RX5) rfl (by decide) rfl (fun X h hl hDx hTx hnm hE => ?_)
  subst hl; subst hDx; subst hTx
  show G X 0 0 (mW (xT X) o a s (trS S p t b)) 0 [(0, .ref o), (1, .int (nI 3)), (2, .int x)] []
  refine g_iload_n h dX5_calls_0 rfl ?_
  refine g_tableIn h 75 dX5_calls_1 3 (by decide) (by decide) (by decide) rfl (by decide) ?_
  refine g_aload_n h dX5_calls_75 rfl ?_
  refine g_bipush (v := nI 40) h dX5_calls_76 (by decide) ?_
  refine g_callVW0 h hE (m5_begins _ _ _ o a s S p t b 40 (by repeat (first | assumption | apply ranT_le | apply cN_le | apply bu_le | apply bu0_le | apply gi_le | apply mi0_le | apply mi1_le))) 0 rfl rfl (lw_V q1777 q1779 qs83 q95 q1780) gy_X5_begins ⟨Nat.le_of_ble_eq_true rfl, Nat.le_of_ble_eq_true rfl⟩ ⟨Nat.le_of_ble_eq_true rfl, Nat.le_of_ble_eq_true rfl⟩ rfl rfl (Nat.le_of_ble_eq_true rfl) dX5_calls_78 (st' := []) rfl (fun _ e78 => ?_)
  subst e78
  refine g_aload_n h dX5_calls_81 rfl ?_
  refine g_iconst (v := nI 3) h dX5_calls_82 (by decide) ?_
  refine g_callSR h (m5_above_3 _ _ _ ) (fun _ q => nomatch q) (lw_S q1781 q1782 q95 q1783) gy_X5_above ⟨Nat.le_of_ble_eq_true rfl, Nat.le_of_ble_eq_true rfl⟩ ⟨Nat.le_of_ble_eq_true rfl, Nat.le_of_ble_eq_true rfl⟩ rfl rfl (Nat.le_of_ble_eq_true rfl) dX5_calls_83 ?_
  refine g_iload_n h dX5_calls_86 rfl ?_
  refine g_iconst (v := nI 2) h dX5_calls_87 (by decide) ?_
  refine g_toI (y := 2) rfl ?_
  refine g_idiv h dX5_calls_88 (by decide) ?_
  refine g_callVW0 h hE (m5_calls_1 _ _ _ o a s S p (ranT 40 t) b (x / 2) (by repeat (first | assumption | apply ranT_le | apply cN_le | apply bu_le | apply bu0_le | apply gi_le | apply mi0_le | apply mi1_le)) (by first | assumption | omega)) 0 rfl rfl (lw_V q1773 q1775 qs82 q95 q1776) gy_X5_calls ⟨Nat.le_of_ble_eq_true rfl, Nat.le_of_ble_eq_true rfl⟩ ⟨Nat.le_of_ble_eq_true rfl, Nat.le_of_ble_eq_true rfl⟩ rfl rfl (Nat.le_of_ble_eq_true rfl) dX5_calls_89 (st' := [.int ((cN 1 p (x / 2) (ranT 40 t)).1)]) rfl (fun _ e89 => ?_)
  subst e89
  exact g_iretWv h hE dX5_calls_92 (by first | (simp [cN, cN0, cN1]; done) | (simp_all [cN, cN0, cN1]; done)) (trW_eq (by first | (simp [cN, cN0, cN1]; done) | (simp_all [cN, cN0, cN1]; done)) rfl)
set_option maxHeartbeats 4000000 in
set_option maxRecDepth 100000 in
theorem m5_calls_4 (l : Launch) (D : va_G) (T : Nat → ClassId) (o : Nat) (a : Nat → Nat) (s : Nat → Int32) (S : Nat → Nat → Int32) (p : Nat) (t : TR) (b : Bool) (x : Int32) (h0 : t.2 ≤ 30) (h1 : p < 6) : MetW l D T yX5_calls cX5_calls 3 (some .int) 2 43 0 0 [.ref o, .int (nI 4), .int x] (mW T o a s (trS S p t b)) (fun r_ w_ => r_ = some (.int ((cN 4 p x t).1)) ∧ (w_ = mW T o a s (trS S p ((cN 4 p x t).2) b))) := by
  refine metW (own := RX5) rfl (by decide) rfl (fun X h hl hDx hTx hnm hE => ?_)
  subst hl; subst hDx; subst hTx
  show G X 0 0 (mW (xT X) o a s (trS S p t b)) 0 [(0, .ref o), (1, .int (nI 4)), (2, .int x)] []
  refine g_iload_n h dX5_calls_0 rfl ?_
  refine g_tableIn h 121 dX5_calls_1 4 (by decide) (by decide) (by decide) rfl (by decide) ?_
  refine g_aload_n h dX5_calls_121 rfl ?_
  refine g_iload_n h dX5_calls_122 rfl ?_
  refine g_callSR h (m5_above_4 _ _ _ ) (fun _ q => nomatch q) (lw_S q1781 q1782 q95 q1783) gy_X5_above ⟨Nat.le_of_ble_eq_true rfl, Nat.le_of_ble_eq_true rfl⟩ ⟨Nat.le_of_ble_eq_true rfl, Nat.le_of_ble_eq_true rfl⟩ rfl rfl (Nat.le_of_ble_eq_true rfl) dX5_calls_123 ?_
  refine g_iload_n h dX5_calls_126 rfl ?_
  refine g_callVW0 h hE (m5_calls_0 _ _ _ o a s S p t b x (by repeat (first | assumption | apply ranT_le | apply cN_le | apply bu_le | apply bu0_le | apply gi_le | apply mi0_le | apply mi1_le)) (by first | assumption | omega)) 0 rfl rfl (lw_V q1773 q1775 qs82 q95 q1776) gy_X5_calls ⟨Nat.le_of_ble_eq_true rfl, Nat.le_of_ble_eq_true rfl⟩ ⟨Nat.le_of_ble_eq_true rfl, Nat.le_of_ble_eq_true rfl⟩ rfl rfl (Nat.le_of_ble_eq_true rfl) dX5_calls_127 (st' := [.int ((cN 0 p x t).1)]) rfl (fun _ e127 => ?_)
  subst e127
  exact g_iretWv h hE dX5_calls_130 (by first | (simp [cN, cN0, cN1]; done) | (simp_all [cN, cN0, cN1]; done)) (trW_eq (by first | (simp [cN, cN0, cN1]; done) | (simp_all [cN, cN0, cN1]; done)) rfl)
set_option maxHeartbeats 4000000 in
set_option maxRecDepth 100000 in
theorem m5_calls_5 (l : Launch) (D : va_G) (T : Nat → ClassId) (o : Nat) (a : Nat → Nat) (s : Nat → Int32) (S : Nat → Nat → Int32) (p : Nat) (t : TR) (b : Bool) (x : Int32) (h0 : t.2 ≤ 30) (h1 : p < 6) : MetW l D T yX5_calls cX5_calls 3 (some .int) 1 21 0 0 [.ref o, .int (nI 5), .int x] (mW T o a s (trS S p t b)) (fun r_ w_ => r_ = some (.int ((cN 5 p x t).1)) ∧ (w_ = mW T o a s (trS S p ((cN 5 p x t).2) b))) := by
  refine metW (own := RX5) rfl (by decide) rfl (fun X h hl hDx hTx hnm hE => ?_)
  subst hl; subst hDx; subst hTx
  show G X 0 0 (mW (xT X) o a s (trS S p t b)) 0 [(0, .ref o), (1, .int (nI 5)), (2, .int x)] []
  refine g_iload_n h dX5_calls_0 rfl ?_
  refine g_tableIn h 112 dX5_calls_1 5 (by decide) (by decide) (by decide) rfl (by decide) ?_
  refine g_aload_n h dX5_calls_112 rfl ?_
  refine g_bipush (v := nI 70) h dX5_calls_113 (by decide) ?_
  refine g_callVW0 h hE (m5_begins _ _ _ o a s S p t b 70 (by repeat (first | assumption | apply ranT_le | apply cN_le | apply bu_le | apply bu0_le | apply gi_le | apply mi0_le | apply mi1_le))) 0 rfl rfl (lw_V q1777 q1779 qs83 q95 q1780) gy_X5_begins ⟨Nat.le_of_ble_eq_true rfl, Nat.le_of_ble_eq_true rfl⟩ ⟨Nat.le_of_ble_eq_true rfl, Nat.le_of_ble_eq_true rfl⟩ rfl rfl (Nat.le_of_ble_eq_true rfl) dX5_calls_115 (st' := []) rfl (fun _ e115 => ?_)
  subst e115
  refine g_bipush (v := nI 8) h dX5_calls_118 (by decide) ?_
  refine g_toI (y := 8) rfl ?_
  exact g_iretWv h hE dX5_calls_120 (by first | (simp [cN, cN0, cN1]; done) | (simp_all [cN, cN0, cN1]; done)) (trW_eq (by first | (simp [cN, cN0, cN1]; done) | (simp_all [cN, cN0, cN1]; done)) rfl)
set_option maxHeartbeats 4000000 in
set_option maxRecDepth 100000 in
theorem m5_calls_6 (l : Launch) (D : va_G) (T : Nat → ClassId) (o : Nat) (a : Nat → Nat) (s : Nat → Int32) (S : Nat → Nat → Int32) (p : Nat) (t : TR) (b : Bool) (x : Int32) (h0 : t.2 ≤ 30) (h1 : p < 6) : MetW l D T yX5_calls cX5_calls 3 (some .int) 3 65 0 0 [.ref o, .int (nI 6), .int x] (mW T o a s (trS S p t b)) (fun r_ w_ => r_ = some (.int ((cN 6 p x t).1)) ∧ (w_ = mW T o a s (trS S p ((cN 6 p x t).2) b))) := by
  refine metW (own := RX5) rfl (by decide) rfl (fun X h hl hDx hTx hnm hE => ?_)
  subst hl; subst hDx; subst hTx
  show G X 0 0 (mW (xT X) o a s (trS S p t b)) 0 [(0, .ref o), (1, .int (nI 6)), (2, .int x)] []
  refine g_iload_n h dX5_calls_0 rfl ?_
  refine g_tableIn h 93 dX5_calls_1 6 (by decide) (by decide) (by decide) rfl (by decide) ?_
  refine g_aload_n h dX5_calls_93 rfl ?_
  refine g_bipush (v := nI 60) h dX5_calls_94 (by decide) ?_
  refine g_callVW0 h hE (m5_begins _ _ _ o a s S p t b 60 (by repeat (first | assumption | apply ranT_le | apply cN_le | apply bu_le | apply bu0_le | apply gi_le | apply mi0_le | apply mi1_le))) 0 rfl rfl (lw_V q1777 q1779 qs83 q95 q1780) gy_X5_begins ⟨Nat.le_of_ble_eq_true rfl, Nat.le_of_ble_eq_true rfl⟩ ⟨Nat.le_of_ble_eq_true rfl, Nat.le_of_ble_eq_true rfl⟩ rfl rfl (Nat.le_of_ble_eq_true rfl) dX5_calls_96 (st' := []) rfl (fun _ e96 => ?_)
  subst e96
  refine g_aload_n h dX5_calls_99 rfl ?_
  refine g_bipush (v := nI 6) h dX5_calls_100 (by decide) ?_
  refine g_callSR h (m5_above_6 _ _ _ ) (fun _ q => nomatch q) (lw_S q1781 q1782 q95 q1783) gy_X5_above ⟨Nat.le_of_ble_eq_true rfl, Nat.le_of_ble_eq_true rfl⟩ ⟨Nat.le_of_ble_eq_true rfl, Nat.le_of_ble_eq_true rfl⟩ rfl rfl (Nat.le_of_ble_eq_true rfl) dX5_calls_102 ?_
  refine g_iload_n h dX5_calls_105 rfl ?_
  refine g_callVW0 h hE (m5_calls_1 _ _ _ o a s S p (ranT 60 t) b x (by repeat (first | assumption | apply ranT_le | apply cN_le | apply bu_le | apply bu0_le | apply gi_le | apply mi0_le | apply mi1_le)) (by first | assumption | omega)) 0 rfl rfl (lw_V q1773 q1775 qs82 q95 q1776) gy_X5_calls ⟨Nat.le_of_ble_eq_true rfl, Nat.le_of_ble_eq_true rfl⟩ ⟨Nat.le_of_ble_eq_true rfl, Nat.le_of_ble_eq_true rfl⟩ rfl rfl (Nat.le_of_ble_eq_true rfl) dX5_calls_106 (st' := [.int ((cN 1 p x (ranT 60 t)).1)]) rfl (fun _ e106 => ?_)
  subst e106
  refine g_iconst (v := nI 3) h dX5_calls_109 (by decide) ?_
  refine g_toI (y := 3) rfl ?_
  refine g_imul h dX5_calls_110 ?_
  exact g_iretWv h hE dX5_calls_111 (by first | (simp [cN, cN0, cN1]; done) | (simp_all [cN, cN0, cN1]; done)) (trW_eq (by first | (simp [cN, cN0, cN1]; done) | (simp_all [cN, cN0, cN1]; done)) rfl)
set_option maxHeartbeats 4000000 in
set_option maxRecDepth 100000 in
theorem m5_calls_0u (l : Launch) (D : va_G) (T : Nat → ClassId) (o : Nat) (a : Nat → Nat) (s : Nat → Int32) (S : Nat → Nat → Int32) (p : Nat) (t : TR) (b : Bool) (x : Int32) (h0 : t.2 ≤ 30) (h1 : p < 6) : MetW l D T yX5_calls cX5_calls 3 (some .int) 3 65 0 0 [.ref o, .int (nI 0), .int x] (mW T o a s (trS S p t b)) (fun r_ w_ => r_ = some (.int ((cN 0 p x t).1)) ∧ (w_ = mW T o a s (trS S p ((cN 0 p x t).2) b))) := by
  refine metW (own := RX5) rfl (by decide) rfl (fun X h hl hDx hTx hnm hE => ?_)
  subst hl; subst hDx; subst hTx
  show G X 0 0 (mW (xT X) o a s (trS S p t b)) 0 [(0, .ref o), (1, .int (nI 0)), (2, .int x)] []
  refine g_iload_n h dX5_calls_0 rfl ?_
  refine g_tableIn h 44 dX5_calls_1 0 (by decide) (by decide) (by decide) rfl (by decide) ?_
  refine g_aload_n h dX5_calls_44 rfl ?_
  refine g_bipush (v := nI 10) h dX5_calls_45 (by decide) ?_
  refine g_callVW0 h hE (m5_begins _ _ _ o a s S p t b 10 (by repeat (first | assumption | apply ranT_le | apply cN_le | apply bu_le | apply bu0_le | apply gi_le | apply mi0_le | apply mi1_le))) 0 rfl rfl (lw_V q1777 q1779 qs83 q95 q1780) gy_X5_begins ⟨Nat.le_of_ble_eq_true rfl, Nat.le_of_ble_eq_true rfl⟩ ⟨Nat.le_of_ble_eq_true rfl, Nat.le_of_ble_eq_true rfl⟩ rfl rfl (Nat.le_of_ble_eq_true rfl) dX5_calls_47 (st' := []) rfl (fun _ e47 => ?_)
  subst e47
  refine g_iload_n h dX5_calls_50 rfl ?_
  refine g_aload_n h dX5_calls_51 rfl ?_
  refine g_get h in_X5 0 rfl rfl 14 rfl q1388 rfl rfl dX5_calls_52 ?_
  show G X 0 0 (mW (xT X) o a s (trS S p (ranT 10 t) b)) 55 [(0, .ref o), (1, .int (nI 0)), (2, .int x)] [.int (nI p), .int x]
  refine g_iadd h dX5_calls_55 ?_
  exact g_iretWv h hE dX5_calls_56 (by first | (simp [cN, cN0, cN1]; done) | (simp_all [cN, cN0, cN1]; done)) (trW_eq (by first | (simp [cN, cN0, cN1]; done) | (simp_all [cN, cN0, cN1]; done)) rfl)
set_option maxHeartbeats 4000000 in
set_option maxRecDepth 100000 in
theorem m5_calls_1u (l : Launch) (D : va_G) (T : Nat → ClassId) (o : Nat) (a : Nat → Nat) (s : Nat → Int32) (S : Nat → Nat → Int32) (p : Nat) (t : TR) (b : Bool) (x : Int32) (h0 : t.2 ≤ 30) (h1 : p < 6) : MetW l D T yX5_calls cX5_calls 3 (some .int) 3 65 0 0 [.ref o, .int (nI 1), .int x] (mW T o a s (trS S p t b)) (fun r_ w_ => r_ = some (.int ((cN 1 p x t).1)) ∧ (w_ = mW T o a s (trS S p ((cN 1 p x t).2) b))) := by
  refine metW (own := RX5) rfl (by decide) rfl (fun X h hl hDx hTx hnm hE => ?_)
  subst hl; subst hDx; subst hTx
  show G X 0 0 (mW (xT X) o a s (trS S p t b)) 0 [(0, .ref o), (1, .int (nI 1)), (2, .int x)] []
  refine g_iload_n h dX5_calls_0 rfl ?_
  refine g_tableIn h 57 dX5_calls_1 1 (by decide) (by decide) (by decide) rfl (by decide) ?_
  refine g_aload_n h dX5_calls_57 rfl ?_
  refine g_bipush (v := nI 20) h dX5_calls_58 (by decide) ?_
  refine g_callVW0 h hE (m5_begins _ _ _ o a s S p t b 20 (by repeat (first | assumption | apply ranT_le | apply cN_le | apply bu_le | apply bu0_le | apply gi_le | apply mi0_le | apply mi1_le))) 0 rfl rfl (lw_V q1777 q1779 qs83 q95 q1780) gy_X5_begins ⟨Nat.le_of_ble_eq_true rfl, Nat.le_of_ble_eq_true rfl⟩ ⟨Nat.le_of_ble_eq_true rfl, Nat.le_of_ble_eq_true rfl⟩ rfl rfl (Nat.le_of_ble_eq_true rfl) dX5_calls_60 (st' := []) rfl (fun _ e60 => ?_)
  subst e60
  refine g_aload_n h dX5_calls_63 rfl ?_
  refine g_iconst (v := nI 1) h dX5_calls_64 (by decide) ?_
  refine g_callSR h (m5_above_1 _ _ _ ) (fun _ q => nomatch q) (lw_S q1781 q1782 q95 q1783) gy_X5_above ⟨Nat.le_of_ble_eq_true rfl, Nat.le_of_ble_eq_true rfl⟩ ⟨Nat.le_of_ble_eq_true rfl, Nat.le_of_ble_eq_true rfl⟩ rfl rfl (Nat.le_of_ble_eq_true rfl) dX5_calls_65 ?_
  refine g_iload_n h dX5_calls_68 rfl ?_
  refine g_callVW0 h hE (m5_calls_0 _ _ _ o a s S p (ranT 20 t) b x (by repeat (first | assumption | apply ranT_le | apply cN_le | apply bu_le | apply bu0_le | apply gi_le | apply mi0_le | apply mi1_le)) (by first | assumption | omega)) 0 rfl rfl (lw_V q1773 q1775 qs82 q95 q1776) gy_X5_calls ⟨Nat.le_of_ble_eq_true rfl, Nat.le_of_ble_eq_true rfl⟩ ⟨Nat.le_of_ble_eq_true rfl, Nat.le_of_ble_eq_true rfl⟩ rfl rfl (Nat.le_of_ble_eq_true rfl) dX5_calls_69 (st' := [.int ((cN 0 p x (ranT 20 t)).1)]) rfl (fun _ e69 => ?_)
  subst e69
  refine g_iconst (v := nI 5) h dX5_calls_72 (by decide) ?_
  refine g_toI (y := 5) rfl ?_
  refine g_iadd h dX5_calls_73 ?_
  exact g_iretWv h hE dX5_calls_74 (by first | (simp [cN, cN0, cN1]; done) | (simp_all [cN, cN0, cN1]; done)) (trW_eq (by first | (simp [cN, cN0, cN1]; done) | (simp_all [cN, cN0, cN1]; done)) rfl)
set_option maxHeartbeats 4000000 in
set_option maxRecDepth 100000 in
theorem m5_calls_2u (l : Launch) (D : va_G) (T : Nat → ClassId) (o : Nat) (a : Nat → Nat) (s : Nat → Int32) (S : Nat → Nat → Int32) (p : Nat) (t : TR) (b : Bool) (x : Int32) (h0 : t.2 ≤ 30) (h1 : p < 6) : MetW l D T yX5_calls cX5_calls 3 (some .int) 3 65 0 0 [.ref o, .int (nI 2), .int x] (mW T o a s (trS S p t b)) (fun r_ w_ => r_ = some (.int ((cN 2 p x t).1)) ∧ (w_ = mW T o a s (trS S p ((cN 2 p x t).2) b))) := by
  refine metW (own := RX5) rfl (by decide) rfl (fun X h hl hDx hTx hnm hE => ?_)
  subst hl; subst hDx; subst hTx
  show G X 0 0 (mW (xT X) o a s (trS S p t b)) 0 [(0, .ref o), (1, .int (nI 2)), (2, .int x)] []
  refine g_iload_n h dX5_calls_0 rfl ?_
  refine g_tableIn h 121 dX5_calls_1 2 (by decide) (by decide) (by decide) rfl (by decide) ?_
  refine g_aload_n h dX5_calls_121 rfl ?_
  refine g_iload_n h dX5_calls_122 rfl ?_
  refine g_callSR h (m5_above_2 _ _ _ ) (fun _ q => nomatch q) (lw_S q1781 q1782 q95 q1783) gy_X5_above ⟨Nat.le_of_ble_eq_true rfl, Nat.le_of_ble_eq_true rfl⟩ ⟨Nat.le_of_ble_eq_true rfl, Nat.le_of_ble_eq_true rfl⟩ rfl rfl (Nat.le_of_ble_eq_true rfl) dX5_calls_123 ?_
  refine g_iload_n h dX5_calls_126 rfl ?_
  refine g_callVW0 h hE (m5_calls_1 _ _ _ o a s S p t b x (by repeat (first | assumption | apply ranT_le | apply cN_le | apply bu_le | apply bu0_le | apply gi_le | apply mi0_le | apply mi1_le)) (by first | assumption | omega)) 0 rfl rfl (lw_V q1773 q1775 qs82 q95 q1776) gy_X5_calls ⟨Nat.le_of_ble_eq_true rfl, Nat.le_of_ble_eq_true rfl⟩ ⟨Nat.le_of_ble_eq_true rfl, Nat.le_of_ble_eq_true rfl⟩ rfl rfl (Nat.le_of_ble_eq_true rfl) dX5_calls_127 (st' := [.int ((cN 1 p x t).1)]) rfl (fun _ e127 => ?_)
  subst e127
  exact g_iretWv h hE dX5_calls_130 (by first | (simp [cN, cN0, cN1]; done) | (simp_all [cN, cN0, cN1]; done)) (trW_eq (by first | (simp [cN, cN0, cN1]; done) | (simp_all [cN, cN0, cN1]; done)) rfl)
set_option maxHeartbeats 4000000 in
set_option maxRecDepth 100000 in
theorem m5_calls_3u (l : Launch) (D : va_G) (T : Nat → ClassId) (o : Nat) (a : Nat → Nat) (s : Nat → Int32) (S : Nat → Nat → Int32) (p : Nat) (t : TR) (b : Bool) (x : Int32) (h0 : t.2 ≤ 30) (h1 : p < 6) : MetW l D T yX5_calls cX5_calls 3 (some .int) 3 65 0 0 [.ref o, .int (nI 3), .int x] (mW T o a s (trS S p t b)) (fun r_ w_ => r_ = some (.int ((cN 3 p x t).1)) ∧ (w_ = mW T o a s (trS S p ((cN 3 p x t).2) b))) := by
  refine metW (own := RX5) rfl (by decide) rfl (fun X h hl hDx hTx hnm hE => ?_)
  subst hl; subst hDx; subst hTx
  show G X 0 0 (mW (xT X) o a s (trS S p t b)) 0 [(0, .ref o), (1, .int (nI 3)), (2, .int x)] []
  refine g_iload_n h dX5_calls_0 rfl ?_
  refine g_tableIn h 75 dX5_calls_1 3 (by decide) (by decide) (by decide) rfl (by decide) ?_
  refine g_aload_n h dX5_calls_75 rfl ?_
  refine g_bipush (v := nI 40) h dX5_calls_76 (by decide) ?_
  refine g_callVW0 h hE (m5_begins _ _ _ o a s S p t b 40 (by repeat (first | assumption | apply ranT_le | apply cN_le | apply bu_le | apply bu0_le | apply gi_le | apply mi0_le | apply mi1_le))) 0 rfl rfl (lw_V q1777 q1779 qs83 q95 q1780) gy_X5_begins ⟨Nat.le_of_ble_eq_true rfl, Nat.le_of_ble_eq_true rfl⟩ ⟨Nat.le_of_ble_eq_true rfl, Nat.le_of_ble_eq_true rfl⟩ rfl rfl (Nat.le_of_ble_eq_true rfl) dX5_calls_78 (st' := []) rfl (fun _ e78 => ?_)
  subst e78
  refine g_aload_n h dX5_calls_81 rfl ?_
  refine g_iconst (v := nI 3) h dX5_calls_82 (by decide) ?_
  refine g_callSR h (m5_above_3 _ _ _ ) (fun _ q => nomatch q) (lw_S q1781 q1782 q95 q1783) gy_X5_above ⟨Nat.le_of_ble_eq_true rfl, Nat.le_of_ble_eq_true rfl⟩ ⟨Nat.le_of_ble_eq_true rfl, Nat.le_of_ble_eq_true rfl⟩ rfl rfl (Nat.le_of_ble_eq_true rfl) dX5_calls_83 ?_
  refine g_iload_n h dX5_calls_86 rfl ?_
  refine g_iconst (v := nI 2) h dX5_calls_87 (by decide) ?_
  refine g_toI (y := 2) rfl ?_
  refine g_idiv h dX5_calls_88 (by decide) ?_
  refine g_callVW0 h hE (m5_calls_1 _ _ _ o a s S p (ranT 40 t) b (x / 2) (by repeat (first | assumption | apply ranT_le | apply cN_le | apply bu_le | apply bu0_le | apply gi_le | apply mi0_le | apply mi1_le)) (by first | assumption | omega)) 0 rfl rfl (lw_V q1773 q1775 qs82 q95 q1776) gy_X5_calls ⟨Nat.le_of_ble_eq_true rfl, Nat.le_of_ble_eq_true rfl⟩ ⟨Nat.le_of_ble_eq_true rfl, Nat.le_of_ble_eq_true rfl⟩ rfl rfl (Nat.le_of_ble_eq_true rfl) dX5_calls_89 (st' := [.int ((cN 1 p (x / 2) (ranT 40 t)).1)]) rfl (fun _ e89 => ?_)
  subst e89
  exact g_iretWv h hE dX5_calls_92 (by first | (simp [cN, cN0, cN1]; done) | (simp_all [cN, cN0, cN1]; done)) (trW_eq (by first | (simp [cN, cN0, cN1]; done) | (simp_all [cN, cN0, cN1]; done)) rfl)
set_option maxHeartbeats 4000000 in
set_option maxRecDepth 100000 in
theorem m5_calls_4u (l : Launch) (D : va_G) (T : Nat → ClassId) (o : Nat) (a : Nat → Nat) (s : Nat → Int32) (S : Nat → Nat → Int32) (p : Nat) (t : TR) (b : Bool) (x : Int32) (h0 : t.2 ≤ 30) (h1 : p < 6) : MetW l D T yX5_calls cX5_calls 3 (some .int) 3 65 0 0 [.ref o, .int (nI 4), .int x] (mW T o a s (trS S p t b)) (fun r_ w_ => r_ = some (.int ((cN 4 p x t).1)) ∧ (w_ = mW T o a s (trS S p ((cN 4 p x t).2) b))) := by
  refine metW (own := RX5) rfl (by decide) rfl (fun X h hl hDx hTx hnm hE => ?_)
  subst hl; subst hDx; subst hTx
  show G X 0 0 (mW (xT X) o a s (trS S p t b)) 0 [(0, .ref o), (1, .int (nI 4)), (2, .int x)] []
  refine g_iload_n h dX5_calls_0 rfl ?_
  refine g_tableIn h 121 dX5_calls_1 4 (by decide) (by decide) (by decide) rfl (by decide) ?_
  refine g_aload_n h dX5_calls_121 rfl ?_
  refine g_iload_n h dX5_calls_122 rfl ?_
  refine g_callSR h (m5_above_4 _ _ _ ) (fun _ q => nomatch q) (lw_S q1781 q1782 q95 q1783) gy_X5_above ⟨Nat.le_of_ble_eq_true rfl, Nat.le_of_ble_eq_true rfl⟩ ⟨Nat.le_of_ble_eq_true rfl, Nat.le_of_ble_eq_true rfl⟩ rfl rfl (Nat.le_of_ble_eq_true rfl) dX5_calls_123 ?_
  refine g_iload_n h dX5_calls_126 rfl ?_
  refine g_callVW0 h hE (m5_calls_0 _ _ _ o a s S p t b x (by repeat (first | assumption | apply ranT_le | apply cN_le | apply bu_le | apply bu0_le | apply gi_le | apply mi0_le | apply mi1_le)) (by first | assumption | omega)) 0 rfl rfl (lw_V q1773 q1775 qs82 q95 q1776) gy_X5_calls ⟨Nat.le_of_ble_eq_true rfl, Nat.le_of_ble_eq_true rfl⟩ ⟨Nat.le_of_ble_eq_true rfl, Nat.le_of_ble_eq_true rfl⟩ rfl rfl (Nat.le_of_ble_eq_true rfl) dX5_calls_127 (st' := [.int ((cN 0 p x t).1)]) rfl (fun _ e127 => ?_)
  subst e127
  exact g_iretWv h hE dX5_calls_130 (by first | (simp [cN, cN0, cN1]; done) | (simp_all [cN, cN0, cN1]; done)) (trW_eq (by first | (simp [cN, cN0, cN1]; done) | (simp_all [cN, cN0, cN1]; done)) rfl)
set_option maxHeartbeats 4000000 in
set_option maxRecDepth 100000 in
theorem m5_calls_5u (l : Launch) (D : va_G) (T : Nat → ClassId) (o : Nat) (a : Nat → Nat) (s : Nat → Int32) (S : Nat → Nat → Int32) (p : Nat) (t : TR) (b : Bool) (x : Int32) (h0 : t.2 ≤ 30) (h1 : p < 6) : MetW l D T yX5_calls cX5_calls 3 (some .int) 3 65 0 0 [.ref o, .int (nI 5), .int x] (mW T o a s (trS S p t b)) (fun r_ w_ => r_ = some (.int ((cN 5 p x t).1)) ∧ (w_ = mW T o a s (trS S p ((cN 5 p x t).2) b))) := by
  refine metW (own := RX5) rfl (by decide) rfl (fun X h hl hDx hTx hnm hE => ?_)
  subst hl; subst hDx; subst hTx
  show G X 0 0 (mW (xT X) o a s (trS S p t b)) 0 [(0, .ref o), (1, .int (nI 5)), (2, .int x)] []
  refine g_iload_n h dX5_calls_0 rfl ?_
  refine g_tableIn h 112 dX5_calls_1 5 (by decide) (by decide) (by decide) rfl (by decide) ?_
  refine g_aload_n h dX5_calls_112 rfl ?_
  refine g_bipush (v := nI 70) h dX5_calls_113 (by decide) ?_
  refine g_callVW0 h hE (m5_begins _ _ _ o a s S p t b 70 (by repeat (first | assumption | apply ranT_le | apply cN_le | apply bu_le | apply bu0_le | apply gi_le | apply mi0_le | apply mi1_le))) 0 rfl rfl (lw_V q1777 q1779 qs83 q95 q1780) gy_X5_begins ⟨Nat.le_of_ble_eq_true rfl, Nat.le_of_ble_eq_true rfl⟩ ⟨Nat.le_of_ble_eq_true rfl, Nat.le_of_ble_eq_true rfl⟩ rfl rfl (Nat.le_of_ble_eq_true rfl) dX5_calls_115 (st' := []) rfl (fun _ e115 => ?_)
  subst e115
  refine g_bipush (v := nI 8) h dX5_calls_118 (by decide) ?_
  refine g_toI (y := 8) rfl ?_
  exact g_iretWv h hE dX5_calls_120 (by first | (simp [cN, cN0, cN1]; done) | (simp_all [cN, cN0, cN1]; done)) (trW_eq (by first | (simp [cN, cN0, cN1]; done) | (simp_all [cN, cN0, cN1]; done)) rfl)
set_option maxHeartbeats 4000000 in
set_option maxRecDepth 100000 in
theorem m5_calls_6u (l : Launch) (D : va_G) (T : Nat → ClassId) (o : Nat) (a : Nat → Nat) (s : Nat → Int32) (S : Nat → Nat → Int32) (p : Nat) (t : TR) (b : Bool) (x : Int32) (h0 : t.2 ≤ 30) (h1 : p < 6) : MetW l D T yX5_calls cX5_calls 3 (some .int) 3 65 0 0 [.ref o, .int (nI 6), .int x] (mW T o a s (trS S p t b)) (fun r_ w_ => r_ = some (.int ((cN 6 p x t).1)) ∧ (w_ = mW T o a s (trS S p ((cN 6 p x t).2) b))) := by
  refine metW (own := RX5) rfl (by decide) rfl (fun X h hl hDx hTx hnm hE => ?_)
  subst hl; subst hDx; subst hTx
  show G X 0 0 (mW (xT X) o a s (trS S p t b)) 0 [(0, .ref o), (1, .int (nI 6)), (2, .int x)] []
  refine g_iload_n h dX5_calls_0 rfl ?_
  refine g_tableIn h 93 dX5_calls_1 6 (by decide) (by decide) (by decide) rfl (by decide) ?_
  refine g_aload_n h dX5_calls_93 rfl ?_
  refine g_bipush (v := nI 60) h dX5_calls_94 (by decide) ?_
  refine g_callVW0 h hE (m5_begins _ _ _ o a s S p t b 60 (by repeat (first | assumption | apply ranT_le | apply cN_le | apply bu_le | apply bu0_le | apply gi_le | apply mi0_le | apply mi1_le))) 0 rfl rfl (lw_V q1777 q1779 qs83 q95 q1780) gy_X5_begins ⟨Nat.le_of_ble_eq_true rfl, Nat.le_of_ble_eq_true rfl⟩ ⟨Nat.le_of_ble_eq_true rfl, Nat.le_of_ble_eq_true rfl⟩ rfl rfl (Nat.le_of_ble_eq_true rfl) dX5_calls_96 (st' := []) rfl (fun _ e96 => ?_)
  subst e96
  refine g_aload_n h dX5_calls_99 rfl ?_
  refine g_bipush (v := nI 6) h dX5_calls_100 (by decide) ?_
  refine g_callSR h (m5_above_6 _ _ _ ) (fun _ q => nomatch q) (lw_S q1781 q1782 q95 q1783) gy_X5_above ⟨Nat.le_of_ble_eq_true rfl, Nat.le_of_ble_eq_true rfl⟩ ⟨Nat.le_of_ble_eq_true rfl, Nat.le_of_ble_eq_true rfl⟩ rfl rfl (Nat.le_of_ble_eq_true rfl) dX5_calls_102 ?_
  refine g_iload_n h dX5_calls_105 rfl ?_
  refine g_callVW0 h hE (m5_calls_1 _ _ _ o a s S p (ranT 60 t) b x (by repeat (first | assumption | apply ranT_le | apply cN_le | apply bu_le | apply bu0_le | apply gi_le | apply mi0_le | apply mi1_le)) (by first | assumption | omega)) 0 rfl rfl (lw_V q1773 q1775 qs82 q95 q1776) gy_X5_calls ⟨Nat.le_of_ble_eq_true rfl, Nat.le_of_ble_eq_true rfl⟩ ⟨Nat.le_of_ble_eq_true rfl, Nat.le_of_ble_eq_true rfl⟩ rfl rfl (Nat.le_of_ble_eq_true rfl) dX5_calls_106 (st' := [.int ((cN 1 p x (ranT 60 t)).1)]) rfl (fun _ e106 => ?_)
  subst e106
  refine g_iconst (v := nI 3) h dX5_calls_109 (by decide) ?_
  refine g_toI (y := 3) rfl ?_
  refine g_imul h dX5_calls_110 ?_
  exact g_iretWv h hE dX5_calls_111 (by first | (simp [cN, cN0, cN1]; done) | (simp_all [cN, cN0, cN1]; done)) (trW_eq (by first | (simp [cN, cN0, cN1]; done) | (simp_all [cN, cN0, cN1]; done)) rfl)
set_option maxRecDepth 100000 in
theorem m5_calls_g (l : Launch) (D : va_G) (T : Nat → ClassId) (o : Nat) (a : Nat → Nat) (s : Nat → Int32) (S : Nat → Nat → Int32) (p : Nat) (t : TR) (b : Bool) (x : Int32) (L : Nat) (h0 : t.2 ≤ 30) (h1 : p < 6) (h2 : L ≤ 6) : MetW l D T yX5_calls cX5_calls 3 (some .int) 3 65 0 0 [.ref o, .int (nI L), .int x] (mW T o a s (trS S p t b)) (fun r_ w_ => r_ = some (.int ((cN L p x t).1)) ∧ (w_ = mW T o a s (trS S p ((cN L p x t).2) b))) := by
  rcases (show L = 0 ∨ L = 1 ∨ L = 2 ∨ L = 3 ∨ L = 4 ∨ L = 5 ∨ L = 6 by omega) with rfl | rfl | rfl | rfl | rfl | rfl | rfl
  · exact m5_calls_0u l D T o a s S p t b x  h0 h1
  · exact m5_calls_1u l D T o a s S p t b x  h0 h1
  · exact m5_calls_2u l D T o a s S p t b x  h0 h1
  · exact m5_calls_3u l D T o a s S p t b x  h0 h1
  · exact m5_calls_4u l D T o a s S p t b x  h0 h1
  · exact m5_calls_5u l D T o a s S p t b x  h0 h1
  · exact m5_calls_6u l D T o a s S p t b x  h0 h1
set_option maxHeartbeats 4000000 in
set_option maxRecDepth 100000 in
theorem m5_buys_0 (l : Launch) (D : va_G) (T : Nat → ClassId) (o : Nat) (a : Nat → Nat) (s : Nat → Int32) (S : Nat → Nat → Int32) (p : Nat) (t : TR) (b : Bool) (x : Int32) (K : Nat) (h0 : t.2 ≤ 30) (h1 : p < 6) (h2 : s (20 + 4 * p) = nI K) (h3 : K ≤ 6) : MetW l D T yX5_buys cX5_buys 3 (some .int) 4 87 0 0 [.ref o, .int (nI 0), .int x] (mW T o a s (trS S p t b)) (fun r_ w_ => r_ = some (.int ((bu 0 K p x t).1)) ∧ (w_ = mW T o a s (trS S p ((bu 0 K p x t).2) b))) := by
  refine metW (own := RX5) rfl (by decide) rfl (fun X h hl hDx hTx hnm hE => ?_)
  subst hl; subst hDx; subst hTx
  show G X 0 0 (mW (xT X) o a s (trS S p t b)) 0 [(0, .ref o), (1, .int (nI 0)), (2, .int x)] []
  refine g_iload_n h dX5_buys_0 rfl ?_
  refine g_lookup h 36 dX5_buys_1 (by decide) (by rfl) (by decide) ?_
  refine g_aload_n h dX5_buys_36 rfl ?_
  refine g_bipush (v := nI 11) h dX5_buys_37 (by decide) ?_
  refine g_callVW0 h hE (m5_begins _ _ _ o a s S p t b 11 (by repeat (first | assumption | apply ranT_le | apply cN_le | apply bu_le | apply bu0_le | apply gi_le | apply mi0_le | apply mi1_le))) 0 rfl rfl (lw_V q1777 q1779 qs83 q95 q1780) gy_X5_begins ⟨Nat.le_of_ble_eq_true rfl, Nat.le_of_ble_eq_true rfl⟩ ⟨Nat.le_of_ble_eq_true rfl, Nat.le_of_ble_eq_true rfl⟩ rfl rfl (Nat.le_of_ble_eq_true rfl) dX5_buys_39 (st' := []) rfl (fun _ e39 => ?_)
  subst e39
  refine g_aload_n h dX5_buys_42 rfl ?_
  refine g_aload_n h dX5_buys_43 rfl ?_
  refine g_callVR h (m5_kindNow _ _ _ o a s S p (ranT 11 t) b (by first | assumption | omega)) (fun _ q => q) 0 rfl rfl (lw_V q1769 q1771 qs81 q95 q1772) gy_X5_kindNow ⟨Nat.le_of_ble_eq_true rfl, Nat.le_of_ble_eq_true rfl⟩ ⟨Nat.le_of_ble_eq_true rfl, Nat.le_of_ble_eq_true rfl⟩ rfl rfl (Nat.le_of_ble_eq_true rfl) dX5_buys_44 ?_
  refine g_toN (a := K) h2 ?_
  refine g_iload_n h dX5_buys_47 rfl ?_
  refine g_callVW0 h hE (m5_calls_g _ _ _ o a s S p (ranT 11 t) b x K (by repeat (first | assumption | apply ranT_le | apply cN_le | apply bu_le | apply bu0_le | apply gi_le | apply mi0_le | apply mi1_le)) (by first | assumption | omega) (by first | assumption | omega)) 0 rfl rfl (lw_V q1773 q1775 qs82 q95 q1776) gy_X5_calls ⟨Nat.le_of_ble_eq_true rfl, Nat.le_of_ble_eq_true rfl⟩ ⟨Nat.le_of_ble_eq_true rfl, Nat.le_of_ble_eq_true rfl⟩ rfl rfl (Nat.le_of_ble_eq_true rfl) dX5_buys_48 (st' := [.int ((cN K p x (ranT 11 t)).1)]) rfl (fun _ e48 => ?_)
  subst e48
  refine g_iconst (v := nI 2) h dX5_buys_51 (by decide) ?_
  refine g_toI (y := 2) rfl ?_
  refine g_imul h dX5_buys_52 ?_
  exact g_iretWv h hE dX5_buys_53 (by first | (simp [bu, bu0]; done) | (simp_all [bu, bu0]; done)) (trW_eq (by first | (simp [bu, bu0]; done) | (simp_all [bu, bu0]; done)) rfl)
set_option maxHeartbeats 4000000 in
set_option maxRecDepth 100000 in
theorem m5_buys_1 (l : Launch) (D : va_G) (T : Nat → ClassId) (o : Nat) (a : Nat → Nat) (s : Nat → Int32) (S : Nat → Nat → Int32) (p : Nat) (t : TR) (b : Bool) (x : Int32) (K : Nat) (h0 : t.2 ≤ 30) (h1 : p < 6) (h2 : s (20 + 4 * p) = nI K) (h3 : K ≤ 6) : MetW l D T yX5_buys cX5_buys 3 (some .int) 5 109 0 0 [.ref o, .int (nI 1), .int x] (mW T o a s (trS S p t b)) (fun r_ w_ => r_ = some (.int ((bu 1 K p x t).1)) ∧ (w_ = mW T o a s (trS S p ((bu 1 K p x t).2) b))) := by
  refine metW (own := RX5) rfl (by decide) rfl (fun X h hl hDx hTx hnm hE => ?_)
  subst hl; subst hDx; subst hTx
  show G X 0 0 (mW (xT X) o a s (trS S p t b)) 0 [(0, .ref o), (1, .int (nI 1)), (2, .int x)] []
  refine g_iload_n h dX5_buys_0 rfl ?_
  refine g_lookup h 93 dX5_buys_1 (by decide) (by rfl) (by decide) ?_
  refine g_aload_n h dX5_buys_93 rfl ?_
  refine g_iload_n h dX5_buys_94 rfl ?_
  refine g_callSR h (m5_above_1 _ _ _ ) (fun _ q => nomatch q) (lw_S q1781 q1782 q95 q1783) gy_X5_above ⟨Nat.le_of_ble_eq_true rfl, Nat.le_of_ble_eq_true rfl⟩ ⟨Nat.le_of_ble_eq_true rfl, Nat.le_of_ble_eq_true rfl⟩ rfl rfl (Nat.le_of_ble_eq_true rfl) dX5_buys_95 ?_
  refine g_iload_n h dX5_buys_98 rfl ?_
  refine g_callVW0 h hE (m5_buys_0 _ _ _ o a s S p t b x K (by repeat (first | assumption | apply ranT_le | apply cN_le | apply bu_le | apply bu0_le | apply gi_le | apply mi0_le | apply mi1_le)) (by first | assumption | omega) (by assumption) (by assumption)) 0 rfl rfl (lw_V q1784 q1786 qs84 q95 q1787) gy_X5_buys ⟨Nat.le_of_ble_eq_true rfl, Nat.le_of_ble_eq_true rfl⟩ ⟨Nat.le_of_ble_eq_true rfl, Nat.le_of_ble_eq_true rfl⟩ rfl rfl (Nat.le_of_ble_eq_true rfl) dX5_buys_99 (st' := [.int ((bu 0 K p x t).1)]) rfl (fun _ e99 => ?_)
  subst e99
  exact g_iretWv h hE dX5_buys_102 (by first | (simp [bu, bu0]; done) | (simp_all [bu, bu0]; done)) (trW_eq (by first | (simp [bu, bu0]; done) | (simp_all [bu, bu0]; done)) rfl)
set_option maxHeartbeats 4000000 in
set_option maxRecDepth 100000 in
theorem m5_buys_2 (l : Launch) (D : va_G) (T : Nat → ClassId) (o : Nat) (a : Nat → Nat) (s : Nat → Int32) (S : Nat → Nat → Int32) (p : Nat) (t : TR) (b : Bool) (x : Int32) (K : Nat) (h0 : t.2 ≤ 30) (h1 : p < 6) (h2 : s (20 + 4 * p) = nI K) (h3 : K ≤ 6) : MetW l D T yX5_buys cX5_buys 3 (some .int) 6 131 0 0 [.ref o, .int (nI 2), .int x] (mW T o a s (trS S p t b)) (fun r_ w_ => r_ = some (.int ((bu 2 K p x t).1)) ∧ (w_ = mW T o a s (trS S p ((bu 2 K p x t).2) b))) := by
  refine metW (own := RX5) rfl (by decide) rfl (fun X h hl hDx hTx hnm hE => ?_)
  subst hl; subst hDx; subst hTx
  show G X 0 0 (mW (xT X) o a s (trS S p t b)) 0 [(0, .ref o), (1, .int (nI 2)), (2, .int x)] []
  refine g_iload_n h dX5_buys_0 rfl ?_
  refine g_lookup h 54 dX5_buys_1 (by decide) (by rfl) (by decide) ?_
  refine g_aload_n h dX5_buys_54 rfl ?_
  refine g_bipush (v := nI 30) h dX5_buys_55 (by decide) ?_
  refine g_callVW0 h hE (m5_begins _ _ _ o a s S p t b 30 (by repeat (first | assumption | apply ranT_le | apply cN_le | apply bu_le | apply bu0_le | apply gi_le | apply mi0_le | apply mi1_le))) 0 rfl rfl (lw_V q1777 q1779 qs83 q95 q1780) gy_X5_begins ⟨Nat.le_of_ble_eq_true rfl, Nat.le_of_ble_eq_true rfl⟩ ⟨Nat.le_of_ble_eq_true rfl, Nat.le_of_ble_eq_true rfl⟩ rfl rfl (Nat.le_of_ble_eq_true rfl) dX5_buys_57 (st' := []) rfl (fun _ e57 => ?_)
  subst e57
  refine g_iconst (v := nI 0) h dX5_buys_60 (by decide) ?_
  refine g_aload_n h dX5_buys_61 rfl ?_
  refine g_iconst (v := nI 2) h dX5_buys_62 (by decide) ?_
  refine g_callSR h (m5_above_2 _ _ _ ) (fun _ q => nomatch q) (lw_S q1781 q1782 q95 q1783) gy_X5_above ⟨Nat.le_of_ble_eq_true rfl, Nat.le_of_ble_eq_true rfl⟩ ⟨Nat.le_of_ble_eq_true rfl, Nat.le_of_ble_eq_true rfl⟩ rfl rfl (Nat.le_of_ble_eq_true rfl) dX5_buys_63 ?_
  refine g_iload_n h dX5_buys_66 rfl ?_
  refine g_callVW0 h hE (m5_buys_1 _ _ _ o a s S p (ranT 30 t) b x K (by repeat (first | assumption | apply ranT_le | apply cN_le | apply bu_le | apply bu0_le | apply gi_le | apply mi0_le | apply mi1_le)) (by first | assumption | omega) (by assumption) (by assumption)) 0 rfl rfl (lw_V q1784 q1786 qs84 q95 q1787) gy_X5_buys ⟨Nat.le_of_ble_eq_true rfl, Nat.le_of_ble_eq_true rfl⟩ ⟨Nat.le_of_ble_eq_true rfl, Nat.le_of_ble_eq_true rfl⟩ rfl rfl (Nat.le_of_ble_eq_true rfl) dX5_buys_67 (st' := [.int ((bu 1 K p x (ranT 30 t)).1), .int (nI 0)]) rfl (fun _ e67 => ?_)
  subst e67
  refine g_toI2 (y := 0) rfl ?_
  refine g_isub h dX5_buys_70 ?_
  exact g_iretWv h hE dX5_buys_71 (by first | (simp [bu, bu0]; done) | (simp_all [bu, bu0]; done)) (trW_eq (by first | (simp [bu, bu0]; done) | (simp_all [bu, bu0]; done)) rfl)
set_option maxHeartbeats 4000000 in
set_option maxRecDepth 100000 in
theorem m5_buys_3 (l : Launch) (D : va_G) (T : Nat → ClassId) (o : Nat) (a : Nat → Nat) (s : Nat → Int32) (S : Nat → Nat → Int32) (p : Nat) (t : TR) (b : Bool) (x : Int32) (K : Nat) (h0 : t.2 ≤ 30) (h1 : p < 6) (h2 : s (20 + 4 * p) = nI K) (h3 : K ≤ 6) : MetW l D T yX5_buys cX5_buys 3 (some .int) 6 131 0 0 [.ref o, .int (nI 3), .int x] (mW T o a s (trS S p t b)) (fun r_ w_ => r_ = some (.int ((bu 3 K p x t).1)) ∧ (w_ = mW T o a s (trS S p ((bu 3 K p x t).2) b))) := by
  refine metW (own := RX5) rfl (by decide) rfl (fun X h hl hDx hTx hnm hE => ?_)
  subst hl; subst hDx; subst hTx
  show G X 0 0 (mW (xT X) o a s (trS S p t b)) 0 [(0, .ref o), (1, .int (nI 3)), (2, .int x)] []
  refine g_iload_n h dX5_buys_0 rfl ?_
  refine g_lookup h 93 dX5_buys_1 (by decide) (by rfl) (by decide) ?_
  refine g_aload_n h dX5_buys_93 rfl ?_
  refine g_iload_n h dX5_buys_94 rfl ?_
  refine g_callSR h (m5_above_3 _ _ _ ) (fun _ q => nomatch q) (lw_S q1781 q1782 q95 q1783) gy_X5_above ⟨Nat.le_of_ble_eq_true rfl, Nat.le_of_ble_eq_true rfl⟩ ⟨Nat.le_of_ble_eq_true rfl, Nat.le_of_ble_eq_true rfl⟩ rfl rfl (Nat.le_of_ble_eq_true rfl) dX5_buys_95 ?_
  refine g_iload_n h dX5_buys_98 rfl ?_
  refine g_callVW0 h hE (m5_buys_1 _ _ _ o a s S p t b x K (by repeat (first | assumption | apply ranT_le | apply cN_le | apply bu_le | apply bu0_le | apply gi_le | apply mi0_le | apply mi1_le)) (by first | assumption | omega) (by assumption) (by assumption)) 0 rfl rfl (lw_V q1784 q1786 qs84 q95 q1787) gy_X5_buys ⟨Nat.le_of_ble_eq_true rfl, Nat.le_of_ble_eq_true rfl⟩ ⟨Nat.le_of_ble_eq_true rfl, Nat.le_of_ble_eq_true rfl⟩ rfl rfl (Nat.le_of_ble_eq_true rfl) dX5_buys_99 (st' := [.int ((bu 1 K p x t).1)]) rfl (fun _ e99 => ?_)
  subst e99
  exact g_iretWv h hE dX5_buys_102 (by first | (simp [bu, bu0]; done) | (simp_all [bu, bu0]; done)) (trW_eq (by first | (simp [bu, bu0]; done) | (simp_all [bu, bu0]; done)) rfl)
set_option maxHeartbeats 4000000 in
set_option maxRecDepth 100000 in
theorem m5_buys_4 (l : Launch) (D : va_G) (T : Nat → ClassId) (o : Nat) (a : Nat → Nat) (s : Nat → Int32) (S : Nat → Nat → Int32) (p : Nat) (t : TR) (b : Bool) (x : Int32) (K : Nat) (h0 : t.2 ≤ 30) (h1 : p < 6) (h2 : s (20 + 4 * p) = nI K) (h3 : K ≤ 6) : MetW l D T yX5_buys cX5_buys 3 (some .int) 5 109 0 0 [.ref o, .int (nI 4), .int x] (mW T o a s (trS S p t b)) (fun r_ w_ => r_ = some (.int ((bu 4 K p x t).1)) ∧ (w_ = mW T o a s (trS S p ((bu 4 K p x t).2) b))) := by
  refine metW (own := RX5) rfl (by decide) rfl (fun X h hl hDx hTx hnm hE => ?_)
  subst hl; subst hDx; subst hTx
  show G X 0 0 (mW (xT X) o a s (trS S p t b)) 0 [(0, .ref o), (1, .int (nI 4)), (2, .int x)] []
  refine g_iload_n h dX5_buys_0 rfl ?_
  refine g_lookup h 93 dX5_buys_1 (by decide) (by rfl) (by decide) ?_
  refine g_aload_n h dX5_buys_93 rfl ?_
  refine g_iload_n h dX5_buys_94 rfl ?_
  refine g_callSR h (m5_above_4 _ _ _ ) (fun _ q => nomatch q) (lw_S q1781 q1782 q95 q1783) gy_X5_above ⟨Nat.le_of_ble_eq_true rfl, Nat.le_of_ble_eq_true rfl⟩ ⟨Nat.le_of_ble_eq_true rfl, Nat.le_of_ble_eq_true rfl⟩ rfl rfl (Nat.le_of_ble_eq_true rfl) dX5_buys_95 ?_
  refine g_iload_n h dX5_buys_98 rfl ?_
  refine g_callVW0 h hE (m5_buys_0 _ _ _ o a s S p t b x K (by repeat (first | assumption | apply ranT_le | apply cN_le | apply bu_le | apply bu0_le | apply gi_le | apply mi0_le | apply mi1_le)) (by first | assumption | omega) (by assumption) (by assumption)) 0 rfl rfl (lw_V q1784 q1786 qs84 q95 q1787) gy_X5_buys ⟨Nat.le_of_ble_eq_true rfl, Nat.le_of_ble_eq_true rfl⟩ ⟨Nat.le_of_ble_eq_true rfl, Nat.le_of_ble_eq_true rfl⟩ rfl rfl (Nat.le_of_ble_eq_true rfl) dX5_buys_99 (st' := [.int ((bu 0 K p x t).1)]) rfl (fun _ e99 => ?_)
  subst e99
  exact g_iretWv h hE dX5_buys_102 (by first | (simp [bu, bu0]; done) | (simp_all [bu, bu0]; done)) (trW_eq (by first | (simp [bu, bu0]; done) | (simp_all [bu, bu0]; done)) rfl)
set_option maxHeartbeats 4000000 in
set_option maxRecDepth 100000 in
theorem m5_buys_5 (l : Launch) (D : va_G) (T : Nat → ClassId) (o : Nat) (a : Nat → Nat) (s : Nat → Int32) (S : Nat → Nat → Int32) (p : Nat) (t : TR) (b : Bool) (x : Int32) (K : Nat) (h0 : t.2 ≤ 30) (h1 : p < 6) (h2 : s (20 + 4 * p) = nI K) (h3 : K ≤ 6) : MetW l D T yX5_buys cX5_buys 3 (some .int) 5 109 0 0 [.ref o, .int (nI 5), .int x] (mW T o a s (trS S p t b)) (fun r_ w_ => r_ = some (.int ((bu 5 K p x t).1)) ∧ (w_ = mW T o a s (trS S p ((bu 5 K p x t).2) b))) := by
  refine metW (own := RX5) rfl (by decide) rfl (fun X h hl hDx hTx hnm hE => ?_)
  subst hl; subst hDx; subst hTx
  show G X 0 0 (mW (xT X) o a s (trS S p t b)) 0 [(0, .ref o), (1, .int (nI 5)), (2, .int x)] []
  refine g_iload_n h dX5_buys_0 rfl ?_
  refine g_lookup h 72 dX5_buys_1 (by decide) (by rfl) (by decide) ?_
  refine g_aload_n h dX5_buys_72 rfl ?_
  refine g_bipush (v := nI 71) h dX5_buys_73 (by decide) ?_
  refine g_callVW0 h hE (m5_begins _ _ _ o a s S p t b 71 (by repeat (first | assumption | apply ranT_le | apply cN_le | apply bu_le | apply bu0_le | apply gi_le | apply mi0_le | apply mi1_le))) 0 rfl rfl (lw_V q1777 q1779 qs83 q95 q1780) gy_X5_begins ⟨Nat.le_of_ble_eq_true rfl, Nat.le_of_ble_eq_true rfl⟩ ⟨Nat.le_of_ble_eq_true rfl, Nat.le_of_ble_eq_true rfl⟩ rfl rfl (Nat.le_of_ble_eq_true rfl) dX5_buys_75 (st' := []) rfl (fun _ e75 => ?_)
  subst e75
  refine g_aload_n h dX5_buys_78 rfl ?_
  refine g_iconst (v := nI 5) h dX5_buys_79 (by decide) ?_
  refine g_callSR h (m5_above_5 _ _ _ ) (fun _ q => nomatch q) (lw_S q1781 q1782 q95 q1783) gy_X5_above ⟨Nat.le_of_ble_eq_true rfl, Nat.le_of_ble_eq_true rfl⟩ ⟨Nat.le_of_ble_eq_true rfl, Nat.le_of_ble_eq_true rfl⟩ rfl rfl (Nat.le_of_ble_eq_true rfl) dX5_buys_80 ?_
  refine g_iload_n h dX5_buys_83 rfl ?_
  refine g_callVW0 h hE (m5_buys_0 _ _ _ o a s S p (ranT 71 t) b x K (by repeat (first | assumption | apply ranT_le | apply cN_le | apply bu_le | apply bu0_le | apply gi_le | apply mi0_le | apply mi1_le)) (by first | assumption | omega) (by assumption) (by assumption)) 0 rfl rfl (lw_V q1784 q1786 qs84 q95 q1787) gy_X5_buys ⟨Nat.le_of_ble_eq_true rfl, Nat.le_of_ble_eq_true rfl⟩ ⟨Nat.le_of_ble_eq_true rfl, Nat.le_of_ble_eq_true rfl⟩ rfl rfl (Nat.le_of_ble_eq_true rfl) dX5_buys_84 (st' := [.int ((bu 0 K p x (ranT 71 t)).1)]) rfl (fun _ e84 => ?_)
  subst e84
  refine g_aload_n h dX5_buys_87 rfl ?_
  refine g_get h in_X5 0 rfl rfl 14 rfl q1388 rfl rfl dX5_buys_88 ?_
  show G X 0 0 (mW (xT X) o a s (trS S p ((bu 0 K p x (ranT 71 t)).2) b)) 91 [(0, .ref o), (1, .int (nI 5)), (2, .int x)] [.int (nI p), .int ((bu 0 K p x (ranT 71 t)).1)]
  refine g_iadd h dX5_buys_91 ?_
  exact g_iretWv h hE dX5_buys_92 (by first | (simp [bu, bu0]; done) | (simp_all [bu, bu0]; done)) (trW_eq (by first | (simp [bu, bu0]; done) | (simp_all [bu, bu0]; done)) rfl)
set_option maxHeartbeats 4000000 in
set_option maxRecDepth 100000 in
theorem m5_buys_6 (l : Launch) (D : va_G) (T : Nat → ClassId) (o : Nat) (a : Nat → Nat) (s : Nat → Int32) (S : Nat → Nat → Int32) (p : Nat) (t : TR) (b : Bool) (x : Int32) (K : Nat) (h0 : t.2 ≤ 30) (h1 : p < 6) (h2 : s (20 + 4 * p) = nI K) (h3 : K ≤ 6) : MetW l D T yX5_buys cX5_buys 3 (some .int) 6 131 0 0 [.ref o, .int (nI 6), .int x] (mW T o a s (trS S p t b)) (fun r_ w_ => r_ = some (.int ((bu 6 K p x t).1)) ∧ (w_ = mW T o a s (trS S p ((bu 6 K p x t).2) b))) := by
  refine metW (own := RX5) rfl (by decide) rfl (fun X h hl hDx hTx hnm hE => ?_)
  subst hl; subst hDx; subst hTx
  show G X 0 0 (mW (xT X) o a s (trS S p t b)) 0 [(0, .ref o), (1, .int (nI 6)), (2, .int x)] []
  refine g_iload_n h dX5_buys_0 rfl ?_
  refine g_lookup h 93 dX5_buys_1 (by decide) (by rfl) (by decide) ?_
  refine g_aload_n h dX5_buys_93 rfl ?_
  refine g_iload_n h dX5_buys_94 rfl ?_
  refine g_callSR h (m5_above_6 _ _ _ ) (fun _ q => nomatch q) (lw_S q1781 q1782 q95 q1783) gy_X5_above ⟨Nat.le_of_ble_eq_true rfl, Nat.le_of_ble_eq_true rfl⟩ ⟨Nat.le_of_ble_eq_true rfl, Nat.le_of_ble_eq_true rfl⟩ rfl rfl (Nat.le_of_ble_eq_true rfl) dX5_buys_95 ?_
  refine g_iload_n h dX5_buys_98 rfl ?_
  refine g_callVW0 h hE (m5_buys_1 _ _ _ o a s S p t b x K (by repeat (first | assumption | apply ranT_le | apply cN_le | apply bu_le | apply bu0_le | apply gi_le | apply mi0_le | apply mi1_le)) (by first | assumption | omega) (by assumption) (by assumption)) 0 rfl rfl (lw_V q1784 q1786 qs84 q95 q1787) gy_X5_buys ⟨Nat.le_of_ble_eq_true rfl, Nat.le_of_ble_eq_true rfl⟩ ⟨Nat.le_of_ble_eq_true rfl, Nat.le_of_ble_eq_true rfl⟩ rfl rfl (Nat.le_of_ble_eq_true rfl) dX5_buys_99 (st' := [.int ((bu 1 K p x t).1)]) rfl (fun _ e99 => ?_)
  subst e99
  exact g_iretWv h hE dX5_buys_102 (by first | (simp [bu, bu0]; done) | (simp_all [bu, bu0]; done)) (trW_eq (by first | (simp [bu, bu0]; done) | (simp_all [bu, bu0]; done)) rfl)
set_option maxHeartbeats 4000000 in
set_option maxRecDepth 100000 in
theorem m5_buys_0u (l : Launch) (D : va_G) (T : Nat → ClassId) (o : Nat) (a : Nat → Nat) (s : Nat → Int32) (S : Nat → Nat → Int32) (p : Nat) (t : TR) (b : Bool) (x : Int32) (K : Nat) (h0 : t.2 ≤ 30) (h1 : p < 6) (h2 : s (20 + 4 * p) = nI K) (h3 : K ≤ 6) : MetW l D T yX5_buys cX5_buys 3 (some .int) 6 131 0 0 [.ref o, .int (nI 0), .int x] (mW T o a s (trS S p t b)) (fun r_ w_ => r_ = some (.int ((bu 0 K p x t).1)) ∧ (w_ = mW T o a s (trS S p ((bu 0 K p x t).2) b))) := by
  refine metW (own := RX5) rfl (by decide) rfl (fun X h hl hDx hTx hnm hE => ?_)
  subst hl; subst hDx; subst hTx
  show G X 0 0 (mW (xT X) o a s (trS S p t b)) 0 [(0, .ref o), (1, .int (nI 0)), (2, .int x)] []
  refine g_iload_n h dX5_buys_0 rfl ?_
  refine g_lookup h 36 dX5_buys_1 (by decide) (by rfl) (by decide) ?_
  refine g_aload_n h dX5_buys_36 rfl ?_
  refine g_bipush (v := nI 11) h dX5_buys_37 (by decide) ?_
  refine g_callVW0 h hE (m5_begins _ _ _ o a s S p t b 11 (by repeat (first | assumption | apply ranT_le | apply cN_le | apply bu_le | apply bu0_le | apply gi_le | apply mi0_le | apply mi1_le))) 0 rfl rfl (lw_V q1777 q1779 qs83 q95 q1780) gy_X5_begins ⟨Nat.le_of_ble_eq_true rfl, Nat.le_of_ble_eq_true rfl⟩ ⟨Nat.le_of_ble_eq_true rfl, Nat.le_of_ble_eq_true rfl⟩ rfl rfl (Nat.le_of_ble_eq_true rfl) dX5_buys_39 (st' := []) rfl (fun _ e39 => ?_)
  subst e39
  refine g_aload_n h dX5_buys_42 rfl ?_
  refine g_aload_n h dX5_buys_43 rfl ?_
  refine g_callVR h (m5_kindNow _ _ _ o a s S p (ranT 11 t) b (by first | assumption | omega)) (fun _ q => q) 0 rfl rfl (lw_V q1769 q1771 qs81 q95 q1772) gy_X5_kindNow ⟨Nat.le_of_ble_eq_true rfl, Nat.le_of_ble_eq_true rfl⟩ ⟨Nat.le_of_ble_eq_true rfl, Nat.le_of_ble_eq_true rfl⟩ rfl rfl (Nat.le_of_ble_eq_true rfl) dX5_buys_44 ?_
  refine g_toN (a := K) h2 ?_
  refine g_iload_n h dX5_buys_47 rfl ?_
  refine g_callVW0 h hE (m5_calls_g _ _ _ o a s S p (ranT 11 t) b x K (by repeat (first | assumption | apply ranT_le | apply cN_le | apply bu_le | apply bu0_le | apply gi_le | apply mi0_le | apply mi1_le)) (by first | assumption | omega) (by first | assumption | omega)) 0 rfl rfl (lw_V q1773 q1775 qs82 q95 q1776) gy_X5_calls ⟨Nat.le_of_ble_eq_true rfl, Nat.le_of_ble_eq_true rfl⟩ ⟨Nat.le_of_ble_eq_true rfl, Nat.le_of_ble_eq_true rfl⟩ rfl rfl (Nat.le_of_ble_eq_true rfl) dX5_buys_48 (st' := [.int ((cN K p x (ranT 11 t)).1)]) rfl (fun _ e48 => ?_)
  subst e48
  refine g_iconst (v := nI 2) h dX5_buys_51 (by decide) ?_
  refine g_toI (y := 2) rfl ?_
  refine g_imul h dX5_buys_52 ?_
  exact g_iretWv h hE dX5_buys_53 (by first | (simp [bu, bu0]; done) | (simp_all [bu, bu0]; done)) (trW_eq (by first | (simp [bu, bu0]; done) | (simp_all [bu, bu0]; done)) rfl)
set_option maxHeartbeats 4000000 in
set_option maxRecDepth 100000 in
theorem m5_buys_1u (l : Launch) (D : va_G) (T : Nat → ClassId) (o : Nat) (a : Nat → Nat) (s : Nat → Int32) (S : Nat → Nat → Int32) (p : Nat) (t : TR) (b : Bool) (x : Int32) (K : Nat) (h0 : t.2 ≤ 30) (h1 : p < 6) (h2 : s (20 + 4 * p) = nI K) (h3 : K ≤ 6) : MetW l D T yX5_buys cX5_buys 3 (some .int) 6 131 0 0 [.ref o, .int (nI 1), .int x] (mW T o a s (trS S p t b)) (fun r_ w_ => r_ = some (.int ((bu 1 K p x t).1)) ∧ (w_ = mW T o a s (trS S p ((bu 1 K p x t).2) b))) := by
  refine metW (own := RX5) rfl (by decide) rfl (fun X h hl hDx hTx hnm hE => ?_)
  subst hl; subst hDx; subst hTx
  show G X 0 0 (mW (xT X) o a s (trS S p t b)) 0 [(0, .ref o), (1, .int (nI 1)), (2, .int x)] []
  refine g_iload_n h dX5_buys_0 rfl ?_
  refine g_lookup h 93 dX5_buys_1 (by decide) (by rfl) (by decide) ?_
  refine g_aload_n h dX5_buys_93 rfl ?_
  refine g_iload_n h dX5_buys_94 rfl ?_
  refine g_callSR h (m5_above_1 _ _ _ ) (fun _ q => nomatch q) (lw_S q1781 q1782 q95 q1783) gy_X5_above ⟨Nat.le_of_ble_eq_true rfl, Nat.le_of_ble_eq_true rfl⟩ ⟨Nat.le_of_ble_eq_true rfl, Nat.le_of_ble_eq_true rfl⟩ rfl rfl (Nat.le_of_ble_eq_true rfl) dX5_buys_95 ?_
  refine g_iload_n h dX5_buys_98 rfl ?_
  refine g_callVW0 h hE (m5_buys_0 _ _ _ o a s S p t b x K (by repeat (first | assumption | apply ranT_le | apply cN_le | apply bu_le | apply bu0_le | apply gi_le | apply mi0_le | apply mi1_le)) (by first | assumption | omega) (by assumption) (by assumption)) 0 rfl rfl (lw_V q1784 q1786 qs84 q95 q1787) gy_X5_buys ⟨Nat.le_of_ble_eq_true rfl, Nat.le_of_ble_eq_true rfl⟩ ⟨Nat.le_of_ble_eq_true rfl, Nat.le_of_ble_eq_true rfl⟩ rfl rfl (Nat.le_of_ble_eq_true rfl) dX5_buys_99 (st' := [.int ((bu 0 K p x t).1)]) rfl (fun _ e99 => ?_)
  subst e99
  exact g_iretWv h hE dX5_buys_102 (by first | (simp [bu, bu0]; done) | (simp_all [bu, bu0]; done)) (trW_eq (by first | (simp [bu, bu0]; done) | (simp_all [bu, bu0]; done)) rfl)
set_option maxHeartbeats 4000000 in
set_option maxRecDepth 100000 in
theorem m5_buys_2u (l : Launch) (D : va_G) (T : Nat → ClassId) (o : Nat) (a : Nat → Nat) (s : Nat → Int32) (S : Nat → Nat → Int32) (p : Nat) (t : TR) (b : Bool) (x : Int32) (K : Nat) (h0 : t.2 ≤ 30) (h1 : p < 6) (h2 : s (20 + 4 * p) = nI K) (h3 : K ≤ 6) : MetW l D T yX5_buys cX5_buys 3 (some .int) 6 131 0 0 [.ref o, .int (nI 2), .int x] (mW T o a s (trS S p t b)) (fun r_ w_ => r_ = some (.int ((bu 2 K p x t).1)) ∧ (w_ = mW T o a s (trS S p ((bu 2 K p x t).2) b))) := by
  refine metW (own := RX5) rfl (by decide) rfl (fun X h hl hDx hTx hnm hE => ?_)
  subst hl; subst hDx; subst hTx
  show G X 0 0 (mW (xT X) o a s (trS S p t b)) 0 [(0, .ref o), (1, .int (nI 2)), (2, .int x)] []
  refine g_iload_n h dX5_buys_0 rfl ?_
  refine g_lookup h 54 dX5_buys_1 (by decide) (by rfl) (by decide) ?_
  refine g_aload_n h dX5_buys_54 rfl ?_
  refine g_bipush (v := nI 30) h dX5_buys_55 (by decide) ?_
  refine g_callVW0 h hE (m5_begins _ _ _ o a s S p t b 30 (by repeat (first | assumption | apply ranT_le | apply cN_le | apply bu_le | apply bu0_le | apply gi_le | apply mi0_le | apply mi1_le))) 0 rfl rfl (lw_V q1777 q1779 qs83 q95 q1780) gy_X5_begins ⟨Nat.le_of_ble_eq_true rfl, Nat.le_of_ble_eq_true rfl⟩ ⟨Nat.le_of_ble_eq_true rfl, Nat.le_of_ble_eq_true rfl⟩ rfl rfl (Nat.le_of_ble_eq_true rfl) dX5_buys_57 (st' := []) rfl (fun _ e57 => ?_)
  subst e57
  refine g_iconst (v := nI 0) h dX5_buys_60 (by decide) ?_
  refine g_aload_n h dX5_buys_61 rfl ?_
  refine g_iconst (v := nI 2) h dX5_buys_62 (by decide) ?_
  refine g_callSR h (m5_above_2 _ _ _ ) (fun _ q => nomatch q) (lw_S q1781 q1782 q95 q1783) gy_X5_above ⟨Nat.le_of_ble_eq_true rfl, Nat.le_of_ble_eq_true rfl⟩ ⟨Nat.le_of_ble_eq_true rfl, Nat.le_of_ble_eq_true rfl⟩ rfl rfl (Nat.le_of_ble_eq_true rfl) dX5_buys_63 ?_
  refine g_iload_n h dX5_buys_66 rfl ?_
  refine g_callVW0 h hE (m5_buys_1 _ _ _ o a s S p (ranT 30 t) b x K (by repeat (first | assumption | apply ranT_le | apply cN_le | apply bu_le | apply bu0_le | apply gi_le | apply mi0_le | apply mi1_le)) (by first | assumption | omega) (by assumption) (by assumption)) 0 rfl rfl (lw_V q1784 q1786 qs84 q95 q1787) gy_X5_buys ⟨Nat.le_of_ble_eq_true rfl, Nat.le_of_ble_eq_true rfl⟩ ⟨Nat.le_of_ble_eq_true rfl, Nat.le_of_ble_eq_true rfl⟩ rfl rfl (Nat.le_of_ble_eq_true rfl) dX5_buys_67 (st' := [.int ((bu 1 K p x (ranT 30 t)).1), .int (nI 0)]) rfl (fun _ e67 => ?_)
  subst e67
  refine g_toI2 (y := 0) rfl ?_
  refine g_isub h dX5_buys_70 ?_
  exact g_iretWv h hE dX5_buys_71 (by first | (simp [bu, bu0]; done) | (simp_all [bu, bu0]; done)) (trW_eq (by first | (simp [bu, bu0]; done) | (simp_all [bu, bu0]; done)) rfl)
set_option maxHeartbeats 4000000 in
set_option maxRecDepth 100000 in
theorem m5_buys_3u (l : Launch) (D : va_G) (T : Nat → ClassId) (o : Nat) (a : Nat → Nat) (s : Nat → Int32) (S : Nat → Nat → Int32) (p : Nat) (t : TR) (b : Bool) (x : Int32) (K : Nat) (h0 : t.2 ≤ 30) (h1 : p < 6) (h2 : s (20 + 4 * p) = nI K) (h3 : K ≤ 6) : MetW l D T yX5_buys cX5_buys 3 (some .int) 6 131 0 0 [.ref o, .int (nI 3), .int x] (mW T o a s (trS S p t b)) (fun r_ w_ => r_ = some (.int ((bu 3 K p x t).1)) ∧ (w_ = mW T o a s (trS S p ((bu 3 K p x t).2) b))) := by
  refine metW (own := RX5) rfl (by decide) rfl (fun X h hl hDx hTx hnm hE => ?_)
  subst hl; subst hDx; subst hTx
  show G X 0 0 (mW (xT X) o a s (trS S p t b)) 0 [(0, .ref o), (1, .int (nI 3)), (2, .int x)] []
  refine g_iload_n h dX5_buys_0 rfl ?_
  refine g_lookup h 93 dX5_buys_1 (by decide) (by rfl) (by decide) ?_
  refine g_aload_n h dX5_buys_93 rfl ?_
  refine g_iload_n h dX5_buys_94 rfl ?_
  refine g_callSR h (m5_above_3 _ _ _ ) (fun _ q => nomatch q) (lw_S q1781 q1782 q95 q1783) gy_X5_above ⟨Nat.le_of_ble_eq_true rfl, Nat.le_of_ble_eq_true rfl⟩ ⟨Nat.le_of_ble_eq_true rfl, Nat.le_of_ble_eq_true rfl⟩ rfl rfl (Nat.le_of_ble_eq_true rfl) dX5_buys_95 ?_
  refine g_iload_n h dX5_buys_98 rfl ?_
  refine g_callVW0 h hE (m5_buys_1 _ _ _ o a s S p t b x K (by repeat (first | assumption | apply ranT_le | apply cN_le | apply bu_le | apply bu0_le | apply gi_le | apply mi0_le | apply mi1_le)) (by first | assumption | omega) (by assumption) (by assumption)) 0 rfl rfl (lw_V q1784 q1786 qs84 q95 q1787) gy_X5_buys ⟨Nat.le_of_ble_eq_true rfl, Nat.le_of_ble_eq_true rfl⟩ ⟨Nat.le_of_ble_eq_true rfl, Nat.le_of_ble_eq_true rfl⟩ rfl rfl (Nat.le_of_ble_eq_true rfl) dX5_buys_99 (st' := [.int ((bu 1 K p x t).1)]) rfl (fun _ e99 => ?_)
  subst e99
  exact g_iretWv h hE dX5_buys_102 (by first | (simp [bu, bu0]; done) | (simp_all [bu, bu0]; done)) (trW_eq (by first | (simp [bu, bu0]; done) | (simp_all [bu, bu0]; done)) rfl)
set_option maxHeartbeats 4000000 in
set_option maxRecDepth 100000 in
theorem m5_buys_4u (l : Launch) (D : va_G) (T : Nat → ClassId) (o : Nat) (a : Nat → Nat) (s : Nat → Int32) (S : Nat → Nat → Int32) (p : Nat) (t : TR) (b : Bool) (x : Int32) (K : Nat) (h0 : t.2 ≤ 30) (h1 : p < 6) (h2 : s (20 + 4 * p) = nI K) (h3 : K ≤ 6) : MetW l D T yX5_buys cX5_buys 3 (some .int) 6 131 0 0 [.ref o, .int (nI 4), .int x] (mW T o a s (trS S p t b)) (fun r_ w_ => r_ = some (.int ((bu 4 K p x t).1)) ∧ (w_ = mW T o a s (trS S p ((bu 4 K p x t).2) b))) := by
  refine metW (own := RX5) rfl (by decide) rfl (fun X h hl hDx hTx hnm hE => ?_)
  subst hl; subst hDx; subst hTx
  show G X 0 0 (mW (xT X) o a s (trS S p t b)) 0 [(0, .ref o), (1, .int (nI 4)), (2, .int x)] []
  refine g_iload_n h dX5_buys_0 rfl ?_
  refine g_lookup h 93 dX5_buys_1 (by decide) (by rfl) (by decide) ?_
  refine g_aload_n h dX5_buys_93 rfl ?_
  refine g_iload_n h dX5_buys_94 rfl ?_
  refine g_callSR h (m5_above_4 _ _ _ ) (fun _ q => nomatch q) (lw_S q1781 q1782 q95 q1783) gy_X5_above ⟨Nat.le_of_ble_eq_true rfl, Nat.le_of_ble_eq_true rfl⟩ ⟨Nat.le_of_ble_eq_true rfl, Nat.le_of_ble_eq_true rfl⟩ rfl rfl (Nat.le_of_ble_eq_true rfl) dX5_buys_95 ?_
  refine g_iload_n h dX5_buys_98 rfl ?_
  refine g_callVW0 h hE (m5_buys_0 _ _ _ o a s S p t b x K (by repeat (first | assumption | apply ranT_le | apply cN_le | apply bu_le | apply bu0_le | apply gi_le | apply mi0_le | apply mi1_le)) (by first | assumption | omega) (by assumption) (by assumption)) 0 rfl rfl (lw_V q1784 q1786 qs84 q95 q1787) gy_X5_buys ⟨Nat.le_of_ble_eq_true rfl, Nat.le_of_ble_eq_true rfl⟩ ⟨Nat.le_of_ble_eq_true rfl, Nat.le_of_ble_eq_true rfl⟩ rfl rfl (Nat.le_of_ble_eq_true rfl) dX5_buys_99 (st' := [.int ((bu 0 K p x t).1)]) rfl (fun _ e99 => ?_)
  subst e99
  exact g_iretWv h hE dX5_buys_102 (by first | (simp [bu, bu0]; done) | (simp_all [bu, bu0]; done)) (trW_eq (by first | (simp [bu, bu0]; done) | (simp_all [bu, bu0]; done)) rfl)
set_option maxHeartbeats 4000000 in
set_option maxRecDepth 100000 in
theorem m5_buys_5u (l : Launch) (D : va_G) (T : Nat → ClassId) (o : Nat) (a : Nat → Nat) (s : Nat → Int32) (S : Nat → Nat → Int32) (p : Nat) (t : TR) (b : Bool) (x : Int32) (K : Nat) (h0 : t.2 ≤ 30) (h1 : p < 6) (h2 : s (20 + 4 * p) = nI K) (h3 : K ≤ 6) : MetW l D T yX5_buys cX5_buys 3 (some .int) 6 131 0 0 [.ref o, .int (nI 5), .int x] (mW T o a s (trS S p t b)) (fun r_ w_ => r_ = some (.int ((bu 5 K p x t).1)) ∧ (w_ = mW T o a s (trS S p ((bu 5 K p x t).2) b))) := by
  refine metW (own := RX5) rfl (by decide) rfl (fun X h hl hDx hTx hnm hE => ?_)
  subst hl; subst hDx; subst hTx
  show G X 0 0 (mW (xT X) o a s (trS S p t b)) 0 [(0, .ref o), (1, .int (nI 5)), (2, .int x)] []
  refine g_iload_n h dX5_buys_0 rfl ?_
  refine g_lookup h 72 dX5_buys_1 (by decide) (by rfl) (by decide) ?_
  refine g_aload_n h dX5_buys_72 rfl ?_
  refine g_bipush (v := nI 71) h dX5_buys_73 (by decide) ?_
  refine g_callVW0 h hE (m5_begins _ _ _ o a s S p t b 71 (by repeat (first | assumption | apply ranT_le | apply cN_le | apply bu_le | apply bu0_le | apply gi_le | apply mi0_le | apply mi1_le))) 0 rfl rfl (lw_V q1777 q1779 qs83 q95 q1780) gy_X5_begins ⟨Nat.le_of_ble_eq_true rfl, Nat.le_of_ble_eq_true rfl⟩ ⟨Nat.le_of_ble_eq_true rfl, Nat.le_of_ble_eq_true rfl⟩ rfl rfl (Nat.le_of_ble_eq_true rfl) dX5_buys_75 (st' := []) rfl (fun _ e75 => ?_)
  subst e75
  refine g_aload_n h dX5_buys_78 rfl ?_
  refine g_iconst (v := nI 5) h dX5_buys_79 (by decide) ?_
  refine g_callSR h (m5_above_5 _ _ _ ) (fun _ q => nomatch q) (lw_S q1781 q1782 q95 q1783) gy_X5_above ⟨Nat.le_of_ble_eq_true rfl, Nat.le_of_ble_eq_true rfl⟩ ⟨Nat.le_of_ble_eq_true rfl, Nat.le_of_ble_eq_true rfl⟩ rfl rfl (Nat.le_of_ble_eq_true rfl) dX5_buys_80 ?_
  refine g_iload_n h dX5_buys_83 rfl ?_
  refine g_callVW0 h hE (m5_buys_0 _ _ _ o a s S p (ranT 71 t) b x K (by repeat (first | assumption | apply ranT_le | apply cN_le | apply bu_le | apply bu0_le | apply gi_le | apply mi0_le | apply mi1_le)) (by first | assumption | omega) (by assumption) (by assumption)) 0 rfl rfl (lw_V q1784 q1786 qs84 q95 q1787) gy_X5_buys ⟨Nat.le_of_ble_eq_true rfl, Nat.le_of_ble_eq_true rfl⟩ ⟨Nat.le_of_ble_eq_true rfl, Nat.le_of_ble_eq_true rfl⟩ rfl rfl (Nat.le_of_ble_eq_true rfl) dX5_buys_84 (st' := [.int ((bu 0 K p x (ranT 71 t)).1)]) rfl (fun _ e84 => ?_)
  subst e84
  refine g_aload_n h dX5_buys_87 rfl ?_
  refine g_get h in_X5 0 rfl rfl 14 rfl q1388 rfl rfl dX5_buys_88 ?_
  show G X 0 0 (mW (xT X) o a s (trS S p ((bu 0 K p x (ranT 71 t)).2) b)) 91 [(0, .ref o), (1, .int (nI 5)), (2, .int x)] [.int (nI p), .int ((bu 0 K p x (ranT 71 t)).1)]
  refine g_iadd h dX5_buys_91 ?_
  exact g_iretWv h hE dX5_buys_92 (by first | (simp [bu, bu0]; done) | (simp_all [bu, bu0]; done)) (trW_eq (by first | (simp [bu, bu0]; done) | (simp_all [bu, bu0]; done)) rfl)
set_option maxHeartbeats 4000000 in
set_option maxRecDepth 100000 in
theorem m5_buys_6u (l : Launch) (D : va_G) (T : Nat → ClassId) (o : Nat) (a : Nat → Nat) (s : Nat → Int32) (S : Nat → Nat → Int32) (p : Nat) (t : TR) (b : Bool) (x : Int32) (K : Nat) (h0 : t.2 ≤ 30) (h1 : p < 6) (h2 : s (20 + 4 * p) = nI K) (h3 : K ≤ 6) : MetW l D T yX5_buys cX5_buys 3 (some .int) 6 131 0 0 [.ref o, .int (nI 6), .int x] (mW T o a s (trS S p t b)) (fun r_ w_ => r_ = some (.int ((bu 6 K p x t).1)) ∧ (w_ = mW T o a s (trS S p ((bu 6 K p x t).2) b))) := by
  refine metW (own := RX5) rfl (by decide) rfl (fun X h hl hDx hTx hnm hE => ?_)
  subst hl; subst hDx; subst hTx
  show G X 0 0 (mW (xT X) o a s (trS S p t b)) 0 [(0, .ref o), (1, .int (nI 6)), (2, .int x)] []
  refine g_iload_n h dX5_buys_0 rfl ?_
  refine g_lookup h 93 dX5_buys_1 (by decide) (by rfl) (by decide) ?_
  refine g_aload_n h dX5_buys_93 rfl ?_
  refine g_iload_n h dX5_buys_94 rfl ?_
  refine g_callSR h (m5_above_6 _ _ _ ) (fun _ q => nomatch q) (lw_S q1781 q1782 q95 q1783) gy_X5_above ⟨Nat.le_of_ble_eq_true rfl, Nat.le_of_ble_eq_true rfl⟩ ⟨Nat.le_of_ble_eq_true rfl, Nat.le_of_ble_eq_true rfl⟩ rfl rfl (Nat.le_of_ble_eq_true rfl) dX5_buys_95 ?_
  refine g_iload_n h dX5_buys_98 rfl ?_
  refine g_callVW0 h hE (m5_buys_1 _ _ _ o a s S p t b x K (by repeat (first | assumption | apply ranT_le | apply cN_le | apply bu_le | apply bu0_le | apply gi_le | apply mi0_le | apply mi1_le)) (by first | assumption | omega) (by assumption) (by assumption)) 0 rfl rfl (lw_V q1784 q1786 qs84 q95 q1787) gy_X5_buys ⟨Nat.le_of_ble_eq_true rfl, Nat.le_of_ble_eq_true rfl⟩ ⟨Nat.le_of_ble_eq_true rfl, Nat.le_of_ble_eq_true rfl⟩ rfl rfl (Nat.le_of_ble_eq_true rfl) dX5_buys_99 (st' := [.int ((bu 1 K p x t).1)]) rfl (fun _ e99 => ?_)
  subst e99
  exact g_iretWv h hE dX5_buys_102 (by first | (simp [bu, bu0]; done) | (simp_all [bu, bu0]; done)) (trW_eq (by first | (simp [bu, bu0]; done) | (simp_all [bu, bu0]; done)) rfl)
set_option maxRecDepth 100000 in
theorem m5_buys_g (l : Launch) (D : va_G) (T : Nat → ClassId) (o : Nat) (a : Nat → Nat) (s : Nat → Int32) (S : Nat → Nat → Int32) (p : Nat) (t : TR) (b : Bool) (x : Int32) (K : Nat) (L : Nat) (h0 : t.2 ≤ 30) (h1 : p < 6) (h2 : s (20 + 4 * p) = nI K) (h3 : K ≤ 6) (h4 : L ≤ 6) : MetW l D T yX5_buys cX5_buys 3 (some .int) 6 131 0 0 [.ref o, .int (nI L), .int x] (mW T o a s (trS S p t b)) (fun r_ w_ => r_ = some (.int ((bu L K p x t).1)) ∧ (w_ = mW T o a s (trS S p ((bu L K p x t).2) b))) := by
  rcases (show L = 0 ∨ L = 1 ∨ L = 2 ∨ L = 3 ∨ L = 4 ∨ L = 5 ∨ L = 6 by omega) with rfl | rfl | rfl | rfl | rfl | rfl | rfl
  · exact m5_buys_0u l D T o a s S p t b x K h0 h1 h2 h3
  · exact m5_buys_1u l D T o a s S p t b x K h0 h1 h2 h3
  · exact m5_buys_2u l D T o a s S p t b x K h0 h1 h2 h3
  · exact m5_buys_3u l D T o a s S p t b x K h0 h1 h2 h3
  · exact m5_buys_4u l D T o a s S p t b x K h0 h1 h2 h3
  · exact m5_buys_5u l D T o a s S p t b x K h0 h1 h2 h3
  · exact m5_buys_6u l D T o a s S p t b x K h0 h1 h2 h3
set_option maxHeartbeats 4000000 in
set_option maxRecDepth 100000 in
theorem m5_gives_0 (l : Launch) (D : va_G) (T : Nat → ClassId) (o : Nat) (a : Nat → Nat) (s : Nat → Int32) (S : Nat → Nat → Int32) (p : Nat) (t : TR) (b : Bool) (x : Int32) (K : Nat) (h0 : t.2 ≤ 30) (h1 : p < 6) (h2 : s (20 + 4 * p) = nI K) (h3 : K ≤ 6) : MetW l D T yX5_gives cX5_gives 3 (some .int) 7 153 0 0 [.ref o, .int (nI 0), .int x] (mW T o a s (trS S p t b)) (fun r_ w_ => r_ = some (.int ((gi 0 K p (s (20 + 4 * p + 2)) x t).1)) ∧ (w_ = mW T o a s (trS S p ((gi 0 K p (s (20 + 4 * p + 2)) x t).2) b))) := by
  refine metW (own := RX5) rfl (by decide) rfl (fun X h hl hDx hTx hnm hE => ?_)
  subst hl; subst hDx; subst hTx
  show G X 0 0 (mW (xT X) o a s (trS S p t b)) 0 [(0, .ref o), (1, .int (nI 0)), (2, .int x)] []
  refine g_iload_n h dX5_gives_0 rfl ?_
  refine g_tableIn h 36 dX5_gives_1 0 (by decide) (by decide) (by decide) rfl (by decide) ?_
  refine g_aload_n h dX5_gives_36 rfl ?_
  refine g_bipush (v := nI 12) h dX5_gives_37 (by decide) ?_
  refine g_callVW0 h hE (m5_begins _ _ _ o a s S p t b 12 (by repeat (first | assumption | apply ranT_le | apply cN_le | apply bu_le | apply bu0_le | apply gi_le | apply mi0_le | apply mi1_le))) 0 rfl rfl (lw_V q1777 q1779 qs83 q95 q1780) gy_X5_begins ⟨Nat.le_of_ble_eq_true rfl, Nat.le_of_ble_eq_true rfl⟩ ⟨Nat.le_of_ble_eq_true rfl, Nat.le_of_ble_eq_true rfl⟩ rfl rfl (Nat.le_of_ble_eq_true rfl) dX5_gives_39 (st' := []) rfl (fun _ e39 => ?_)
  subst e39
  refine g_aload_n h dX5_gives_42 rfl ?_
  refine g_aload_n h dX5_gives_43 rfl ?_
  refine g_callVR h (m5_kindNow _ _ _ o a s S p (ranT 12 t) b (by first | assumption | omega)) (fun _ q => q) 0 rfl rfl (lw_V q1769 q1771 qs81 q95 q1772) gy_X5_kindNow ⟨Nat.le_of_ble_eq_true rfl, Nat.le_of_ble_eq_true rfl⟩ ⟨Nat.le_of_ble_eq_true rfl, Nat.le_of_ble_eq_true rfl⟩ rfl rfl (Nat.le_of_ble_eq_true rfl) dX5_gives_44 ?_
  refine g_toN (a := K) h2 ?_
  refine g_iload_n h dX5_gives_47 rfl ?_
  refine g_callVW0 h hE (m5_buys_g _ _ _ o a s S p (ranT 12 t) b x K K (by repeat (first | assumption | apply ranT_le | apply cN_le | apply bu_le | apply bu0_le | apply gi_le | apply mi0_le | apply mi1_le)) (by first | assumption | omega) (by assumption) (by assumption) (by first | assumption | omega)) 0 rfl rfl (lw_V q1784 q1786 qs84 q95 q1787) gy_X5_buys ⟨Nat.le_of_ble_eq_true rfl, Nat.le_of_ble_eq_true rfl⟩ ⟨Nat.le_of_ble_eq_true rfl, Nat.le_of_ble_eq_true rfl⟩ rfl rfl (Nat.le_of_ble_eq_true rfl) dX5_gives_48 (st' := [.int ((bu K K p x (ranT 12 t)).1)]) rfl (fun _ e48 => ?_)
  subst e48
  refine g_aload_n h dX5_gives_51 rfl ?_
  refine g_callVR h (m5_partNow _ _ _ o a s S p ((bu K K p x (ranT 12 t)).2) b (by first | assumption | omega)) (fun _ q => q) 0 rfl rfl (lw_V q1792 q1794 qs86 q95 q1795) gy_X5_partNow ⟨Nat.le_of_ble_eq_true rfl, Nat.le_of_ble_eq_true rfl⟩ ⟨Nat.le_of_ble_eq_true rfl, Nat.le_of_ble_eq_true rfl⟩ rfl rfl (Nat.le_of_ble_eq_true rfl) dX5_gives_52 ?_
  refine g_isub h dX5_gives_55 ?_
  exact g_iretWv h hE dX5_gives_56 (by first | (simp [gi, gi0]; done) | (simp_all [gi, gi0]; done)) (trW_eq (by first | (simp [gi, gi0]; done) | (simp_all [gi, gi0]; done)) rfl)
set_option maxHeartbeats 4000000 in
set_option maxRecDepth 100000 in
theorem m5_gives_1 (l : Launch) (D : va_G) (T : Nat → ClassId) (o : Nat) (a : Nat → Nat) (s : Nat → Int32) (S : Nat → Nat → Int32) (p : Nat) (t : TR) (b : Bool) (x : Int32) (K : Nat) (h0 : t.2 ≤ 30) (h1 : p < 6) (h2 : s (20 + 4 * p) = nI K) (h3 : K ≤ 6) : MetW l D T yX5_gives cX5_gives 3 (some .int) 8 175 0 0 [.ref o, .int (nI 1), .int x] (mW T o a s (trS S p t b)) (fun r_ w_ => r_ = some (.int ((gi 1 K p (s (20 + 4 * p + 2)) x t).1)) ∧ (w_ = mW T o a s (trS S p ((gi 1 K p (s (20 + 4 * p + 2)) x t).2) b))) := by
  refine metW (own := RX5) rfl (by decide) rfl (fun X h hl hDx hTx hnm hE => ?_)
  subst hl; subst hDx; subst hTx
  show G X 0 0 (mW (xT X) o a s (trS S p t b)) 0 [(0, .ref o), (1, .int (nI 1)), (2, .int x)] []
  refine g_iload_n h dX5_gives_0 rfl ?_
  refine g_tableIn h 96 dX5_gives_1 1 (by decide) (by decide) (by decide) rfl (by decide) ?_
  refine g_aload_n h dX5_gives_96 rfl ?_
  refine g_iload_n h dX5_gives_97 rfl ?_
  refine g_callSR h (m5_above_1 _ _ _ ) (fun _ q => nomatch q) (lw_S q1781 q1782 q95 q1783) gy_X5_above ⟨Nat.le_of_ble_eq_true rfl, Nat.le_of_ble_eq_true rfl⟩ ⟨Nat.le_of_ble_eq_true rfl, Nat.le_of_ble_eq_true rfl⟩ rfl rfl (Nat.le_of_ble_eq_true rfl) dX5_gives_98 ?_
  refine g_iload_n h dX5_gives_101 rfl ?_
  refine g_callVW0 h hE (m5_gives_0 _ _ _ o a s S p t b x K (by repeat (first | assumption | apply ranT_le | apply cN_le | apply bu_le | apply bu0_le | apply gi_le | apply mi0_le | apply mi1_le)) (by first | assumption | omega) (by assumption) (by assumption)) 0 rfl rfl (lw_V q1788 q1790 qs85 q95 q1791) gy_X5_gives ⟨Nat.le_of_ble_eq_true rfl, Nat.le_of_ble_eq_true rfl⟩ ⟨Nat.le_of_ble_eq_true rfl, Nat.le_of_ble_eq_true rfl⟩ rfl rfl (Nat.le_of_ble_eq_true rfl) dX5_gives_102 (st' := [.int ((gi 0 K p (s (20 + 4 * p + 2)) x t).1)]) rfl (fun _ e102 => ?_)
  subst e102
  exact g_iretWv h hE dX5_gives_105 (by first | (simp [gi, gi0]; done) | (simp_all [gi, gi0]; done)) (trW_eq (by first | (simp [gi, gi0]; done) | (simp_all [gi, gi0]; done)) rfl)
set_option maxHeartbeats 4000000 in
set_option maxRecDepth 100000 in
theorem m5_gives_2 (l : Launch) (D : va_G) (T : Nat → ClassId) (o : Nat) (a : Nat → Nat) (s : Nat → Int32) (S : Nat → Nat → Int32) (p : Nat) (t : TR) (b : Bool) (x : Int32) (K : Nat) (h0 : t.2 ≤ 30) (h1 : p < 6) (h2 : s (20 + 4 * p) = nI K) (h3 : K ≤ 6) : MetW l D T yX5_gives cX5_gives 3 (some .int) 9 197 0 0 [.ref o, .int (nI 2), .int x] (mW T o a s (trS S p t b)) (fun r_ w_ => r_ = some (.int ((gi 2 K p (s (20 + 4 * p + 2)) x t).1)) ∧ (w_ = mW T o a s (trS S p ((gi 2 K p (s (20 + 4 * p + 2)) x t).2) b))) := by
  refine metW (own := RX5) rfl (by decide) rfl (fun X h hl hDx hTx hnm hE => ?_)
  subst hl; subst hDx; subst hTx
  show G X 0 0 (mW (xT X) o a s (trS S p t b)) 0 [(0, .ref o), (1, .int (nI 2)), (2, .int x)] []
  refine g_iload_n h dX5_gives_0 rfl ?_
  refine g_tableIn h 96 dX5_gives_1 2 (by decide) (by decide) (by decide) rfl (by decide) ?_
  refine g_aload_n h dX5_gives_96 rfl ?_
  refine g_iload_n h dX5_gives_97 rfl ?_
  refine g_callSR h (m5_above_2 _ _ _ ) (fun _ q => nomatch q) (lw_S q1781 q1782 q95 q1783) gy_X5_above ⟨Nat.le_of_ble_eq_true rfl, Nat.le_of_ble_eq_true rfl⟩ ⟨Nat.le_of_ble_eq_true rfl, Nat.le_of_ble_eq_true rfl⟩ rfl rfl (Nat.le_of_ble_eq_true rfl) dX5_gives_98 ?_
  refine g_iload_n h dX5_gives_101 rfl ?_
  refine g_callVW0 h hE (m5_gives_1 _ _ _ o a s S p t b x K (by repeat (first | assumption | apply ranT_le | apply cN_le | apply bu_le | apply bu0_le | apply gi_le | apply mi0_le | apply mi1_le)) (by first | assumption | omega) (by assumption) (by assumption)) 0 rfl rfl (lw_V q1788 q1790 qs85 q95 q1791) gy_X5_gives ⟨Nat.le_of_ble_eq_true rfl, Nat.le_of_ble_eq_true rfl⟩ ⟨Nat.le_of_ble_eq_true rfl, Nat.le_of_ble_eq_true rfl⟩ rfl rfl (Nat.le_of_ble_eq_true rfl) dX5_gives_102 (st' := [.int ((gi 1 K p (s (20 + 4 * p + 2)) x t).1)]) rfl (fun _ e102 => ?_)
  subst e102
  exact g_iretWv h hE dX5_gives_105 (by first | (simp [gi, gi0]; done) | (simp_all [gi, gi0]; done)) (trW_eq (by first | (simp [gi, gi0]; done) | (simp_all [gi, gi0]; done)) rfl)
set_option maxHeartbeats 4000000 in
set_option maxRecDepth 100000 in
theorem m5_gives_3 (l : Launch) (D : va_G) (T : Nat → ClassId) (o : Nat) (a : Nat → Nat) (s : Nat → Int32) (S : Nat → Nat → Int32) (p : Nat) (t : TR) (b : Bool) (x : Int32) (K : Nat) (h0 : t.2 ≤ 30) (h1 : p < 6) (h2 : s (20 + 4 * p) = nI K) (h3 : K ≤ 6) : MetW l D T yX5_gives cX5_gives 3 (some .int) 9 197 0 0 [.ref o, .int (nI 3), .int x] (mW T o a s (trS S p t b)) (fun r_ w_ => r_ = some (.int ((gi 3 K p (s (20 + 4 * p + 2)) x t).1)) ∧ (w_ = mW T o a s (trS S p ((gi 3 K p (s (20 + 4 * p + 2)) x t).2) b))) := by
  refine metW (own := RX5) rfl (by decide) rfl (fun X h hl hDx hTx hnm hE => ?_)
  subst hl; subst hDx; subst hTx
  show G X 0 0 (mW (xT X) o a s (trS S p t b)) 0 [(0, .ref o), (1, .int (nI 3)), (2, .int x)] []
  refine g_iload_n h dX5_gives_0 rfl ?_
  refine g_tableIn h 57 dX5_gives_1 3 (by decide) (by decide) (by decide) rfl (by decide) ?_
  refine g_aload_n h dX5_gives_57 rfl ?_
  refine g_bipush (v := nI 41) h dX5_gives_58 (by decide) ?_
  refine g_callVW0 h hE (m5_begins _ _ _ o a s S p t b 41 (by repeat (first | assumption | apply ranT_le | apply cN_le | apply bu_le | apply bu0_le | apply gi_le | apply mi0_le | apply mi1_le))) 0 rfl rfl (lw_V q1777 q1779 qs83 q95 q1780) gy_X5_begins ⟨Nat.le_of_ble_eq_true rfl, Nat.le_of_ble_eq_true rfl⟩ ⟨Nat.le_of_ble_eq_true rfl, Nat.le_of_ble_eq_true rfl⟩ rfl rfl (Nat.le_of_ble_eq_true rfl) dX5_gives_60 (st' := []) rfl (fun _ e60 => ?_)
  subst e60
  refine g_aload_n h dX5_gives_63 rfl ?_
  refine g_iconst (v := nI 3) h dX5_gives_64 (by decide) ?_
  refine g_callSR h (m5_above_3 _ _ _ ) (fun _ q => nomatch q) (lw_S q1781 q1782 q95 q1783) gy_X5_above ⟨Nat.le_of_ble_eq_true rfl, Nat.le_of_ble_eq_true rfl⟩ ⟨Nat.le_of_ble_eq_true rfl, Nat.le_of_ble_eq_true rfl⟩ rfl rfl (Nat.le_of_ble_eq_true rfl) dX5_gives_65 ?_
  refine g_iload_n h dX5_gives_68 rfl ?_
  refine g_callVW0 h hE (m5_gives_1 _ _ _ o a s S p (ranT 41 t) b x K (by repeat (first | assumption | apply ranT_le | apply cN_le | apply bu_le | apply bu0_le | apply gi_le | apply mi0_le | apply mi1_le)) (by first | assumption | omega) (by assumption) (by assumption)) 0 rfl rfl (lw_V q1788 q1790 qs85 q95 q1791) gy_X5_gives ⟨Nat.le_of_ble_eq_true rfl, Nat.le_of_ble_eq_true rfl⟩ ⟨Nat.le_of_ble_eq_true rfl, Nat.le_of_ble_eq_true rfl⟩ rfl rfl (Nat.le_of_ble_eq_true rfl) dX5_gives_69 (st' := [.int ((gi 1 K p (s (20 + 4 * p + 2)) x (ranT 41 t)).1)]) rfl (fun _ e69 => ?_)
  subst e69
  refine g_aload_n h dX5_gives_72 rfl ?_
  refine g_get h in_X5 0 rfl rfl 14 rfl q1388 rfl rfl dX5_gives_73 ?_
  show G X 0 0 (mW (xT X) o a s (trS S p ((gi 1 K p (s (20 + 4 * p + 2)) x (ranT 41 t)).2) b)) 76 [(0, .ref o), (1, .int (nI 3)), (2, .int x)] [.int (nI p), .int ((gi 1 K p (s (20 + 4 * p + 2)) x (ranT 41 t)).1)]
  refine g_ixor h dX5_gives_76 ?_
  exact g_iretWv h hE dX5_gives_77 (by first | (simp [gi, gi0]; done) | (simp_all [gi, gi0]; done)) (trW_eq (by first | (simp [gi, gi0]; done) | (simp_all [gi, gi0]; done)) rfl)
set_option maxHeartbeats 4000000 in
set_option maxRecDepth 100000 in
theorem m5_gives_4 (l : Launch) (D : va_G) (T : Nat → ClassId) (o : Nat) (a : Nat → Nat) (s : Nat → Int32) (S : Nat → Nat → Int32) (p : Nat) (t : TR) (b : Bool) (x : Int32) (K : Nat) (h0 : t.2 ≤ 30) (h1 : p < 6) (h2 : s (20 + 4 * p) = nI K) (h3 : K ≤ 6) : MetW l D T yX5_gives cX5_gives 3 (some .int) 8 175 0 0 [.ref o, .int (nI 4), .int x] (mW T o a s (trS S p t b)) (fun r_ w_ => r_ = some (.int ((gi 4 K p (s (20 + 4 * p + 2)) x t).1)) ∧ (w_ = mW T o a s (trS S p ((gi 4 K p (s (20 + 4 * p + 2)) x t).2) b))) := by
  refine metW (own := RX5) rfl (by decide) rfl (fun X h hl hDx hTx hnm hE => ?_)
  subst hl; subst hDx; subst hTx
  show G X 0 0 (mW (xT X) o a s (trS S p t b)) 0 [(0, .ref o), (1, .int (nI 4)), (2, .int x)] []
  refine g_iload_n h dX5_gives_0 rfl ?_
  refine g_tableIn h 78 dX5_gives_1 4 (by decide) (by decide) (by decide) rfl (by decide) ?_
  refine g_aload_n h dX5_gives_78 rfl ?_
  refine g_bipush (v := nI 50) h dX5_gives_79 (by decide) ?_
  refine g_callVW0 h hE (m5_begins _ _ _ o a s S p t b 50 (by repeat (first | assumption | apply ranT_le | apply cN_le | apply bu_le | apply bu0_le | apply gi_le | apply mi0_le | apply mi1_le))) 0 rfl rfl (lw_V q1777 q1779 qs83 q95 q1780) gy_X5_begins ⟨Nat.le_of_ble_eq_true rfl, Nat.le_of_ble_eq_true rfl⟩ ⟨Nat.le_of_ble_eq_true rfl, Nat.le_of_ble_eq_true rfl⟩ rfl rfl (Nat.le_of_ble_eq_true rfl) dX5_gives_81 (st' := []) rfl (fun _ e81 => ?_)
  subst e81
  refine g_aload_n h dX5_gives_84 rfl ?_
  refine g_iconst (v := nI 4) h dX5_gives_85 (by decide) ?_
  refine g_callSR h (m5_above_4 _ _ _ ) (fun _ q => nomatch q) (lw_S q1781 q1782 q95 q1783) gy_X5_above ⟨Nat.le_of_ble_eq_true rfl, Nat.le_of_ble_eq_true rfl⟩ ⟨Nat.le_of_ble_eq_true rfl, Nat.le_of_ble_eq_true rfl⟩ rfl rfl (Nat.le_of_ble_eq_true rfl) dX5_gives_86 ?_
  refine g_iload_n h dX5_gives_89 rfl ?_
  refine g_iconst (v := nI 1) h dX5_gives_90 (by decide) ?_
  refine g_toI (y := 1) rfl ?_
  refine g_iadd h dX5_gives_91 ?_
  refine g_callVW0 h hE (m5_gives_0 _ _ _ o a s S p (ranT 50 t) b (x + 1) K (by repeat (first | assumption | apply ranT_le | apply cN_le | apply bu_le | apply bu0_le | apply gi_le | apply mi0_le | apply mi1_le)) (by first | assumption | omega) (by assumption) (by assumption)) 0 rfl rfl (lw_V q1788 q1790 qs85 q95 q1791) gy_X5_gives ⟨Nat.le_of_ble_eq_true rfl, Nat.le_of_ble_eq_true rfl⟩ ⟨Nat.le_of_ble_eq_true rfl, Nat.le_of_ble_eq_true rfl⟩ rfl rfl (Nat.le_of_ble_eq_true rfl) dX5_gives_92 (st' := [.int ((gi 0 K p (s (20 + 4 * p + 2)) (x + 1) (ranT 50 t)).1)]) rfl (fun _ e92 => ?_)
  subst e92
  exact g_iretWv h hE dX5_gives_95 (by first | (simp [gi, gi0]; done) | (simp_all [gi, gi0]; done)) (trW_eq (by first | (simp [gi, gi0]; done) | (simp_all [gi, gi0]; done)) rfl)
set_option maxHeartbeats 4000000 in
set_option maxRecDepth 100000 in
theorem m5_gives_5 (l : Launch) (D : va_G) (T : Nat → ClassId) (o : Nat) (a : Nat → Nat) (s : Nat → Int32) (S : Nat → Nat → Int32) (p : Nat) (t : TR) (b : Bool) (x : Int32) (K : Nat) (h0 : t.2 ≤ 30) (h1 : p < 6) (h2 : s (20 + 4 * p) = nI K) (h3 : K ≤ 6) : MetW l D T yX5_gives cX5_gives 3 (some .int) 8 175 0 0 [.ref o, .int (nI 5), .int x] (mW T o a s (trS S p t b)) (fun r_ w_ => r_ = some (.int ((gi 5 K p (s (20 + 4 * p + 2)) x t).1)) ∧ (w_ = mW T o a s (trS S p ((gi 5 K p (s (20 + 4 * p + 2)) x t).2) b))) := by
  refine metW (own := RX5) rfl (by decide) rfl (fun X h hl hDx hTx hnm hE => ?_)
  subst hl; subst hDx; subst hTx
  show G X 0 0 (mW (xT X) o a s (trS S p t b)) 0 [(0, .ref o), (1, .int (nI 5)), (2, .int x)] []
  refine g_iload_n h dX5_gives_0 rfl ?_
  refine g_tableOut h 96 dX5_gives_1 (by decide) (by decide) ?_
  refine g_aload_n h dX5_gives_96 rfl ?_
  refine g_iload_n h dX5_gives_97 rfl ?_
  refine g_callSR h (m5_above_5 _ _ _ ) (fun _ q => nomatch q) (lw_S q1781 q1782 q95 q1783) gy_X5_above ⟨Nat.le_of_ble_eq_true rfl, Nat.le_of_ble_eq_true rfl⟩ ⟨Nat.le_of_ble_eq_true rfl, Nat.le_of_ble_eq_true rfl⟩ rfl rfl (Nat.le_of_ble_eq_true rfl) dX5_gives_98 ?_
  refine g_iload_n h dX5_gives_101 rfl ?_
  refine g_callVW0 h hE (m5_gives_0 _ _ _ o a s S p t b x K (by repeat (first | assumption | apply ranT_le | apply cN_le | apply bu_le | apply bu0_le | apply gi_le | apply mi0_le | apply mi1_le)) (by first | assumption | omega) (by assumption) (by assumption)) 0 rfl rfl (lw_V q1788 q1790 qs85 q95 q1791) gy_X5_gives ⟨Nat.le_of_ble_eq_true rfl, Nat.le_of_ble_eq_true rfl⟩ ⟨Nat.le_of_ble_eq_true rfl, Nat.le_of_ble_eq_true rfl⟩ rfl rfl (Nat.le_of_ble_eq_true rfl) dX5_gives_102 (st' := [.int ((gi 0 K p (s (20 + 4 * p + 2)) x t).1)]) rfl (fun _ e102 => ?_)
  subst e102
  exact g_iretWv h hE dX5_gives_105 (by first | (simp [gi, gi0]; done) | (simp_all [gi, gi0]; done)) (trW_eq (by first | (simp [gi, gi0]; done) | (simp_all [gi, gi0]; done)) rfl)
set_option maxHeartbeats 4000000 in
set_option maxRecDepth 100000 in
theorem m5_gives_6 (l : Launch) (D : va_G) (T : Nat → ClassId) (o : Nat) (a : Nat → Nat) (s : Nat → Int32) (S : Nat → Nat → Int32) (p : Nat) (t : TR) (b : Bool) (x : Int32) (K : Nat) (h0 : t.2 ≤ 30) (h1 : p < 6) (h2 : s (20 + 4 * p) = nI K) (h3 : K ≤ 6) : MetW l D T yX5_gives cX5_gives 3 (some .int) 9 197 0 0 [.ref o, .int (nI 6), .int x] (mW T o a s (trS S p t b)) (fun r_ w_ => r_ = some (.int ((gi 6 K p (s (20 + 4 * p + 2)) x t).1)) ∧ (w_ = mW T o a s (trS S p ((gi 6 K p (s (20 + 4 * p + 2)) x t).2) b))) := by
  refine metW (own := RX5) rfl (by decide) rfl (fun X h hl hDx hTx hnm hE => ?_)
  subst hl; subst hDx; subst hTx
  show G X 0 0 (mW (xT X) o a s (trS S p t b)) 0 [(0, .ref o), (1, .int (nI 6)), (2, .int x)] []
  refine g_iload_n h dX5_gives_0 rfl ?_
  refine g_tableOut h 96 dX5_gives_1 (by decide) (by decide) ?_
  refine g_aload_n h dX5_gives_96 rfl ?_
  refine g_iload_n h dX5_gives_97 rfl ?_
  refine g_callSR h (m5_above_6 _ _ _ ) (fun _ q => nomatch q) (lw_S q1781 q1782 q95 q1783) gy_X5_above ⟨Nat.le_of_ble_eq_true rfl, Nat.le_of_ble_eq_true rfl⟩ ⟨Nat.le_of_ble_eq_true rfl, Nat.le_of_ble_eq_true rfl⟩ rfl rfl (Nat.le_of_ble_eq_true rfl) dX5_gives_98 ?_
  refine g_iload_n h dX5_gives_101 rfl ?_
  refine g_callVW0 h hE (m5_gives_1 _ _ _ o a s S p t b x K (by repeat (first | assumption | apply ranT_le | apply cN_le | apply bu_le | apply bu0_le | apply gi_le | apply mi0_le | apply mi1_le)) (by first | assumption | omega) (by assumption) (by assumption)) 0 rfl rfl (lw_V q1788 q1790 qs85 q95 q1791) gy_X5_gives ⟨Nat.le_of_ble_eq_true rfl, Nat.le_of_ble_eq_true rfl⟩ ⟨Nat.le_of_ble_eq_true rfl, Nat.le_of_ble_eq_true rfl⟩ rfl rfl (Nat.le_of_ble_eq_true rfl) dX5_gives_102 (st' := [.int ((gi 1 K p (s (20 + 4 * p + 2)) x t).1)]) rfl (fun _ e102 => ?_)
  subst e102
  exact g_iretWv h hE dX5_gives_105 (by first | (simp [gi, gi0]; done) | (simp_all [gi, gi0]; done)) (trW_eq (by first | (simp [gi, gi0]; done) | (simp_all [gi, gi0]; done)) rfl)
set_option maxHeartbeats 4000000 in
set_option maxRecDepth 100000 in
theorem m5_gives_0u (l : Launch) (D : va_G) (T : Nat → ClassId) (o : Nat) (a : Nat → Nat) (s : Nat → Int32) (S : Nat → Nat → Int32) (p : Nat) (t : TR) (b : Bool) (x : Int32) (K : Nat) (h0 : t.2 ≤ 30) (h1 : p < 6) (h2 : s (20 + 4 * p) = nI K) (h3 : K ≤ 6) : MetW l D T yX5_gives cX5_gives 3 (some .int) 9 197 0 0 [.ref o, .int (nI 0), .int x] (mW T o a s (trS S p t b)) (fun r_ w_ => r_ = some (.int ((gi 0 K p (s (20 + 4 * p + 2)) x t).1)) ∧ (w_ = mW T o a s (trS S p ((gi 0 K p (s (20 + 4 * p + 2)) x t).2) b))) := by
  refine metW (own := RX5) rfl (by decide) rfl (fun X h hl hDx hTx hnm hE => ?_)
  subst hl; subst hDx; subst hTx
  show G X 0 0 (mW (xT X) o a s (trS S p t b)) 0 [(0, .ref o), (1, .int (nI 0)), (2, .int x)] []
  refine g_iload_n h dX5_gives_0 rfl ?_
  refine g_tableIn h 36 dX5_gives_1 0 (by decide) (by decide) (by decide) rfl (by decide) ?_
  refine g_aload_n h dX5_gives_36 rfl ?_
  refine g_bipush (v := nI 12) h dX5_gives_37 (by decide) ?_
  refine g_callVW0 h hE (m5_begins _ _ _ o a s S p t b 12 (by repeat (first | assumption | apply ranT_le | apply cN_le | apply bu_le | apply bu0_le | apply gi_le | apply mi0_le | apply mi1_le))) 0 rfl rfl (lw_V q1777 q1779 qs83 q95 q1780) gy_X5_begins ⟨Nat.le_of_ble_eq_true rfl, Nat.le_of_ble_eq_true rfl⟩ ⟨Nat.le_of_ble_eq_true rfl, Nat.le_of_ble_eq_true rfl⟩ rfl rfl (Nat.le_of_ble_eq_true rfl) dX5_gives_39 (st' := []) rfl (fun _ e39 => ?_)
  subst e39
  refine g_aload_n h dX5_gives_42 rfl ?_
  refine g_aload_n h dX5_gives_43 rfl ?_
  refine g_callVR h (m5_kindNow _ _ _ o a s S p (ranT 12 t) b (by first | assumption | omega)) (fun _ q => q) 0 rfl rfl (lw_V q1769 q1771 qs81 q95 q1772) gy_X5_kindNow ⟨Nat.le_of_ble_eq_true rfl, Nat.le_of_ble_eq_true rfl⟩ ⟨Nat.le_of_ble_eq_true rfl, Nat.le_of_ble_eq_true rfl⟩ rfl rfl (Nat.le_of_ble_eq_true rfl) dX5_gives_44 ?_
  refine g_toN (a := K) h2 ?_
  refine g_iload_n h dX5_gives_47 rfl ?_
  refine g_callVW0 h hE (m5_buys_g _ _ _ o a s S p (ranT 12 t) b x K K (by repeat (first | assumption | apply ranT_le | apply cN_le | apply bu_le | apply bu0_le | apply gi_le | apply mi0_le | apply mi1_le)) (by first | assumption | omega) (by assumption) (by assumption) (by first | assumption | omega)) 0 rfl rfl (lw_V q1784 q1786 qs84 q95 q1787) gy_X5_buys ⟨Nat.le_of_ble_eq_true rfl, Nat.le_of_ble_eq_true rfl⟩ ⟨Nat.le_of_ble_eq_true rfl, Nat.le_of_ble_eq_true rfl⟩ rfl rfl (Nat.le_of_ble_eq_true rfl) dX5_gives_48 (st' := [.int ((bu K K p x (ranT 12 t)).1)]) rfl (fun _ e48 => ?_)
  subst e48
  refine g_aload_n h dX5_gives_51 rfl ?_
  refine g_callVR h (m5_partNow _ _ _ o a s S p ((bu K K p x (ranT 12 t)).2) b (by first | assumption | omega)) (fun _ q => q) 0 rfl rfl (lw_V q1792 q1794 qs86 q95 q1795) gy_X5_partNow ⟨Nat.le_of_ble_eq_true rfl, Nat.le_of_ble_eq_true rfl⟩ ⟨Nat.le_of_ble_eq_true rfl, Nat.le_of_ble_eq_true rfl⟩ rfl rfl (Nat.le_of_ble_eq_true rfl) dX5_gives_52 ?_
  refine g_isub h dX5_gives_55 ?_
  exact g_iretWv h hE dX5_gives_56 (by first | (simp [gi, gi0]; done) | (simp_all [gi, gi0]; done)) (trW_eq (by first | (simp [gi, gi0]; done) | (simp_all [gi, gi0]; done)) rfl)
set_option maxHeartbeats 4000000 in
set_option maxRecDepth 100000 in
theorem m5_gives_1u (l : Launch) (D : va_G) (T : Nat → ClassId) (o : Nat) (a : Nat → Nat) (s : Nat → Int32) (S : Nat → Nat → Int32) (p : Nat) (t : TR) (b : Bool) (x : Int32) (K : Nat) (h0 : t.2 ≤ 30) (h1 : p < 6) (h2 : s (20 + 4 * p) = nI K) (h3 : K ≤ 6) : MetW l D T yX5_gives cX5_gives 3 (some .int) 9 197 0 0 [.ref o, .int (nI 1), .int x] (mW T o a s (trS S p t b)) (fun r_ w_ => r_ = some (.int ((gi 1 K p (s (20 + 4 * p + 2)) x t).1)) ∧ (w_ = mW T o a s (trS S p ((gi 1 K p (s (20 + 4 * p + 2)) x t).2) b))) := by
  refine metW (own := RX5) rfl (by decide) rfl (fun X h hl hDx hTx hnm hE => ?_)
  subst hl; subst hDx; subst hTx
  show G X 0 0 (mW (xT X) o a s (trS S p t b)) 0 [(0, .ref o), (1, .int (nI 1)), (2, .int x)] []
  refine g_iload_n h dX5_gives_0 rfl ?_
  refine g_tableIn h 96 dX5_gives_1 1 (by decide) (by decide) (by decide) rfl (by decide) ?_
  refine g_aload_n h dX5_gives_96 rfl ?_
  refine g_iload_n h dX5_gives_97 rfl ?_
  refine g_callSR h (m5_above_1 _ _ _ ) (fun _ q => nomatch q) (lw_S q1781 q1782 q95 q1783) gy_X5_above ⟨Nat.le_of_ble_eq_true rfl, Nat.le_of_ble_eq_true rfl⟩ ⟨Nat.le_of_ble_eq_true rfl, Nat.le_of_ble_eq_true rfl⟩ rfl rfl (Nat.le_of_ble_eq_true rfl) dX5_gives_98 ?_
  refine g_iload_n h dX5_gives_101 rfl ?_
  refine g_callVW0 h hE (m5_gives_0 _ _ _ o a s S p t b x K (by repeat (first | assumption | apply ranT_le | apply cN_le | apply bu_le | apply bu0_le | apply gi_le | apply mi0_le | apply mi1_le)) (by first | assumption | omega) (by assumption) (by assumption)) 0 rfl rfl (lw_V q1788 q1790 qs85 q95 q1791) gy_X5_gives ⟨Nat.le_of_ble_eq_true rfl, Nat.le_of_ble_eq_true rfl⟩ ⟨Nat.le_of_ble_eq_true rfl, Nat.le_of_ble_eq_true rfl⟩ rfl rfl (Nat.le_of_ble_eq_true rfl) dX5_gives_102 (st' := [.int ((gi 0 K p (s (20 + 4 * p + 2)) x t).1)]) rfl (fun _ e102 => ?_)
  subst e102
  exact g_iretWv h hE dX5_gives_105 (by first | (simp [gi, gi0]; done) | (simp_all [gi, gi0]; done)) (trW_eq (by first | (simp [gi, gi0]; done) | (simp_all [gi, gi0]; done)) rfl)
set_option maxHeartbeats 4000000 in
set_option maxRecDepth 100000 in
theorem m5_gives_2u (l : Launch) (D : va_G) (T : Nat → ClassId) (o : Nat) (a : Nat → Nat) (s : Nat → Int32) (S : Nat → Nat → Int32) (p : Nat) (t : TR) (b : Bool) (x : Int32) (K : Nat) (h0 : t.2 ≤ 30) (h1 : p < 6) (h2 : s (20 + 4 * p) = nI K) (h3 : K ≤ 6) : MetW l D T yX5_gives cX5_gives 3 (some .int) 9 197 0 0 [.ref o, .int (nI 2), .int x] (mW T o a s (trS S p t b)) (fun r_ w_ => r_ = some (.int ((gi 2 K p (s (20 + 4 * p + 2)) x t).1)) ∧ (w_ = mW T o a s (trS S p ((gi 2 K p (s (20 + 4 * p + 2)) x t).2) b))) := by
  refine metW (own := RX5) rfl (by decide) rfl (fun X h hl hDx hTx hnm hE => ?_)
  subst hl; subst hDx; subst hTx
  show G X 0 0 (mW (xT X) o a s (trS S p t b)) 0 [(0, .ref o), (1, .int (nI 2)), (2, .int x)] []
  refine g_iload_n h dX5_gives_0 rfl ?_
  refine g_tableIn h 96 dX5_gives_1 2 (by decide) (by decide) (by decide) rfl (by decide) ?_
  refine g_aload_n h dX5_gives_96 rfl ?_
  refine g_iload_n h dX5_gives_97 rfl ?_
  refine g_callSR h (m5_above_2 _ _ _ ) (fun _ q => nomatch q) (lw_S q1781 q1782 q95 q1783) gy_X5_above ⟨Nat.le_of_ble_eq_true rfl, Nat.le_of_ble_eq_true rfl⟩ ⟨Nat.le_of_ble_eq_true rfl, Nat.le_of_ble_eq_true rfl⟩ rfl rfl (Nat.le_of_ble_eq_true rfl) dX5_gives_98 ?_
  refine g_iload_n h dX5_gives_101 rfl ?_
  refine g_callVW0 h hE (m5_gives_1 _ _ _ o a s S p t b x K (by repeat (first | assumption | apply ranT_le | apply cN_le | apply bu_le | apply bu0_le | apply gi_le | apply mi0_le | apply mi1_le)) (by first | assumption | omega) (by assumption) (by assumption)) 0 rfl rfl (lw_V q1788 q1790 qs85 q95 q1791) gy_X5_gives ⟨Nat.le_of_ble_eq_true rfl, Nat.le_of_ble_eq_true rfl⟩ ⟨Nat.le_of_ble_eq_true rfl, Nat.le_of_ble_eq_true rfl⟩ rfl rfl (Nat.le_of_ble_eq_true rfl) dX5_gives_102 (st' := [.int ((gi 1 K p (s (20 + 4 * p + 2)) x t).1)]) rfl (fun _ e102 => ?_)
  subst e102
  exact g_iretWv h hE dX5_gives_105 (by first | (simp [gi, gi0]; done) | (simp_all [gi, gi0]; done)) (trW_eq (by first | (simp [gi, gi0]; done) | (simp_all [gi, gi0]; done)) rfl)
set_option maxHeartbeats 4000000 in
set_option maxRecDepth 100000 in
theorem m5_gives_3u (l : Launch) (D : va_G) (T : Nat → ClassId) (o : Nat) (a : Nat → Nat) (s : Nat → Int32) (S : Nat → Nat → Int32) (p : Nat) (t : TR) (b : Bool) (x : Int32) (K : Nat) (h0 : t.2 ≤ 30) (h1 : p < 6) (h2 : s (20 + 4 * p) = nI K) (h3 : K ≤ 6) : MetW l D T yX5_gives cX5_gives 3 (some .int) 9 197 0 0 [.ref o, .int (nI 3), .int x] (mW T o a s (trS S p t b)) (fun r_ w_ => r_ = some (.int ((gi 3 K p (s (20 + 4 * p + 2)) x t).1)) ∧ (w_ = mW T o a s (trS S p ((gi 3 K p (s (20 + 4 * p + 2)) x t).2) b))) := by
  refine metW (own := RX5) rfl (by decide) rfl (fun X h hl hDx hTx hnm hE => ?_)
  subst hl; subst hDx; subst hTx
  show G X 0 0 (mW (xT X) o a s (trS S p t b)) 0 [(0, .ref o), (1, .int (nI 3)), (2, .int x)] []
  refine g_iload_n h dX5_gives_0 rfl ?_
  refine g_tableIn h 57 dX5_gives_1 3 (by decide) (by decide) (by decide) rfl (by decide) ?_
  refine g_aload_n h dX5_gives_57 rfl ?_
  refine g_bipush (v := nI 41) h dX5_gives_58 (by decide) ?_
  refine g_callVW0 h hE (m5_begins _ _ _ o a s S p t b 41 (by repeat (first | assumption | apply ranT_le | apply cN_le | apply bu_le | apply bu0_le | apply gi_le | apply mi0_le | apply mi1_le))) 0 rfl rfl (lw_V q1777 q1779 qs83 q95 q1780) gy_X5_begins ⟨Nat.le_of_ble_eq_true rfl, Nat.le_of_ble_eq_true rfl⟩ ⟨Nat.le_of_ble_eq_true rfl, Nat.le_of_ble_eq_true rfl⟩ rfl rfl (Nat.le_of_ble_eq_true rfl) dX5_gives_60 (st' := []) rfl (fun _ e60 => ?_)
  subst e60
  refine g_aload_n h dX5_gives_63 rfl ?_
  refine g_iconst (v := nI 3) h dX5_gives_64 (by decide) ?_
  refine g_callSR h (m5_above_3 _ _ _ ) (fun _ q => nomatch q) (lw_S q1781 q1782 q95 q1783) gy_X5_above ⟨Nat.le_of_ble_eq_true rfl, Nat.le_of_ble_eq_true rfl⟩ ⟨Nat.le_of_ble_eq_true rfl, Nat.le_of_ble_eq_true rfl⟩ rfl rfl (Nat.le_of_ble_eq_true rfl) dX5_gives_65 ?_
  refine g_iload_n h dX5_gives_68 rfl ?_
  refine g_callVW0 h hE (m5_gives_1 _ _ _ o a s S p (ranT 41 t) b x K (by repeat (first | assumption | apply ranT_le | apply cN_le | apply bu_le | apply bu0_le | apply gi_le | apply mi0_le | apply mi1_le)) (by first | assumption | omega) (by assumption) (by assumption)) 0 rfl rfl (lw_V q1788 q1790 qs85 q95 q1791) gy_X5_gives ⟨Nat.le_of_ble_eq_true rfl, Nat.le_of_ble_eq_true rfl⟩ ⟨Nat.le_of_ble_eq_true rfl, Nat.le_of_ble_eq_true rfl⟩ rfl rfl (Nat.le_of_ble_eq_true rfl) dX5_gives_69 (st' := [.int ((gi 1 K p (s (20 + 4 * p + 2)) x (ranT 41 t)).1)]) rfl (fun _ e69 => ?_)
  subst e69
  refine g_aload_n h dX5_gives_72 rfl ?_
  refine g_get h in_X5 0 rfl rfl 14 rfl q1388 rfl rfl dX5_gives_73 ?_
  show G X 0 0 (mW (xT X) o a s (trS S p ((gi 1 K p (s (20 + 4 * p + 2)) x (ranT 41 t)).2) b)) 76 [(0, .ref o), (1, .int (nI 3)), (2, .int x)] [.int (nI p), .int ((gi 1 K p (s (20 + 4 * p + 2)) x (ranT 41 t)).1)]
  refine g_ixor h dX5_gives_76 ?_
  exact g_iretWv h hE dX5_gives_77 (by first | (simp [gi, gi0]; done) | (simp_all [gi, gi0]; done)) (trW_eq (by first | (simp [gi, gi0]; done) | (simp_all [gi, gi0]; done)) rfl)
set_option maxHeartbeats 4000000 in
set_option maxRecDepth 100000 in
theorem m5_gives_4u (l : Launch) (D : va_G) (T : Nat → ClassId) (o : Nat) (a : Nat → Nat) (s : Nat → Int32) (S : Nat → Nat → Int32) (p : Nat) (t : TR) (b : Bool) (x : Int32) (K : Nat) (h0 : t.2 ≤ 30) (h1 : p < 6) (h2 : s (20 + 4 * p) = nI K) (h3 : K ≤ 6) : MetW l D T yX5_gives cX5_gives 3 (some .int) 9 197 0 0 [.ref o, .int (nI 4), .int x] (mW T o a s (trS S p t b)) (fun r_ w_ => r_ = some (.int ((gi 4 K p (s (20 + 4 * p + 2)) x t).1)) ∧ (w_ = mW T o a s (trS S p ((gi 4 K p (s (20 + 4 * p + 2)) x t).2) b))) := by
  refine metW (own := RX5) rfl (by decide) rfl (fun X h hl hDx hTx hnm hE => ?_)
  subst hl; subst hDx; subst hTx
  show G X 0 0 (mW (xT X) o a s (trS S p t b)) 0 [(0, .ref o), (1, .int (nI 4)), (2, .int x)] []
  refine g_iload_n h dX5_gives_0 rfl ?_
  refine g_tableIn h 78 dX5_gives_1 4 (by decide) (by decide) (by decide) rfl (by decide) ?_
  refine g_aload_n h dX5_gives_78 rfl ?_
  refine g_bipush (v := nI 50) h dX5_gives_79 (by decide) ?_
  refine g_callVW0 h hE (m5_begins _ _ _ o a s S p t b 50 (by repeat (first | assumption | apply ranT_le | apply cN_le | apply bu_le | apply bu0_le | apply gi_le | apply mi0_le | apply mi1_le))) 0 rfl rfl (lw_V q1777 q1779 qs83 q95 q1780) gy_X5_begins ⟨Nat.le_of_ble_eq_true rfl, Nat.le_of_ble_eq_true rfl⟩ ⟨Nat.le_of_ble_eq_true rfl, Nat.le_of_ble_eq_true rfl⟩ rfl rfl (Nat.le_of_ble_eq_true rfl) dX5_gives_81 (st' := []) rfl (fun _ e81 => ?_)
  subst e81
  refine g_aload_n h dX5_gives_84 rfl ?_
  refine g_iconst (v := nI 4) h dX5_gives_85 (by decide) ?_
  refine g_callSR h (m5_above_4 _ _ _ ) (fun _ q => nomatch q) (lw_S q1781 q1782 q95 q1783) gy_X5_above ⟨Nat.le_of_ble_eq_true rfl, Nat.le_of_ble_eq_true rfl⟩ ⟨Nat.le_of_ble_eq_true rfl, Nat.le_of_ble_eq_true rfl⟩ rfl rfl (Nat.le_of_ble_eq_true rfl) dX5_gives_86 ?_
  refine g_iload_n h dX5_gives_89 rfl ?_
  refine g_iconst (v := nI 1) h dX5_gives_90 (by decide) ?_
  refine g_toI (y := 1) rfl ?_
  refine g_iadd h dX5_gives_91 ?_
  refine g_callVW0 h hE (m5_gives_0 _ _ _ o a s S p (ranT 50 t) b (x + 1) K (by repeat (first | assumption | apply ranT_le | apply cN_le | apply bu_le | apply bu0_le | apply gi_le | apply mi0_le | apply mi1_le)) (by first | assumption | omega) (by assumption) (by assumption)) 0 rfl rfl (lw_V q1788 q1790 qs85 q95 q1791) gy_X5_gives ⟨Nat.le_of_ble_eq_true rfl, Nat.le_of_ble_eq_true rfl⟩ ⟨Nat.le_of_ble_eq_true rfl, Nat.le_of_ble_eq_true rfl⟩ rfl rfl (Nat.le_of_ble_eq_true rfl) dX5_gives_92 (st' := [.int ((gi 0 K p (s (20 + 4 * p + 2)) (x + 1) (ranT 50 t)).1)]) rfl (fun _ e92 => ?_)
  subst e92
  exact g_iretWv h hE dX5_gives_95 (by first | (simp [gi, gi0]; done) | (simp_all [gi, gi0]; done)) (trW_eq (by first | (simp [gi, gi0]; done) | (simp_all [gi, gi0]; done)) rfl)
set_option maxHeartbeats 4000000 in
set_option maxRecDepth 100000 in
theorem m5_gives_5u (l : Launch) (D : va_G) (T : Nat → ClassId) (o : Nat) (a : Nat → Nat) (s : Nat → Int32) (S : Nat → Nat → Int32) (p : Nat) (t : TR) (b : Bool) (x : Int32) (K : Nat) (h0 : t.2 ≤ 30) (h1 : p < 6) (h2 : s (20 + 4 * p) = nI K) (h3 : K ≤ 6) : MetW l D T yX5_gives cX5_gives 3 (some .int) 9 197 0 0 [.ref o, .int (nI 5), .int x] (mW T o a s (trS S p t b)) (fun r_ w_ => r_ = some (.int ((gi 5 K p (s (20 + 4 * p + 2)) x t).1)) ∧ (w_ = mW T o a s (trS S p ((gi 5 K p (s (20 + 4 * p + 2)) x t).2) b))) := by
  refine metW (own := RX5) rfl (by decide) rfl (fun X h hl hDx hTx hnm hE => ?_)
  subst hl; subst hDx; subst hTx
  show G X 0 0 (mW (xT X) o a s (trS S p t b)) 0 [(0, .ref o), (1, .int (nI 5)), (2, .int x)] []
  refine g_iload_n h dX5_gives_0 rfl ?_
  refine g_tableOut h 96 dX5_gives_1 (by decide) (by decide) ?_
  refine g_aload_n h dX5_gives_96 rfl ?_
  refine g_iload_n h dX5_gives_97 rfl ?_
  refine g_callSR h (m5_above_5 _ _ _ ) (fun _ q => nomatch q) (lw_S q1781 q1782 q95 q1783) gy_X5_above ⟨Nat.le_of_ble_eq_true rfl, Nat.le_of_ble_eq_true rfl⟩ ⟨Nat.le_of_ble_eq_true rfl, Nat.le_of_ble_eq_true rfl⟩ rfl rfl (Nat.le_of_ble_eq_true rfl) dX5_gives_98 ?_
  refine g_iload_n h dX5_gives_101 rfl ?_
  refine g_callVW0 h hE (m5_gives_0 _ _ _ o a s S p t b x K (by repeat (first | assumption | apply ranT_le | apply cN_le | apply bu_le | apply bu0_le | apply gi_le | apply mi0_le | apply mi1_le)) (by first | assumption | omega) (by assumption) (by assumption)) 0 rfl rfl (lw_V q1788 q1790 qs85 q95 q1791) gy_X5_gives ⟨Nat.le_of_ble_eq_true rfl, Nat.le_of_ble_eq_true rfl⟩ ⟨Nat.le_of_ble_eq_true rfl, Nat.le_of_ble_eq_true rfl⟩ rfl rfl (Nat.le_of_ble_eq_true rfl) dX5_gives_102 (st' := [.int ((gi 0 K p (s (20 + 4 * p + 2)) x t).1)]) rfl (fun _ e102 => ?_)
  subst e102
  exact g_iretWv h hE dX5_gives_105 (by first | (simp [gi, gi0]; done) | (simp_all [gi, gi0]; done)) (trW_eq (by first | (simp [gi, gi0]; done) | (simp_all [gi, gi0]; done)) rfl)
set_option maxHeartbeats 4000000 in
set_option maxRecDepth 100000 in
theorem m5_gives_6u (l : Launch) (D : va_G) (T : Nat → ClassId) (o : Nat) (a : Nat → Nat) (s : Nat → Int32) (S : Nat → Nat → Int32) (p : Nat) (t : TR) (b : Bool) (x : Int32) (K : Nat) (h0 : t.2 ≤ 30) (h1 : p < 6) (h2 : s (20 + 4 * p) = nI K) (h3 : K ≤ 6) : MetW l D T yX5_gives cX5_gives 3 (some .int) 9 197 0 0 [.ref o, .int (nI 6), .int x] (mW T o a s (trS S p t b)) (fun r_ w_ => r_ = some (.int ((gi 6 K p (s (20 + 4 * p + 2)) x t).1)) ∧ (w_ = mW T o a s (trS S p ((gi 6 K p (s (20 + 4 * p + 2)) x t).2) b))) := by
  refine metW (own := RX5) rfl (by decide) rfl (fun X h hl hDx hTx hnm hE => ?_)
  subst hl; subst hDx; subst hTx
  show G X 0 0 (mW (xT X) o a s (trS S p t b)) 0 [(0, .ref o), (1, .int (nI 6)), (2, .int x)] []
  refine g_iload_n h dX5_gives_0 rfl ?_
  refine g_tableOut h 96 dX5_gives_1 (by decide) (by decide) ?_
  refine g_aload_n h dX5_gives_96 rfl ?_
  refine g_iload_n h dX5_gives_97 rfl ?_
  refine g_callSR h (m5_above_6 _ _ _ ) (fun _ q => nomatch q) (lw_S q1781 q1782 q95 q1783) gy_X5_above ⟨Nat.le_of_ble_eq_true rfl, Nat.le_of_ble_eq_true rfl⟩ ⟨Nat.le_of_ble_eq_true rfl, Nat.le_of_ble_eq_true rfl⟩ rfl rfl (Nat.le_of_ble_eq_true rfl) dX5_gives_98 ?_
  refine g_iload_n h dX5_gives_101 rfl ?_
  refine g_callVW0 h hE (m5_gives_1 _ _ _ o a s S p t b x K (by repeat (first | assumption | apply ranT_le | apply cN_le | apply bu_le | apply bu0_le | apply gi_le | apply mi0_le | apply mi1_le)) (by first | assumption | omega) (by assumption) (by assumption)) 0 rfl rfl (lw_V q1788 q1790 qs85 q95 q1791) gy_X5_gives ⟨Nat.le_of_ble_eq_true rfl, Nat.le_of_ble_eq_true rfl⟩ ⟨Nat.le_of_ble_eq_true rfl, Nat.le_of_ble_eq_true rfl⟩ rfl rfl (Nat.le_of_ble_eq_true rfl) dX5_gives_102 (st' := [.int ((gi 1 K p (s (20 + 4 * p + 2)) x t).1)]) rfl (fun _ e102 => ?_)
  subst e102
  exact g_iretWv h hE dX5_gives_105 (by first | (simp [gi, gi0]; done) | (simp_all [gi, gi0]; done)) (trW_eq (by first | (simp [gi, gi0]; done) | (simp_all [gi, gi0]; done)) rfl)
set_option maxRecDepth 100000 in
theorem m5_gives_g (l : Launch) (D : va_G) (T : Nat → ClassId) (o : Nat) (a : Nat → Nat) (s : Nat → Int32) (S : Nat → Nat → Int32) (p : Nat) (t : TR) (b : Bool) (x : Int32) (K : Nat) (L : Nat) (h0 : t.2 ≤ 30) (h1 : p < 6) (h2 : s (20 + 4 * p) = nI K) (h3 : K ≤ 6) (h4 : L ≤ 6) : MetW l D T yX5_gives cX5_gives 3 (some .int) 9 197 0 0 [.ref o, .int (nI L), .int x] (mW T o a s (trS S p t b)) (fun r_ w_ => r_ = some (.int ((gi L K p (s (20 + 4 * p + 2)) x t).1)) ∧ (w_ = mW T o a s (trS S p ((gi L K p (s (20 + 4 * p + 2)) x t).2) b))) := by
  rcases (show L = 0 ∨ L = 1 ∨ L = 2 ∨ L = 3 ∨ L = 4 ∨ L = 5 ∨ L = 6 by omega) with rfl | rfl | rfl | rfl | rfl | rfl | rfl
  · exact m5_gives_0u l D T o a s S p t b x K h0 h1 h2 h3
  · exact m5_gives_1u l D T o a s S p t b x K h0 h1 h2 h3
  · exact m5_gives_2u l D T o a s S p t b x K h0 h1 h2 h3
  · exact m5_gives_3u l D T o a s S p t b x K h0 h1 h2 h3
  · exact m5_gives_4u l D T o a s S p t b x K h0 h1 h2 h3
  · exact m5_gives_5u l D T o a s S p t b x K h0 h1 h2 h3
  · exact m5_gives_6u l D T o a s S p t b x K h0 h1 h2 h3
set_option maxHeartbeats 4000000 in
set_option maxRecDepth 100000 in
theorem m5_minds_0 (l : Launch) (D : va_G) (T : Nat → ClassId) (o : Nat) (a : Nat → Nat) (s : Nat → Int32) (S : Nat → Nat → Int32) (p : Nat) (t : TR) (b : Bool) (x : Int32) (K : Nat) (h0 : t.2 ≤ 30) (h1 : p < 6) (h2 : s (20 + 4 * p) = nI K) (h3 : K ≤ 6) : MetW l D T yX5_minds cX5_minds 5 (some .int) 2 42 0 0 [.ref o, .int (nI 0), .int x] (mW T o a s (trS S p t b)) (fun r_ w_ => r_ = some (.int ((mi 0 K p (s (20 + 4 * p + 2)) x t).2.1)) ∧ (w_ = mW T o a s (trS S p ((mi 0 K p (s (20 + 4 * p + 2)) x t).2.2) ((mi 0 K p (s (20 + 4 * p + 2)) x t).1)))) := by
  refine metW (own := RX5) rfl (by decide) rfl (fun X h hl hDx hTx hnm hE => ?_)
  subst hl; subst hDx; subst hTx
  show G X 0 0 (mW (xT X) o a s (trS S p t b)) 0 [(0, .ref o), (1, .int (nI 0)), (2, .int x)] []
  refine g_iconst (v := nI 0) h dX5_minds_0 (by decide) ?_
  refine g_istore_n (lv' := [(0, .ref o), (1, .int (nI 0)), (2, .int x), (3, .int (nI 0))]) h dX5_minds_1 (by decide) rfl ?_
  refine g_iload_n h dX5_minds_2 rfl ?_
  refine g_lookup h 36 dX5_minds_3 (by decide) (by rfl) (by decide) ?_
  refine g_aload_n h dX5_minds_36 rfl ?_
  refine g_bipush (v := nI 13) h dX5_minds_37 (by decide) ?_
  refine g_callVW0 h hE (m5_begins _ _ _ o a s S p t b 13 (by repeat (first | assumption | apply ranT_le | apply cN_le | apply bu_le | apply bu0_le | apply gi_le | apply mi0_le | apply mi1_le))) 0 rfl rfl (lw_V q1777 q1779 qs83 q95 q1780) gy_X5_begins ⟨Nat.le_of_ble_eq_true rfl, Nat.le_of_ble_eq_true rfl⟩ ⟨Nat.le_of_ble_eq_true rfl, Nat.le_of_ble_eq_true rfl⟩ rfl rfl (Nat.le_of_ble_eq_true rfl) dX5_minds_39 (st' := []) rfl (fun _ e39 => ?_)
  subst e39
  refine g_aload_n h dX5_minds_42 rfl ?_
  refine g_callVR h (m5_partNow _ _ _ o a s S p (ranT 13 t) b (by first | assumption | omega)) (fun _ q => q) 0 rfl rfl (lw_V q1792 q1794 qs86 q95 q1795) gy_X5_partNow ⟨Nat.le_of_ble_eq_true rfl, Nat.le_of_ble_eq_true rfl⟩ ⟨Nat.le_of_ble_eq_true rfl, Nat.le_of_ble_eq_true rfl⟩ rfl rfl (Nat.le_of_ble_eq_true rfl) dX5_minds_43 ?_
  refine g_aload_n h dX5_minds_46 rfl ?_
  refine g_get h in_X5 0 rfl rfl 14 rfl q1388 rfl rfl dX5_minds_47 ?_
  show G X 0 0 (mW (xT X) o a s (trS S p (ranT 13 t) b)) 50 [(0, .ref o), (1, .int (nI 0)), (2, .int x), (3, .int (nI 0))] [.int (nI p), .int (s (20 + 4 * p + 2))]
  refine g_isub h dX5_minds_50 ?_
  refine g_istore (lv' := [(0, .ref o), (1, .int (nI 0)), (2, .int x), (3, .int (nI 0)), (4, .int ((s (20 + 4 * p + 2)) - (nI p)))]) h dX5_minds_51 (by decide) rfl ?_
  refine g_aload_n h dX5_minds_53 rfl ?_
  refine g_iload h dX5_minds_54 rfl ?_
  refine g_if_ne h 63 dX5_minds_56 (by decide) (fun c56 => ?_) (fun c56 => ?_)
  · skip
    show G X 0 0 (mW (xT X) o a s (trS S p (ranT 13 t) b)) 63 [(0, .ref o), (1, .int (nI 0)), (2, .int x), (3, .int (nI 0)), (4, .int ((s (20 + 4 * p + 2)) - (nI p)))] [.ref o]
    refine g_iconst (v := nI 0) h dX5_minds_63 (by decide) ?_
    refine g_put (ws' := mW (xT X) o a s (trS S p (ranT 13 t) false)) h hE.1 in_X5 tyX5 tyX5_ok nmX5 0 rfl rfl 15 rfl q1389 rfl rfl rfl rfl rfl rfl dX5_minds_64 rfl ?_
    refine g_iload h dX5_minds_67 rfl ?_
    refine g_if_ne h 76 dX5_minds_69 (by decide) (fun c69 => ?_) (fun c69 => ?_)
    · skip
      show G X 0 0 (mW (xT X) o a s (trS S p (ranT 13 t) false)) 76 [(0, .ref o), (1, .int (nI 0)), (2, .int x), (3, .int (nI 0)), (4, .int ((s (20 + 4 * p + 2)) - (nI p)))] []
      refine g_iload h dX5_minds_76 rfl ?_
      refine g_iconst (v := -1) h dX5_minds_78 (by decide) ?_
      refine g_icmp_ne h 87 dX5_minds_79 (by decide) (fun c79 => ?_) (fun c79 => ?_)
      · skip
        show G X 0 0 (mW (xT X) o a s (trS S p (ranT 13 t) false)) 87 [(0, .ref o), (1, .int (nI 0)), (2, .int x), (3, .int (nI 0)), (4, .int ((s (20 + 4 * p + 2)) - (nI p)))] []
        refine g_iload_n h dX5_minds_87 rfl ?_
        refine g_iload h dX5_minds_88 rfl ?_
        refine g_idiv h dX5_minds_90 (by assumption) ?_
        exact g_iretWv h hE dX5_minds_91 (by first | (simp [mi, mi0, mi1, mi6, bI, c56, c69, c79]; done) | (simp_all [mi, mi0, mi1, mi6, bI, c56, c69, c79]; done)) (trW_eq (by first | (simp [mi, mi0, mi1, mi6, bI, c56, c69, c79]; done) | (simp_all [mi, mi0, mi1, mi6, bI, c56, c69, c79]; done)) (by first | (simp [mi, mi0, mi1, mi6, bI, c56, c69, c79]; done) | (simp_all [mi, mi0, mi1, mi6, bI, c56, c69, c79]; done)))
      · skip
        show G X 0 0 (mW (xT X) o a s (trS S p (ranT 13 t) false)) 82 [(0, .ref o), (1, .int (nI 0)), (2, .int x), (3, .int (nI 0)), (4, .int ((s (20 + 4 * p + 2)) - (nI p)))] []
        refine g_iload_n h dX5_minds_82 rfl ?_
        refine g_ineg h dX5_minds_83 ?_
        refine g_goto h 91 dX5_minds_84 (by decide) ?_
        exact g_iretWv h hE dX5_minds_91 (by first | (simp [mi, mi0, mi1, mi6, bI, c56, c69, c79]; done) | (simp_all [mi, mi0, mi1, mi6, bI, c56, c69, c79]; done)) (trW_eq (by first | (simp [mi, mi0, mi1, mi6, bI, c56, c69, c79]; done) | (simp_all [mi, mi0, mi1, mi6, bI, c56, c69, c79]; done)) (by first | (simp [mi, mi0, mi1, mi6, bI, c56, c69, c79]; done) | (simp_all [mi, mi0, mi1, mi6, bI, c56, c69, c79]; done)))
    · skip
      show G X 0 0 (mW (xT X) o a s (trS S p (ranT 13 t) false)) 72 [(0, .ref o), (1, .int (nI 0)), (2, .int x), (3, .int (nI 0)), (4, .int ((s (20 + 4 * p + 2)) - (nI p)))] []
      exact absurd c69 c56
  · skip
    show G X 0 0 (mW (xT X) o a s (trS S p (ranT 13 t) b)) 59 [(0, .ref o), (1, .int (nI 0)), (2, .int x), (3, .int (nI 0)), (4, .int ((s (20 + 4 * p + 2)) - (nI p)))] [.ref o]
    refine g_iconst (v := nI 1) h dX5_minds_59 (by decide) ?_
    refine g_goto h 64 dX5_minds_60 (by decide) ?_
    refine g_put (ws' := mW (xT X) o a s (trS S p (ranT 13 t) true)) h hE.1 in_X5 tyX5 tyX5_ok nmX5 0 rfl rfl 15 rfl q1389 rfl rfl rfl rfl rfl rfl dX5_minds_64 rfl ?_
    refine g_iload h dX5_minds_67 rfl ?_
    refine g_if_ne h 76 dX5_minds_69 (by decide) (fun c69 => ?_) (fun c69 => ?_)
    · skip
      show G X 0 0 (mW (xT X) o a s (trS S p (ranT 13 t) true)) 76 [(0, .ref o), (1, .int (nI 0)), (2, .int x), (3, .int (nI 0)), (4, .int ((s (20 + 4 * p + 2)) - (nI p)))] []
      exact absurd c56 c69
    · skip
      show G X 0 0 (mW (xT X) o a s (trS S p (ranT 13 t) true)) 72 [(0, .ref o), (1, .int (nI 0)), (2, .int x), (3, .int (nI 0)), (4, .int ((s (20 + 4 * p + 2)) - (nI p)))] []
      refine g_iconst (v := nI 0) h dX5_minds_72 (by decide) ?_
      refine g_goto h 91 dX5_minds_73 (by decide) ?_
      refine g_toI (y := 0) rfl ?_
      exact g_iretWv h hE dX5_minds_91 (by first | (simp [mi, mi0, mi1, mi6, bI, c56, c69]; done) | (simp_all [mi, mi0, mi1, mi6, bI, c56, c69]; done)) (trW_eq (by first | (simp [mi, mi0, mi1, mi6, bI, c56, c69]; done) | (simp_all [mi, mi0, mi1, mi6, bI, c56, c69]; done)) (by first | (simp [mi, mi0, mi1, mi6, bI, c56, c69]; done) | (simp_all [mi, mi0, mi1, mi6, bI, c56, c69]; done)))
set_option maxHeartbeats 4000000 in
set_option maxRecDepth 100000 in
theorem m5_minds_1 (l : Launch) (D : va_G) (T : Nat → ClassId) (o : Nat) (a : Nat → Nat) (s : Nat → Int32) (S : Nat → Nat → Int32) (p : Nat) (t : TR) (b : Bool) (x : Int32) (K : Nat) (h0 : t.2 ≤ 30) (h1 : p < 6) (h2 : s (20 + 4 * p) = nI K) (h3 : K ≤ 6) : MetW l D T yX5_minds cX5_minds 5 (some .int) 7 153 0 0 [.ref o, .int (nI 1), .int x] (mW T o a s (trS S p t b)) (fun r_ w_ => r_ = some (.int ((mi 1 K p (s (20 + 4 * p + 2)) x t).2.1)) ∧ (w_ = mW T o a s (trS S p ((mi 1 K p (s (20 + 4 * p + 2)) x t).2.2) ((mi 1 K p (s (20 + 4 * p + 2)) x t).1)))) := by
  refine metW (own := RX5) rfl (by decide) rfl (fun X h hl hDx hTx hnm hE => ?_)
  subst hl; subst hDx; subst hTx
  show G X 0 0 (mW (xT X) o a s (trS S p t b)) 0 [(0, .ref o), (1, .int (nI 1)), (2, .int x)] []
  refine g_iconst (v := nI 0) h dX5_minds_0 (by decide) ?_
  refine g_istore_n (lv' := [(0, .ref o), (1, .int (nI 1)), (2, .int x), (3, .int (nI 0))]) h dX5_minds_1 (by decide) rfl ?_
  refine g_iload_n h dX5_minds_2 rfl ?_
  refine g_lookup h 92 dX5_minds_3 (by decide) (by rfl) (by decide) ?_
  refine g_aload_n h dX5_minds_92 rfl ?_
  refine g_bipush (v := nI 21) h dX5_minds_93 (by decide) ?_
  refine g_callVW0 h hE (m5_begins _ _ _ o a s S p t b 21 (by repeat (first | assumption | apply ranT_le | apply cN_le | apply bu_le | apply bu0_le | apply gi_le | apply mi0_le | apply mi1_le))) 0 rfl rfl (lw_V q1777 q1779 qs83 q95 q1780) gy_X5_begins ⟨Nat.le_of_ble_eq_true rfl, Nat.le_of_ble_eq_true rfl⟩ ⟨Nat.le_of_ble_eq_true rfl, Nat.le_of_ble_eq_true rfl⟩ rfl rfl (Nat.le_of_ble_eq_true rfl) dX5_minds_95 (st' := []) rfl (fun _ e95 => ?_)
  subst e95
  refine g_aload_n h dX5_minds_98 rfl ?_
  refine g_iconst (v := nI 1) h dX5_minds_99 (by decide) ?_
  refine g_callSR h (m5_above_1 _ _ _ ) (fun _ q => nomatch q) (lw_S q1781 q1782 q95 q1783) gy_X5_above ⟨Nat.le_of_ble_eq_true rfl, Nat.le_of_ble_eq_true rfl⟩ ⟨Nat.le_of_ble_eq_true rfl, Nat.le_of_ble_eq_true rfl⟩ rfl rfl (Nat.le_of_ble_eq_true rfl) dX5_minds_100 ?_
  refine g_iload_n h dX5_minds_103 rfl ?_
  refine g_callVW0 h hE (m5_minds_0 _ _ _ o a s S p (ranT 21 t) b x K (by repeat (first | assumption | apply ranT_le | apply cN_le | apply bu_le | apply bu0_le | apply gi_le | apply mi0_le | apply mi1_le)) (by first | assumption | omega) (by assumption) (by assumption)) 0 rfl rfl (lw_V q1796 q1798 qs87 q95 q1799) gy_X5_minds ⟨Nat.le_of_ble_eq_true rfl, Nat.le_of_ble_eq_true rfl⟩ ⟨Nat.le_of_ble_eq_true rfl, Nat.le_of_ble_eq_true rfl⟩ rfl rfl (Nat.le_of_ble_eq_true rfl) dX5_minds_104 (st' := [.int ((mi 0 K p (s (20 + 4 * p + 2)) x (ranT 21 t)).2.1)]) rfl (fun _ e104 => ?_)
  subst e104
  refine g_istore_n (lv' := [(0, .ref o), (1, .int (nI 1)), (2, .int x), (3, .int ((mi 0 K p (s (20 + 4 * p + 2)) x (ranT 21 t)).2.1))]) h dX5_minds_107 (by decide) rfl ?_
  refine g_aload_n h dX5_minds_108 rfl ?_
  refine g_get h in_X5 0 rfl rfl 15 rfl q1389 rfl rfl dX5_minds_109 ?_
  show G X 0 0 (mW (xT X) o a s (trS S p ((mi 0 K p (s (20 + 4 * p + 2)) x (ranT 21 t)).2.2) ((mi 0 K p (s (20 + 4 * p + 2)) x (ranT 21 t)).1))) 112 [(0, .ref o), (1, .int (nI 1)), (2, .int x), (3, .int ((mi 0 K p (s (20 + 4 * p + 2)) x (ranT 21 t)).2.1))] [.int (bI ((mi 0 K p (s (20 + 4 * p + 2)) x (ranT 21 t)).1))]
  refine g_if_eqB h 119 dX5_minds_112 (by decide) (fun c112 => ?_) (fun c112 => ?_)
  · skip
    show G X 0 0 (mW (xT X) o a s (trS S p ((mi 0 K p (s (20 + 4 * p + 2)) x (ranT 21 t)).2.2) ((mi 0 K p (s (20 + 4 * p + 2)) x (ranT 21 t)).1))) 119 [(0, .ref o), (1, .int (nI 1)), (2, .int x), (3, .int ((mi 0 K p (s (20 + 4 * p + 2)) x (ranT 21 t)).2.1))] []
    refine g_iload_n h dX5_minds_119 rfl ?_
    refine g_aload_n h dX5_minds_120 rfl ?_
    refine g_aload_n h dX5_minds_121 rfl ?_
    refine g_callVR h (m5_kindNow _ _ _ o a s S p ((mi 0 K p (s (20 + 4 * p + 2)) x (ranT 21 t)).2.2) ((mi 0 K p (s (20 + 4 * p + 2)) x (ranT 21 t)).1) (by first | assumption | omega)) (fun _ q => q) 0 rfl rfl (lw_V q1769 q1771 qs81 q95 q1772) gy_X5_kindNow ⟨Nat.le_of_ble_eq_true rfl, Nat.le_of_ble_eq_true rfl⟩ ⟨Nat.le_of_ble_eq_true rfl, Nat.le_of_ble_eq_true rfl⟩ rfl rfl (Nat.le_of_ble_eq_true rfl) dX5_minds_122 ?_
    refine g_toN (a := K) h2 ?_
    refine g_iconst (v := nI 1) h dX5_minds_125 (by decide) ?_
    refine g_callVW0 h hE (m5_buys_g _ _ _ o a s S p ((mi 0 K p (s (20 + 4 * p + 2)) x (ranT 21 t)).2.2) ((mi 0 K p (s (20 + 4 * p + 2)) x (ranT 21 t)).1) 1 K K (by repeat (first | assumption | apply ranT_le | apply cN_le | apply bu_le | apply bu0_le | apply gi_le | apply mi0_le | apply mi1_le)) (by first | assumption | omega) (by assumption) (by assumption) (by first | assumption | omega)) 0 rfl rfl (lw_V q1784 q1786 qs84 q95 q1787) gy_X5_buys ⟨Nat.le_of_ble_eq_true rfl, Nat.le_of_ble_eq_true rfl⟩ ⟨Nat.le_of_ble_eq_true rfl, Nat.le_of_ble_eq_true rfl⟩ rfl rfl (Nat.le_of_ble_eq_true rfl) dX5_minds_126 (st' := [.int ((bu K K p 1 ((mi 0 K p (s (20 + 4 * p + 2)) x (ranT 21 t)).2.2)).1), .int ((mi 0 K p (s (20 + 4 * p + 2)) x (ranT 21 t)).2.1)]) rfl (fun _ e126 => ?_)
    subst e126
    refine g_iadd h dX5_minds_129 ?_
    exact g_iretWv h hE dX5_minds_130 (by first | (simp [mi, mi0, mi1, mi6, bI, c112]; done) | (simp_all [mi, mi0, mi1, mi6, bI, c112]; done)) (trW_eq (by first | (simp [mi, mi0, mi1, mi6, bI, c112]; done) | (simp_all [mi, mi0, mi1, mi6, bI, c112]; done)) (by first | (simp [mi, mi0, mi1, mi6, bI, c112]; done) | (simp_all [mi, mi0, mi1, mi6, bI, c112]; done)))
  · skip
    show G X 0 0 (mW (xT X) o a s (trS S p ((mi 0 K p (s (20 + 4 * p + 2)) x (ranT 21 t)).2.2) ((mi 0 K p (s (20 + 4 * p + 2)) x (ranT 21 t)).1))) 115 [(0, .ref o), (1, .int (nI 1)), (2, .int x), (3, .int ((mi 0 K p (s (20 + 4 * p + 2)) x (ranT 21 t)).2.1))] []
    refine g_iconst (v := nI 0) h dX5_minds_115 (by decide) ?_
    refine g_goto h 130 dX5_minds_116 (by decide) ?_
    refine g_toI (y := 0) rfl ?_
    exact g_iretWv h hE dX5_minds_130 (by first | (simp [mi, mi0, mi1, mi6, bI, c112]; done) | (simp_all [mi, mi0, mi1, mi6, bI, c112]; done)) (trW_eq (by first | (simp [mi, mi0, mi1, mi6, bI, c112]; done) | (simp_all [mi, mi0, mi1, mi6, bI, c112]; done)) (by first | (simp [mi, mi0, mi1, mi6, bI, c112]; done) | (simp_all [mi, mi0, mi1, mi6, bI, c112]; done)))
set_option maxHeartbeats 4000000 in
set_option maxRecDepth 100000 in
theorem m5_minds_2 (l : Launch) (D : va_G) (T : Nat → ClassId) (o : Nat) (a : Nat → Nat) (s : Nat → Int32) (S : Nat → Nat → Int32) (p : Nat) (t : TR) (b : Bool) (x : Int32) (K : Nat) (h0 : t.2 ≤ 30) (h1 : p < 6) (h2 : s (20 + 4 * p) = nI K) (h3 : K ≤ 6) : MetW l D T yX5_minds cX5_minds 5 (some .int) 8 177 0 0 [.ref o, .int (nI 2), .int x] (mW T o a s (trS S p t b)) (fun r_ w_ => r_ = some (.int ((mi 2 K p (s (20 + 4 * p + 2)) x t).2.1)) ∧ (w_ = mW T o a s (trS S p ((mi 2 K p (s (20 + 4 * p + 2)) x t).2.2) ((mi 2 K p (s (20 + 4 * p + 2)) x t).1)))) := by
  refine metW (own := RX5) rfl (by decide) rfl (fun X h hl hDx hTx hnm hE => ?_)
  subst hl; subst hDx; subst hTx
  show G X 0 0 (mW (xT X) o a s (trS S p t b)) 0 [(0, .ref o), (1, .int (nI 2)), (2, .int x)] []
  refine g_iconst (v := nI 0) h dX5_minds_0 (by decide) ?_
  refine g_istore_n (lv' := [(0, .ref o), (1, .int (nI 2)), (2, .int x), (3, .int (nI 0))]) h dX5_minds_1 (by decide) rfl ?_
  refine g_iload_n h dX5_minds_2 rfl ?_
  refine g_lookup h 171 dX5_minds_3 (by decide) (by rfl) (by decide) ?_
  refine g_aload_n h dX5_minds_171 rfl ?_
  refine g_iload_n h dX5_minds_172 rfl ?_
  refine g_callSR h (m5_above_2 _ _ _ ) (fun _ q => nomatch q) (lw_S q1781 q1782 q95 q1783) gy_X5_above ⟨Nat.le_of_ble_eq_true rfl, Nat.le_of_ble_eq_true rfl⟩ ⟨Nat.le_of_ble_eq_true rfl, Nat.le_of_ble_eq_true rfl⟩ rfl rfl (Nat.le_of_ble_eq_true rfl) dX5_minds_173 ?_
  refine g_iload_n h dX5_minds_176 rfl ?_
  refine g_callVW0 h hE (m5_minds_1 _ _ _ o a s S p t b x K (by repeat (first | assumption | apply ranT_le | apply cN_le | apply bu_le | apply bu0_le | apply gi_le | apply mi0_le | apply mi1_le)) (by first | assumption | omega) (by assumption) (by assumption)) 0 rfl rfl (lw_V q1796 q1798 qs87 q95 q1799) gy_X5_minds ⟨Nat.le_of_ble_eq_true rfl, Nat.le_of_ble_eq_true rfl⟩ ⟨Nat.le_of_ble_eq_true rfl, Nat.le_of_ble_eq_true rfl⟩ rfl rfl (Nat.le_of_ble_eq_true rfl) dX5_minds_177 (st' := [.int ((mi 1 K p (s (20 + 4 * p + 2)) x t).2.1)]) rfl (fun _ e177 => ?_)
  subst e177
  exact g_iretWv h hE dX5_minds_180 (by first | (simp [mi, mi0, mi1, mi6, bI]; done) | (simp_all [mi, mi0, mi1, mi6, bI]; done)) (trW_eq (by first | (simp [mi, mi0, mi1, mi6, bI]; done) | (simp_all [mi, mi0, mi1, mi6, bI]; done)) (by first | (simp [mi, mi0, mi1, mi6, bI]; done) | (simp_all [mi, mi0, mi1, mi6, bI]; done)))
set_option maxHeartbeats 4000000 in
set_option maxRecDepth 100000 in
theorem m5_minds_3 (l : Launch) (D : va_G) (T : Nat → ClassId) (o : Nat) (a : Nat → Nat) (s : Nat → Int32) (S : Nat → Nat → Int32) (p : Nat) (t : TR) (b : Bool) (x : Int32) (K : Nat) (h0 : t.2 ≤ 30) (h1 : p < 6) (h2 : s (20 + 4 * p) = nI K) (h3 : K ≤ 6) : MetW l D T yX5_minds cX5_minds 5 (some .int) 8 177 0 0 [.ref o, .int (nI 3), .int x] (mW T o a s (trS S p t b)) (fun r_ w_ => r_ = some (.int ((mi 3 K p (s (20 + 4 * p + 2)) x t).2.1)) ∧ (w_ = mW T o a s (trS S p ((mi 3 K p (s (20 + 4 * p + 2)) x t).2.2) ((mi 3 K p (s (20 + 4 * p + 2)) x t).1)))) := by
  refine metW (own := RX5) rfl (by decide) rfl (fun X h hl hDx hTx hnm hE => ?_)
  subst hl; subst hDx; subst hTx
  show G X 0 0 (mW (xT X) o a s (trS S p t b)) 0 [(0, .ref o), (1, .int (nI 3)), (2, .int x)] []
  refine g_iconst (v := nI 0) h dX5_minds_0 (by decide) ?_
  refine g_istore_n (lv' := [(0, .ref o), (1, .int (nI 3)), (2, .int x), (3, .int (nI 0))]) h dX5_minds_1 (by decide) rfl ?_
  refine g_iload_n h dX5_minds_2 rfl ?_
  refine g_lookup h 171 dX5_minds_3 (by decide) (by rfl) (by decide) ?_
  refine g_aload_n h dX5_minds_171 rfl ?_
  refine g_iload_n h dX5_minds_172 rfl ?_
  refine g_callSR h (m5_above_3 _ _ _ ) (fun _ q => nomatch q) (lw_S q1781 q1782 q95 q1783) gy_X5_above ⟨Nat.le_of_ble_eq_true rfl, Nat.le_of_ble_eq_true rfl⟩ ⟨Nat.le_of_ble_eq_true rfl, Nat.le_of_ble_eq_true rfl⟩ rfl rfl (Nat.le_of_ble_eq_true rfl) dX5_minds_173 ?_
  refine g_iload_n h dX5_minds_176 rfl ?_
  refine g_callVW0 h hE (m5_minds_1 _ _ _ o a s S p t b x K (by repeat (first | assumption | apply ranT_le | apply cN_le | apply bu_le | apply bu0_le | apply gi_le | apply mi0_le | apply mi1_le)) (by first | assumption | omega) (by assumption) (by assumption)) 0 rfl rfl (lw_V q1796 q1798 qs87 q95 q1799) gy_X5_minds ⟨Nat.le_of_ble_eq_true rfl, Nat.le_of_ble_eq_true rfl⟩ ⟨Nat.le_of_ble_eq_true rfl, Nat.le_of_ble_eq_true rfl⟩ rfl rfl (Nat.le_of_ble_eq_true rfl) dX5_minds_177 (st' := [.int ((mi 1 K p (s (20 + 4 * p + 2)) x t).2.1)]) rfl (fun _ e177 => ?_)
  subst e177
  exact g_iretWv h hE dX5_minds_180 (by first | (simp [mi, mi0, mi1, mi6, bI]; done) | (simp_all [mi, mi0, mi1, mi6, bI]; done)) (trW_eq (by first | (simp [mi, mi0, mi1, mi6, bI]; done) | (simp_all [mi, mi0, mi1, mi6, bI]; done)) (by first | (simp [mi, mi0, mi1, mi6, bI]; done) | (simp_all [mi, mi0, mi1, mi6, bI]; done)))
set_option maxHeartbeats 4000000 in
set_option maxRecDepth 100000 in
theorem m5_minds_4 (l : Launch) (D : va_G) (T : Nat → ClassId) (o : Nat) (a : Nat → Nat) (s : Nat → Int32) (S : Nat → Nat → Int32) (p : Nat) (t : TR) (b : Bool) (x : Int32) (K : Nat) (h0 : t.2 ≤ 30) (h1 : p < 6) (h2 : s (20 + 4 * p) = nI K) (h3 : K ≤ 6) : MetW l D T yX5_minds cX5_minds 5 (some .int) 3 66 0 0 [.ref o, .int (nI 4), .int x] (mW T o a s (trS S p t b)) (fun r_ w_ => r_ = some (.int ((mi 4 K p (s (20 + 4 * p + 2)) x t).2.1)) ∧ (w_ = mW T o a s (trS S p ((mi 4 K p (s (20 + 4 * p + 2)) x t).2.2) ((mi 4 K p (s (20 + 4 * p + 2)) x t).1)))) := by
  refine metW (own := RX5) rfl (by decide) rfl (fun X h hl hDx hTx hnm hE => ?_)
  subst hl; subst hDx; subst hTx
  show G X 0 0 (mW (xT X) o a s (trS S p t b)) 0 [(0, .ref o), (1, .int (nI 4)), (2, .int x)] []
  refine g_iconst (v := nI 0) h dX5_minds_0 (by decide) ?_
  refine g_istore_n (lv' := [(0, .ref o), (1, .int (nI 4)), (2, .int x), (3, .int (nI 0))]) h dX5_minds_1 (by decide) rfl ?_
  refine g_iload_n h dX5_minds_2 rfl ?_
  refine g_lookup h 171 dX5_minds_3 (by decide) (by rfl) (by decide) ?_
  refine g_aload_n h dX5_minds_171 rfl ?_
  refine g_iload_n h dX5_minds_172 rfl ?_
  refine g_callSR h (m5_above_4 _ _ _ ) (fun _ q => nomatch q) (lw_S q1781 q1782 q95 q1783) gy_X5_above ⟨Nat.le_of_ble_eq_true rfl, Nat.le_of_ble_eq_true rfl⟩ ⟨Nat.le_of_ble_eq_true rfl, Nat.le_of_ble_eq_true rfl⟩ rfl rfl (Nat.le_of_ble_eq_true rfl) dX5_minds_173 ?_
  refine g_iload_n h dX5_minds_176 rfl ?_
  refine g_callVW0 h hE (m5_minds_0 _ _ _ o a s S p t b x K (by repeat (first | assumption | apply ranT_le | apply cN_le | apply bu_le | apply bu0_le | apply gi_le | apply mi0_le | apply mi1_le)) (by first | assumption | omega) (by assumption) (by assumption)) 0 rfl rfl (lw_V q1796 q1798 qs87 q95 q1799) gy_X5_minds ⟨Nat.le_of_ble_eq_true rfl, Nat.le_of_ble_eq_true rfl⟩ ⟨Nat.le_of_ble_eq_true rfl, Nat.le_of_ble_eq_true rfl⟩ rfl rfl (Nat.le_of_ble_eq_true rfl) dX5_minds_177 (st' := [.int ((mi 0 K p (s (20 + 4 * p + 2)) x t).2.1)]) rfl (fun _ e177 => ?_)
  subst e177
  exact g_iretWv h hE dX5_minds_180 (by first | (simp [mi, mi0, mi1, mi6, bI]; done) | (simp_all [mi, mi0, mi1, mi6, bI]; done)) (trW_eq (by first | (simp [mi, mi0, mi1, mi6, bI]; done) | (simp_all [mi, mi0, mi1, mi6, bI]; done)) (by first | (simp [mi, mi0, mi1, mi6, bI]; done) | (simp_all [mi, mi0, mi1, mi6, bI]; done)))
set_option maxHeartbeats 4000000 in
set_option maxRecDepth 100000 in
theorem m5_minds_5 (l : Launch) (D : va_G) (T : Nat → ClassId) (o : Nat) (a : Nat → Nat) (s : Nat → Int32) (S : Nat → Nat → Int32) (p : Nat) (t : TR) (b : Bool) (x : Int32) (K : Nat) (h0 : t.2 ≤ 30) (h1 : p < 6) (h2 : s (20 + 4 * p) = nI K) (h3 : K ≤ 6) : MetW l D T yX5_minds cX5_minds 5 (some .int) 3 66 0 0 [.ref o, .int (nI 5), .int x] (mW T o a s (trS S p t b)) (fun r_ w_ => r_ = some (.int ((mi 5 K p (s (20 + 4 * p + 2)) x t).2.1)) ∧ (w_ = mW T o a s (trS S p ((mi 5 K p (s (20 + 4 * p + 2)) x t).2.2) ((mi 5 K p (s (20 + 4 * p + 2)) x t).1)))) := by
  refine metW (own := RX5) rfl (by decide) rfl (fun X h hl hDx hTx hnm hE => ?_)
  subst hl; subst hDx; subst hTx
  show G X 0 0 (mW (xT X) o a s (trS S p t b)) 0 [(0, .ref o), (1, .int (nI 5)), (2, .int x)] []
  refine g_iconst (v := nI 0) h dX5_minds_0 (by decide) ?_
  refine g_istore_n (lv' := [(0, .ref o), (1, .int (nI 5)), (2, .int x), (3, .int (nI 0))]) h dX5_minds_1 (by decide) rfl ?_
  refine g_iload_n h dX5_minds_2 rfl ?_
  refine g_lookup h 171 dX5_minds_3 (by decide) (by rfl) (by decide) ?_
  refine g_aload_n h dX5_minds_171 rfl ?_
  refine g_iload_n h dX5_minds_172 rfl ?_
  refine g_callSR h (m5_above_5 _ _ _ ) (fun _ q => nomatch q) (lw_S q1781 q1782 q95 q1783) gy_X5_above ⟨Nat.le_of_ble_eq_true rfl, Nat.le_of_ble_eq_true rfl⟩ ⟨Nat.le_of_ble_eq_true rfl, Nat.le_of_ble_eq_true rfl⟩ rfl rfl (Nat.le_of_ble_eq_true rfl) dX5_minds_173 ?_
  refine g_iload_n h dX5_minds_176 rfl ?_
  refine g_callVW0 h hE (m5_minds_0 _ _ _ o a s S p t b x K (by repeat (first | assumption | apply ranT_le | apply cN_le | apply bu_le | apply bu0_le | apply gi_le | apply mi0_le | apply mi1_le)) (by first | assumption | omega) (by assumption) (by assumption)) 0 rfl rfl (lw_V q1796 q1798 qs87 q95 q1799) gy_X5_minds ⟨Nat.le_of_ble_eq_true rfl, Nat.le_of_ble_eq_true rfl⟩ ⟨Nat.le_of_ble_eq_true rfl, Nat.le_of_ble_eq_true rfl⟩ rfl rfl (Nat.le_of_ble_eq_true rfl) dX5_minds_177 (st' := [.int ((mi 0 K p (s (20 + 4 * p + 2)) x t).2.1)]) rfl (fun _ e177 => ?_)
  subst e177
  exact g_iretWv h hE dX5_minds_180 (by first | (simp [mi, mi0, mi1, mi6, bI]; done) | (simp_all [mi, mi0, mi1, mi6, bI]; done)) (trW_eq (by first | (simp [mi, mi0, mi1, mi6, bI]; done) | (simp_all [mi, mi0, mi1, mi6, bI]; done)) (by first | (simp [mi, mi0, mi1, mi6, bI]; done) | (simp_all [mi, mi0, mi1, mi6, bI]; done)))
set_option maxHeartbeats 4000000 in
set_option maxRecDepth 100000 in
theorem m5_minds_6 (l : Launch) (D : va_G) (T : Nat → ClassId) (o : Nat) (a : Nat → Nat) (s : Nat → Int32) (S : Nat → Nat → Int32) (p : Nat) (t : TR) (b : Bool) (x : Int32) (K : Nat) (h0 : t.2 ≤ 30) (h1 : p < 6) (h2 : s (20 + 4 * p) = nI K) (h3 : K ≤ 6) : MetW l D T yX5_minds cX5_minds 5 (some .int) 10 219 0 0 [.ref o, .int (nI 6), .int x] (mW T o a s (trS S p t b)) (fun r_ w_ => r_ = some (.int ((mi 6 K p (s (20 + 4 * p + 2)) x t).2.1)) ∧ (w_ = mW T o a s (trS S p ((mi 6 K p (s (20 + 4 * p + 2)) x t).2.2) ((mi 6 K p (s (20 + 4 * p + 2)) x t).1)))) := by
  refine metW (own := RX5) rfl (by decide) rfl (fun X h hl hDx hTx hnm hE => ?_)
  subst hl; subst hDx; subst hTx
  show G X 0 0 (mW (xT X) o a s (trS S p t b)) 0 [(0, .ref o), (1, .int (nI 6)), (2, .int x)] []
  refine g_iconst (v := nI 0) h dX5_minds_0 (by decide) ?_
  refine g_istore_n (lv' := [(0, .ref o), (1, .int (nI 6)), (2, .int x), (3, .int (nI 0))]) h dX5_minds_1 (by decide) rfl ?_
  refine g_iload_n h dX5_minds_2 rfl ?_
  refine g_lookup h 131 dX5_minds_3 (by decide) (by rfl) (by decide) ?_
  refine g_aload_n h dX5_minds_131 rfl ?_
  refine g_bipush (v := nI 61) h dX5_minds_132 (by decide) ?_
  refine g_callVW0 h hE (m5_begins _ _ _ o a s S p t b 61 (by repeat (first | assumption | apply ranT_le | apply cN_le | apply bu_le | apply bu0_le | apply gi_le | apply mi0_le | apply mi1_le))) 0 rfl rfl (lw_V q1777 q1779 qs83 q95 q1780) gy_X5_begins ⟨Nat.le_of_ble_eq_true rfl, Nat.le_of_ble_eq_true rfl⟩ ⟨Nat.le_of_ble_eq_true rfl, Nat.le_of_ble_eq_true rfl⟩ rfl rfl (Nat.le_of_ble_eq_true rfl) dX5_minds_134 (st' := []) rfl (fun _ e134 => ?_)
  subst e134
  refine g_aload_n h dX5_minds_137 rfl ?_
  refine g_bipush (v := nI 6) h dX5_minds_138 (by decide) ?_
  refine g_callSR h (m5_above_6 _ _ _ ) (fun _ q => nomatch q) (lw_S q1781 q1782 q95 q1783) gy_X5_above ⟨Nat.le_of_ble_eq_true rfl, Nat.le_of_ble_eq_true rfl⟩ ⟨Nat.le_of_ble_eq_true rfl, Nat.le_of_ble_eq_true rfl⟩ rfl rfl (Nat.le_of_ble_eq_true rfl) dX5_minds_140 ?_
  refine g_iload_n h dX5_minds_143 rfl ?_
  refine g_callVW0 h hE (m5_minds_1 _ _ _ o a s S p (ranT 61 t) b x K (by repeat (first | assumption | apply ranT_le | apply cN_le | apply bu_le | apply bu0_le | apply gi_le | apply mi0_le | apply mi1_le)) (by first | assumption | omega) (by assumption) (by assumption)) 0 rfl rfl (lw_V q1796 q1798 qs87 q95 q1799) gy_X5_minds ⟨Nat.le_of_ble_eq_true rfl, Nat.le_of_ble_eq_true rfl⟩ ⟨Nat.le_of_ble_eq_true rfl, Nat.le_of_ble_eq_true rfl⟩ rfl rfl (Nat.le_of_ble_eq_true rfl) dX5_minds_144 (st' := [.int ((mi 1 K p (s (20 + 4 * p + 2)) x (ranT 61 t)).2.1)]) rfl (fun _ e144 => ?_)
  subst e144
  refine g_istore_n (lv' := [(0, .ref o), (1, .int (nI 6)), (2, .int x), (3, .int ((mi 1 K p (s (20 + 4 * p + 2)) x (ranT 61 t)).2.1))]) h dX5_minds_147 (by decide) rfl ?_
  refine g_aload_n h dX5_minds_148 rfl ?_
  refine g_get h in_X5 0 rfl rfl 15 rfl q1389 rfl rfl dX5_minds_149 ?_
  show G X 0 0 (mW (xT X) o a s (trS S p ((mi 1 K p (s (20 + 4 * p + 2)) x (ranT 61 t)).2.2) ((mi 1 K p (s (20 + 4 * p + 2)) x (ranT 61 t)).1))) 152 [(0, .ref o), (1, .int (nI 6)), (2, .int x), (3, .int ((mi 1 K p (s (20 + 4 * p + 2)) x (ranT 61 t)).2.1))] [.int (bI ((mi 1 K p (s (20 + 4 * p + 2)) x (ranT 61 t)).1))]
  refine g_if_eqB h 159 dX5_minds_152 (by decide) (fun c152 => ?_) (fun c152 => ?_)
  · skip
    show G X 0 0 (mW (xT X) o a s (trS S p ((mi 1 K p (s (20 + 4 * p + 2)) x (ranT 61 t)).2.2) ((mi 1 K p (s (20 + 4 * p + 2)) x (ranT 61 t)).1))) 159 [(0, .ref o), (1, .int (nI 6)), (2, .int x), (3, .int ((mi 1 K p (s (20 + 4 * p + 2)) x (ranT 61 t)).2.1))] []
    refine g_iload_n h dX5_minds_159 rfl ?_
    refine g_aload_n h dX5_minds_160 rfl ?_
    refine g_aload_n h dX5_minds_161 rfl ?_
    refine g_callVR h (m5_kindNow _ _ _ o a s S p ((mi 1 K p (s (20 + 4 * p + 2)) x (ranT 61 t)).2.2) ((mi 1 K p (s (20 + 4 * p + 2)) x (ranT 61 t)).1) (by first | assumption | omega)) (fun _ q => q) 0 rfl rfl (lw_V q1769 q1771 qs81 q95 q1772) gy_X5_kindNow ⟨Nat.le_of_ble_eq_true rfl, Nat.le_of_ble_eq_true rfl⟩ ⟨Nat.le_of_ble_eq_true rfl, Nat.le_of_ble_eq_true rfl⟩ rfl rfl (Nat.le_of_ble_eq_true rfl) dX5_minds_162 ?_
    refine g_toN (a := K) h2 ?_
    refine g_iconst (v := nI 0) h dX5_minds_165 (by decide) ?_
    refine g_callVW0 h hE (m5_gives_g _ _ _ o a s S p ((mi 1 K p (s (20 + 4 * p + 2)) x (ranT 61 t)).2.2) ((mi 1 K p (s (20 + 4 * p + 2)) x (ranT 61 t)).1) 0 K K (by repeat (first | assumption | apply ranT_le | apply cN_le | apply bu_le | apply bu0_le | apply gi_le | apply mi0_le | apply mi1_le)) (by first | assumption | omega) (by assumption) (by assumption) (by first | assumption | omega)) 0 rfl rfl (lw_V q1788 q1790 qs85 q95 q1791) gy_X5_gives ⟨Nat.le_of_ble_eq_true rfl, Nat.le_of_ble_eq_true rfl⟩ ⟨Nat.le_of_ble_eq_true rfl, Nat.le_of_ble_eq_true rfl⟩ rfl rfl (Nat.le_of_ble_eq_true rfl) dX5_minds_166 (st' := [.int ((gi K K p (s (20 + 4 * p + 2)) 0 ((mi 1 K p (s (20 + 4 * p + 2)) x (ranT 61 t)).2.2)).1), .int ((mi 1 K p (s (20 + 4 * p + 2)) x (ranT 61 t)).2.1)]) rfl (fun _ e166 => ?_)
    subst e166
    refine g_isub h dX5_minds_169 ?_
    exact g_iretWv h hE dX5_minds_170 (by first | (simp [mi, mi0, mi1, mi6, bI, c152]; done) | (simp_all [mi, mi0, mi1, mi6, bI, c152]; done)) (trW_eq (by first | (simp [mi, mi0, mi1, mi6, bI, c152]; done) | (simp_all [mi, mi0, mi1, mi6, bI, c152]; done)) (by first | (simp [mi, mi0, mi1, mi6, bI, c152]; done) | (simp_all [mi, mi0, mi1, mi6, bI, c152]; done)))
  · skip
    show G X 0 0 (mW (xT X) o a s (trS S p ((mi 1 K p (s (20 + 4 * p + 2)) x (ranT 61 t)).2.2) ((mi 1 K p (s (20 + 4 * p + 2)) x (ranT 61 t)).1))) 155 [(0, .ref o), (1, .int (nI 6)), (2, .int x), (3, .int ((mi 1 K p (s (20 + 4 * p + 2)) x (ranT 61 t)).2.1))] []
    refine g_iconst (v := nI 0) h dX5_minds_155 (by decide) ?_
    refine g_goto h 170 dX5_minds_156 (by decide) ?_
    refine g_toI (y := 0) rfl ?_
    exact g_iretWv h hE dX5_minds_170 (by first | (simp [mi, mi0, mi1, mi6, bI, c152]; done) | (simp_all [mi, mi0, mi1, mi6, bI, c152]; done)) (trW_eq (by first | (simp [mi, mi0, mi1, mi6, bI, c152]; done) | (simp_all [mi, mi0, mi1, mi6, bI, c152]; done)) (by first | (simp [mi, mi0, mi1, mi6, bI, c152]; done) | (simp_all [mi, mi0, mi1, mi6, bI, c152]; done)))
set_option maxHeartbeats 4000000 in
set_option maxRecDepth 100000 in
theorem m5_minds_0u (l : Launch) (D : va_G) (T : Nat → ClassId) (o : Nat) (a : Nat → Nat) (s : Nat → Int32) (S : Nat → Nat → Int32) (p : Nat) (t : TR) (b : Bool) (x : Int32) (K : Nat) (h0 : t.2 ≤ 30) (h1 : p < 6) (h2 : s (20 + 4 * p) = nI K) (h3 : K ≤ 6) : MetW l D T yX5_minds cX5_minds 5 (some .int) 10 219 0 0 [.ref o, .int (nI 0), .int x] (mW T o a s (trS S p t b)) (fun r_ w_ => r_ = some (.int ((mi 0 K p (s (20 + 4 * p + 2)) x t).2.1)) ∧ (w_ = mW T o a s (trS S p ((mi 0 K p (s (20 + 4 * p + 2)) x t).2.2) ((mi 0 K p (s (20 + 4 * p + 2)) x t).1)))) := by
  refine metW (own := RX5) rfl (by decide) rfl (fun X h hl hDx hTx hnm hE => ?_)
  subst hl; subst hDx; subst hTx
  show G X 0 0 (mW (xT X) o a s (trS S p t b)) 0 [(0, .ref o), (1, .int (nI 0)), (2, .int x)] []
  refine g_iconst (v := nI 0) h dX5_minds_0 (by decide) ?_
  refine g_istore_n (lv' := [(0, .ref o), (1, .int (nI 0)), (2, .int x), (3, .int (nI 0))]) h dX5_minds_1 (by decide) rfl ?_
  refine g_iload_n h dX5_minds_2 rfl ?_
  refine g_lookup h 36 dX5_minds_3 (by decide) (by rfl) (by decide) ?_
  refine g_aload_n h dX5_minds_36 rfl ?_
  refine g_bipush (v := nI 13) h dX5_minds_37 (by decide) ?_
  refine g_callVW0 h hE (m5_begins _ _ _ o a s S p t b 13 (by repeat (first | assumption | apply ranT_le | apply cN_le | apply bu_le | apply bu0_le | apply gi_le | apply mi0_le | apply mi1_le))) 0 rfl rfl (lw_V q1777 q1779 qs83 q95 q1780) gy_X5_begins ⟨Nat.le_of_ble_eq_true rfl, Nat.le_of_ble_eq_true rfl⟩ ⟨Nat.le_of_ble_eq_true rfl, Nat.le_of_ble_eq_true rfl⟩ rfl rfl (Nat.le_of_ble_eq_true rfl) dX5_minds_39 (st' := []) rfl (fun _ e39 => ?_)
  subst e39
  refine g_aload_n h dX5_minds_42 rfl ?_
  refine g_callVR h (m5_partNow _ _ _ o a s S p (ranT 13 t) b (by first | assumption | omega)) (fun _ q => q) 0 rfl rfl (lw_V q1792 q1794 qs86 q95 q1795) gy_X5_partNow ⟨Nat.le_of_ble_eq_true rfl, Nat.le_of_ble_eq_true rfl⟩ ⟨Nat.le_of_ble_eq_true rfl, Nat.le_of_ble_eq_true rfl⟩ rfl rfl (Nat.le_of_ble_eq_true rfl) dX5_minds_43 ?_
  refine g_aload_n h dX5_minds_46 rfl ?_
  refine g_get h in_X5 0 rfl rfl 14 rfl q1388 rfl rfl dX5_minds_47 ?_
  show G X 0 0 (mW (xT X) o a s (trS S p (ranT 13 t) b)) 50 [(0, .ref o), (1, .int (nI 0)), (2, .int x), (3, .int (nI 0))] [.int (nI p), .int (s (20 + 4 * p + 2))]
  refine g_isub h dX5_minds_50 ?_
  refine g_istore (lv' := [(0, .ref o), (1, .int (nI 0)), (2, .int x), (3, .int (nI 0)), (4, .int ((s (20 + 4 * p + 2)) - (nI p)))]) h dX5_minds_51 (by decide) rfl ?_
  refine g_aload_n h dX5_minds_53 rfl ?_
  refine g_iload h dX5_minds_54 rfl ?_
  refine g_if_ne h 63 dX5_minds_56 (by decide) (fun c56 => ?_) (fun c56 => ?_)
  · skip
    show G X 0 0 (mW (xT X) o a s (trS S p (ranT 13 t) b)) 63 [(0, .ref o), (1, .int (nI 0)), (2, .int x), (3, .int (nI 0)), (4, .int ((s (20 + 4 * p + 2)) - (nI p)))] [.ref o]
    refine g_iconst (v := nI 0) h dX5_minds_63 (by decide) ?_
    refine g_put (ws' := mW (xT X) o a s (trS S p (ranT 13 t) false)) h hE.1 in_X5 tyX5 tyX5_ok nmX5 0 rfl rfl 15 rfl q1389 rfl rfl rfl rfl rfl rfl dX5_minds_64 rfl ?_
    refine g_iload h dX5_minds_67 rfl ?_
    refine g_if_ne h 76 dX5_minds_69 (by decide) (fun c69 => ?_) (fun c69 => ?_)
    · skip
      show G X 0 0 (mW (xT X) o a s (trS S p (ranT 13 t) false)) 76 [(0, .ref o), (1, .int (nI 0)), (2, .int x), (3, .int (nI 0)), (4, .int ((s (20 + 4 * p + 2)) - (nI p)))] []
      refine g_iload h dX5_minds_76 rfl ?_
      refine g_iconst (v := -1) h dX5_minds_78 (by decide) ?_
      refine g_icmp_ne h 87 dX5_minds_79 (by decide) (fun c79 => ?_) (fun c79 => ?_)
      · skip
        show G X 0 0 (mW (xT X) o a s (trS S p (ranT 13 t) false)) 87 [(0, .ref o), (1, .int (nI 0)), (2, .int x), (3, .int (nI 0)), (4, .int ((s (20 + 4 * p + 2)) - (nI p)))] []
        refine g_iload_n h dX5_minds_87 rfl ?_
        refine g_iload h dX5_minds_88 rfl ?_
        refine g_idiv h dX5_minds_90 (by assumption) ?_
        exact g_iretWv h hE dX5_minds_91 (by first | (simp [mi, mi0, mi1, mi6, bI, c56, c69, c79]; done) | (simp_all [mi, mi0, mi1, mi6, bI, c56, c69, c79]; done)) (trW_eq (by first | (simp [mi, mi0, mi1, mi6, bI, c56, c69, c79]; done) | (simp_all [mi, mi0, mi1, mi6, bI, c56, c69, c79]; done)) (by first | (simp [mi, mi0, mi1, mi6, bI, c56, c69, c79]; done) | (simp_all [mi, mi0, mi1, mi6, bI, c56, c69, c79]; done)))
      · skip
        show G X 0 0 (mW (xT X) o a s (trS S p (ranT 13 t) false)) 82 [(0, .ref o), (1, .int (nI 0)), (2, .int x), (3, .int (nI 0)), (4, .int ((s (20 + 4 * p + 2)) - (nI p)))] []
        refine g_iload_n h dX5_minds_82 rfl ?_
        refine g_ineg h dX5_minds_83 ?_
        refine g_goto h 91 dX5_minds_84 (by decide) ?_
        exact g_iretWv h hE dX5_minds_91 (by first | (simp [mi, mi0, mi1, mi6, bI, c56, c69, c79]; done) | (simp_all [mi, mi0, mi1, mi6, bI, c56, c69, c79]; done)) (trW_eq (by first | (simp [mi, mi0, mi1, mi6, bI, c56, c69, c79]; done) | (simp_all [mi, mi0, mi1, mi6, bI, c56, c69, c79]; done)) (by first | (simp [mi, mi0, mi1, mi6, bI, c56, c69, c79]; done) | (simp_all [mi, mi0, mi1, mi6, bI, c56, c69, c79]; done)))
    · skip
      show G X 0 0 (mW (xT X) o a s (trS S p (ranT 13 t) false)) 72 [(0, .ref o), (1, .int (nI 0)), (2, .int x), (3, .int (nI 0)), (4, .int ((s (20 + 4 * p + 2)) - (nI p)))] []
      exact absurd c69 c56
  · skip
    show G X 0 0 (mW (xT X) o a s (trS S p (ranT 13 t) b)) 59 [(0, .ref o), (1, .int (nI 0)), (2, .int x), (3, .int (nI 0)), (4, .int ((s (20 + 4 * p + 2)) - (nI p)))] [.ref o]
    refine g_iconst (v := nI 1) h dX5_minds_59 (by decide) ?_
    refine g_goto h 64 dX5_minds_60 (by decide) ?_
    refine g_put (ws' := mW (xT X) o a s (trS S p (ranT 13 t) true)) h hE.1 in_X5 tyX5 tyX5_ok nmX5 0 rfl rfl 15 rfl q1389 rfl rfl rfl rfl rfl rfl dX5_minds_64 rfl ?_
    refine g_iload h dX5_minds_67 rfl ?_
    refine g_if_ne h 76 dX5_minds_69 (by decide) (fun c69 => ?_) (fun c69 => ?_)
    · skip
      show G X 0 0 (mW (xT X) o a s (trS S p (ranT 13 t) true)) 76 [(0, .ref o), (1, .int (nI 0)), (2, .int x), (3, .int (nI 0)), (4, .int ((s (20 + 4 * p + 2)) - (nI p)))] []
      exact absurd c56 c69
    · skip
      show G X 0 0 (mW (xT X) o a s (trS S p (ranT 13 t) true)) 72 [(0, .ref o), (1, .int (nI 0)), (2, .int x), (3, .int (nI 0)), (4, .int ((s (20 + 4 * p + 2)) - (nI p)))] []
      refine g_iconst (v := nI 0) h dX5_minds_72 (by decide) ?_
      refine g_goto h 91 dX5_minds_73 (by decide) ?_
      refine g_toI (y := 0) rfl ?_
      exact g_iretWv h hE dX5_minds_91 (by first | (simp [mi, mi0, mi1, mi6, bI, c56, c69]; done) | (simp_all [mi, mi0, mi1, mi6, bI, c56, c69]; done)) (trW_eq (by first | (simp [mi, mi0, mi1, mi6, bI, c56, c69]; done) | (simp_all [mi, mi0, mi1, mi6, bI, c56, c69]; done)) (by first | (simp [mi, mi0, mi1, mi6, bI, c56, c69]; done) | (simp_all [mi, mi0, mi1, mi6, bI, c56, c69]; done)))
set_option maxHeartbeats 4000000 in
set_option maxRecDepth 100000 in
theorem m5_minds_1u (l : Launch) (D : va_G) (T : Nat → ClassId) (o : Nat) (a : Nat → Nat) (s : Nat → Int32) (S : Nat → Nat → Int32) (p : Nat) (t : TR) (b : Bool) (x : Int32) (K : Nat) (h0 : t.2 ≤ 30) (h1 : p < 6) (h2 : s (20 + 4 * p) = nI K) (h3 : K ≤ 6) : MetW l D T yX5_minds cX5_minds 5 (some .int) 10 219 0 0 [.ref o, .int (nI 1), .int x] (mW T o a s (trS S p t b)) (fun r_ w_ => r_ = some (.int ((mi 1 K p (s (20 + 4 * p + 2)) x t).2.1)) ∧ (w_ = mW T o a s (trS S p ((mi 1 K p (s (20 + 4 * p + 2)) x t).2.2) ((mi 1 K p (s (20 + 4 * p + 2)) x t).1)))) := by
  refine metW (own := RX5) rfl (by decide) rfl (fun X h hl hDx hTx hnm hE => ?_)
  subst hl; subst hDx; subst hTx
  show G X 0 0 (mW (xT X) o a s (trS S p t b)) 0 [(0, .ref o), (1, .int (nI 1)), (2, .int x)] []
  refine g_iconst (v := nI 0) h dX5_minds_0 (by decide) ?_
  refine g_istore_n (lv' := [(0, .ref o), (1, .int (nI 1)), (2, .int x), (3, .int (nI 0))]) h dX5_minds_1 (by decide) rfl ?_
  refine g_iload_n h dX5_minds_2 rfl ?_
  refine g_lookup h 92 dX5_minds_3 (by decide) (by rfl) (by decide) ?_
  refine g_aload_n h dX5_minds_92 rfl ?_
  refine g_bipush (v := nI 21) h dX5_minds_93 (by decide) ?_
  refine g_callVW0 h hE (m5_begins _ _ _ o a s S p t b 21 (by repeat (first | assumption | apply ranT_le | apply cN_le | apply bu_le | apply bu0_le | apply gi_le | apply mi0_le | apply mi1_le))) 0 rfl rfl (lw_V q1777 q1779 qs83 q95 q1780) gy_X5_begins ⟨Nat.le_of_ble_eq_true rfl, Nat.le_of_ble_eq_true rfl⟩ ⟨Nat.le_of_ble_eq_true rfl, Nat.le_of_ble_eq_true rfl⟩ rfl rfl (Nat.le_of_ble_eq_true rfl) dX5_minds_95 (st' := []) rfl (fun _ e95 => ?_)
  subst e95
  refine g_aload_n h dX5_minds_98 rfl ?_
  refine g_iconst (v := nI 1) h dX5_minds_99 (by decide) ?_
  refine g_callSR h (m5_above_1 _ _ _ ) (fun _ q => nomatch q) (lw_S q1781 q1782 q95 q1783) gy_X5_above ⟨Nat.le_of_ble_eq_true rfl, Nat.le_of_ble_eq_true rfl⟩ ⟨Nat.le_of_ble_eq_true rfl, Nat.le_of_ble_eq_true rfl⟩ rfl rfl (Nat.le_of_ble_eq_true rfl) dX5_minds_100 ?_
  refine g_iload_n h dX5_minds_103 rfl ?_
  refine g_callVW0 h hE (m5_minds_0 _ _ _ o a s S p (ranT 21 t) b x K (by repeat (first | assumption | apply ranT_le | apply cN_le | apply bu_le | apply bu0_le | apply gi_le | apply mi0_le | apply mi1_le)) (by first | assumption | omega) (by assumption) (by assumption)) 0 rfl rfl (lw_V q1796 q1798 qs87 q95 q1799) gy_X5_minds ⟨Nat.le_of_ble_eq_true rfl, Nat.le_of_ble_eq_true rfl⟩ ⟨Nat.le_of_ble_eq_true rfl, Nat.le_of_ble_eq_true rfl⟩ rfl rfl (Nat.le_of_ble_eq_true rfl) dX5_minds_104 (st' := [.int ((mi 0 K p (s (20 + 4 * p + 2)) x (ranT 21 t)).2.1)]) rfl (fun _ e104 => ?_)
  subst e104
  refine g_istore_n (lv' := [(0, .ref o), (1, .int (nI 1)), (2, .int x), (3, .int ((mi 0 K p (s (20 + 4 * p + 2)) x (ranT 21 t)).2.1))]) h dX5_minds_107 (by decide) rfl ?_
  refine g_aload_n h dX5_minds_108 rfl ?_
  refine g_get h in_X5 0 rfl rfl 15 rfl q1389 rfl rfl dX5_minds_109 ?_
  show G X 0 0 (mW (xT X) o a s (trS S p ((mi 0 K p (s (20 + 4 * p + 2)) x (ranT 21 t)).2.2) ((mi 0 K p (s (20 + 4 * p + 2)) x (ranT 21 t)).1))) 112 [(0, .ref o), (1, .int (nI 1)), (2, .int x), (3, .int ((mi 0 K p (s (20 + 4 * p + 2)) x (ranT 21 t)).2.1))] [.int (bI ((mi 0 K p (s (20 + 4 * p + 2)) x (ranT 21 t)).1))]
  refine g_if_eqB h 119 dX5_minds_112 (by decide) (fun c112 => ?_) (fun c112 => ?_)
  · skip
    show G X 0 0 (mW (xT X) o a s (trS S p ((mi 0 K p (s (20 + 4 * p + 2)) x (ranT 21 t)).2.2) ((mi 0 K p (s (20 + 4 * p + 2)) x (ranT 21 t)).1))) 119 [(0, .ref o), (1, .int (nI 1)), (2, .int x), (3, .int ((mi 0 K p (s (20 + 4 * p + 2)) x (ranT 21 t)).2.1))] []
    refine g_iload_n h dX5_minds_119 rfl ?_
    refine g_aload_n h dX5_minds_120 rfl ?_
    refine g_aload_n h dX5_minds_121 rfl ?_
    refine g_callVR h (m5_kindNow _ _ _ o a s S p ((mi 0 K p (s (20 + 4 * p + 2)) x (ranT 21 t)).2.2) ((mi 0 K p (s (20 + 4 * p + 2)) x (ranT 21 t)).1) (by first | assumption | omega)) (fun _ q => q) 0 rfl rfl (lw_V q1769 q1771 qs81 q95 q1772) gy_X5_kindNow ⟨Nat.le_of_ble_eq_true rfl, Nat.le_of_ble_eq_true rfl⟩ ⟨Nat.le_of_ble_eq_true rfl, Nat.le_of_ble_eq_true rfl⟩ rfl rfl (Nat.le_of_ble_eq_true rfl) dX5_minds_122 ?_
    refine g_toN (a := K) h2 ?_
    refine g_iconst (v := nI 1) h dX5_minds_125 (by decide) ?_
    refine g_callVW0 h hE (m5_buys_g _ _ _ o a s S p ((mi 0 K p (s (20 + 4 * p + 2)) x (ranT 21 t)).2.2) ((mi 0 K p (s (20 + 4 * p + 2)) x (ranT 21 t)).1) 1 K K (by repeat (first | assumption | apply ranT_le | apply cN_le | apply bu_le | apply bu0_le | apply gi_le | apply mi0_le | apply mi1_le)) (by first | assumption | omega) (by assumption) (by assumption) (by first | assumption | omega)) 0 rfl rfl (lw_V q1784 q1786 qs84 q95 q1787) gy_X5_buys ⟨Nat.le_of_ble_eq_true rfl, Nat.le_of_ble_eq_true rfl⟩ ⟨Nat.le_of_ble_eq_true rfl, Nat.le_of_ble_eq_true rfl⟩ rfl rfl (Nat.le_of_ble_eq_true rfl) dX5_minds_126 (st' := [.int ((bu K K p 1 ((mi 0 K p (s (20 + 4 * p + 2)) x (ranT 21 t)).2.2)).1), .int ((mi 0 K p (s (20 + 4 * p + 2)) x (ranT 21 t)).2.1)]) rfl (fun _ e126 => ?_)
    subst e126
    refine g_iadd h dX5_minds_129 ?_
    exact g_iretWv h hE dX5_minds_130 (by first | (simp [mi, mi0, mi1, mi6, bI, c112]; done) | (simp_all [mi, mi0, mi1, mi6, bI, c112]; done)) (trW_eq (by first | (simp [mi, mi0, mi1, mi6, bI, c112]; done) | (simp_all [mi, mi0, mi1, mi6, bI, c112]; done)) (by first | (simp [mi, mi0, mi1, mi6, bI, c112]; done) | (simp_all [mi, mi0, mi1, mi6, bI, c112]; done)))
  · skip
    show G X 0 0 (mW (xT X) o a s (trS S p ((mi 0 K p (s (20 + 4 * p + 2)) x (ranT 21 t)).2.2) ((mi 0 K p (s (20 + 4 * p + 2)) x (ranT 21 t)).1))) 115 [(0, .ref o), (1, .int (nI 1)), (2, .int x), (3, .int ((mi 0 K p (s (20 + 4 * p + 2)) x (ranT 21 t)).2.1))] []
    refine g_iconst (v := nI 0) h dX5_minds_115 (by decide) ?_
    refine g_goto h 130 dX5_minds_116 (by decide) ?_
    refine g_toI (y := 0) rfl ?_
    exact g_iretWv h hE dX5_minds_130 (by first | (simp [mi, mi0, mi1, mi6, bI, c112]; done) | (simp_all [mi, mi0, mi1, mi6, bI, c112]; done)) (trW_eq (by first | (simp [mi, mi0, mi1, mi6, bI, c112]; done) | (simp_all [mi, mi0, mi1, mi6, bI, c112]; done)) (by first | (simp [mi, mi0, mi1, mi6, bI, c112]; done) | (simp_all [mi, mi0, mi1, mi6, bI, c112]; done)))
set_option maxHeartbeats 4000000 in
set_option maxRecDepth 100000 in
theorem m5_minds_2u (l : Launch) (D : va_G) (T : Nat → ClassId) (o : Nat) (a : Nat → Nat) (s : Nat → Int32) (S : Nat → Nat → Int32) (p : Nat) (t : TR) (b : Bool) (x : Int32) (K : Nat) (h0 : t.2 ≤ 30) (h1 : p < 6) (h2 : s (20 + 4 * p) = nI K) (h3 : K ≤ 6) : MetW l D T yX5_minds cX5_minds 5 (some .int) 10 219 0 0 [.ref o, .int (nI 2), .int x] (mW T o a s (trS S p t b)) (fun r_ w_ => r_ = some (.int ((mi 2 K p (s (20 + 4 * p + 2)) x t).2.1)) ∧ (w_ = mW T o a s (trS S p ((mi 2 K p (s (20 + 4 * p + 2)) x t).2.2) ((mi 2 K p (s (20 + 4 * p + 2)) x t).1)))) := by
  refine metW (own := RX5) rfl (by decide) rfl (fun X h hl hDx hTx hnm hE => ?_)
  subst hl; subst hDx; subst hTx
  show G X 0 0 (mW (xT X) o a s (trS S p t b)) 0 [(0, .ref o), (1, .int (nI 2)), (2, .int x)] []
  refine g_iconst (v := nI 0) h dX5_minds_0 (by decide) ?_
  refine g_istore_n (lv' := [(0, .ref o), (1, .int (nI 2)), (2, .int x), (3, .int (nI 0))]) h dX5_minds_1 (by decide) rfl ?_
  refine g_iload_n h dX5_minds_2 rfl ?_
  refine g_lookup h 171 dX5_minds_3 (by decide) (by rfl) (by decide) ?_
  refine g_aload_n h dX5_minds_171 rfl ?_
  refine g_iload_n h dX5_minds_172 rfl ?_
  refine g_callSR h (m5_above_2 _ _ _ ) (fun _ q => nomatch q) (lw_S q1781 q1782 q95 q1783) gy_X5_above ⟨Nat.le_of_ble_eq_true rfl, Nat.le_of_ble_eq_true rfl⟩ ⟨Nat.le_of_ble_eq_true rfl, Nat.le_of_ble_eq_true rfl⟩ rfl rfl (Nat.le_of_ble_eq_true rfl) dX5_minds_173 ?_
  refine g_iload_n h dX5_minds_176 rfl ?_
  refine g_callVW0 h hE (m5_minds_1 _ _ _ o a s S p t b x K (by repeat (first | assumption | apply ranT_le | apply cN_le | apply bu_le | apply bu0_le | apply gi_le | apply mi0_le | apply mi1_le)) (by first | assumption | omega) (by assumption) (by assumption)) 0 rfl rfl (lw_V q1796 q1798 qs87 q95 q1799) gy_X5_minds ⟨Nat.le_of_ble_eq_true rfl, Nat.le_of_ble_eq_true rfl⟩ ⟨Nat.le_of_ble_eq_true rfl, Nat.le_of_ble_eq_true rfl⟩ rfl rfl (Nat.le_of_ble_eq_true rfl) dX5_minds_177 (st' := [.int ((mi 1 K p (s (20 + 4 * p + 2)) x t).2.1)]) rfl (fun _ e177 => ?_)
  subst e177
  exact g_iretWv h hE dX5_minds_180 (by first | (simp [mi, mi0, mi1, mi6, bI]; done) | (simp_all [mi, mi0, mi1, mi6, bI]; done)) (trW_eq (by first | (simp [mi, mi0, mi1, mi6, bI]; done) | (simp_all [mi, mi0, mi1, mi6, bI]; done)) (by first | (simp [mi, mi0, mi1, mi6, bI]; done) | (simp_all [mi, mi0, mi1, mi6, bI]; done)))
set_option maxHeartbeats 4000000 in
set_option maxRecDepth 100000 in
theorem m5_minds_3u (l : Launch) (D : va_G) (T : Nat → ClassId) (o : Nat) (a : Nat → Nat) (s : Nat → Int32) (S : Nat → Nat → Int32) (p : Nat) (t : TR) (b : Bool) (x : Int32) (K : Nat) (h0 : t.2 ≤ 30) (h1 : p < 6) (h2 : s (20 + 4 * p) = nI K) (h3 : K ≤ 6) : MetW l D T yX5_minds cX5_minds 5 (some .int) 10 219 0 0 [.ref o, .int (nI 3), .int x] (mW T o a s (trS S p t b)) (fun r_ w_ => r_ = some (.int ((mi 3 K p (s (20 + 4 * p + 2)) x t).2.1)) ∧ (w_ = mW T o a s (trS S p ((mi 3 K p (s (20 + 4 * p + 2)) x t).2.2) ((mi 3 K p (s (20 + 4 * p + 2)) x t).1)))) := by
  refine metW (own := RX5) rfl (by decide) rfl (fun X h hl hDx hTx hnm hE => ?_)
  subst hl; subst hDx; subst hTx
  show G X 0 0 (mW (xT X) o a s (trS S p t b)) 0 [(0, .ref o), (1, .int (nI 3)), (2, .int x)] []
  refine g_iconst (v := nI 0) h dX5_minds_0 (by decide) ?_
  refine g_istore_n (lv' := [(0, .ref o), (1, .int (nI 3)), (2, .int x), (3, .int (nI 0))]) h dX5_minds_1 (by decide) rfl ?_
  refine g_iload_n h dX5_minds_2 rfl ?_
  refine g_lookup h 171 dX5_minds_3 (by decide) (by rfl) (by decide) ?_
  refine g_aload_n h dX5_minds_171 rfl ?_
  refine g_iload_n h dX5_minds_172 rfl ?_
  refine g_callSR h (m5_above_3 _ _ _ ) (fun _ q => nomatch q) (lw_S q1781 q1782 q95 q1783) gy_X5_above ⟨Nat.le_of_ble_eq_true rfl, Nat.le_of_ble_eq_true rfl⟩ ⟨Nat.le_of_ble_eq_true rfl, Nat.le_of_ble_eq_true rfl⟩ rfl rfl (Nat.le_of_ble_eq_true rfl) dX5_minds_173 ?_
  refine g_iload_n h dX5_minds_176 rfl ?_
  refine g_callVW0 h hE (m5_minds_1 _ _ _ o a s S p t b x K (by repeat (first | assumption | apply ranT_le | apply cN_le | apply bu_le | apply bu0_le | apply gi_le | apply mi0_le | apply mi1_le)) (by first | assumption | omega) (by assumption) (by assumption)) 0 rfl rfl (lw_V q1796 q1798 qs87 q95 q1799) gy_X5_minds ⟨Nat.le_of_ble_eq_true rfl, Nat.le_of_ble_eq_true rfl⟩ ⟨Nat.le_of_ble_eq_true rfl, Nat.le_of_ble_eq_true rfl⟩ rfl rfl (Nat.le_of_ble_eq_true rfl) dX5_minds_177 (st' := [.int ((mi 1 K p (s (20 + 4 * p + 2)) x t).2.1)]) rfl (fun _ e177 => ?_)
  subst e177
  exact g_iretWv h hE dX5_minds_180 (by first | (simp [mi, mi0, mi1, mi6, bI]; done) | (simp_all [mi, mi0, mi1, mi6, bI]; done)) (trW_eq (by first | (simp [mi, mi0, mi1, mi6, bI]; done) | (simp_all [mi, mi0, mi1, mi6, bI]; done)) (by first | (simp [mi, mi0, mi1, mi6, bI]; done) | (simp_all [mi, mi0, mi1, mi6, bI]; done)))
set_option maxHeartbeats 4000000 in
set_option maxRecDepth 100000 in
theorem m5_minds_4u (l : Launch) (D : va_G) (T : Nat → ClassId) (o : Nat) (a : Nat → Nat) (s : Nat → Int32) (S : Nat → Nat → Int32) (p : Nat) (t : TR) (b : Bool) (x : Int32) (K : Nat) (h0 : t.2 ≤ 30) (h1 : p < 6) (h2 : s (20 + 4 * p) = nI K) (h3 : K ≤ 6) : MetW l D T yX5_minds cX5_minds 5 (some .int) 10 219 0 0 [.ref o, .int (nI 4), .int x] (mW T o a s (trS S p t b)) (fun r_ w_ => r_ = some (.int ((mi 4 K p (s (20 + 4 * p + 2)) x t).2.1)) ∧ (w_ = mW T o a s (trS S p ((mi 4 K p (s (20 + 4 * p + 2)) x t).2.2) ((mi 4 K p (s (20 + 4 * p + 2)) x t).1)))) := by
  refine metW (own := RX5) rfl (by decide) rfl (fun X h hl hDx hTx hnm hE => ?_)
  subst hl; subst hDx; subst hTx
  show G X 0 0 (mW (xT X) o a s (trS S p t b)) 0 [(0, .ref o), (1, .int (nI 4)), (2, .int x)] []
  refine g_iconst (v := nI 0) h dX5_minds_0 (by decide) ?_
  refine g_istore_n (lv' := [(0, .ref o), (1, .int (nI 4)), (2, .int x), (3, .int (nI 0))]) h dX5_minds_1 (by decide) rfl ?_
  refine g_iload_n h dX5_minds_2 rfl ?_
  refine g_lookup h 171 dX5_minds_3 (by decide) (by rfl) (by decide) ?_
  refine g_aload_n h dX5_minds_171 rfl ?_
  refine g_iload_n h dX5_minds_172 rfl ?_
  refine g_callSR h (m5_above_4 _ _ _ ) (fun _ q => nomatch q) (lw_S q1781 q1782 q95 q1783) gy_X5_above ⟨Nat.le_of_ble_eq_true rfl, Nat.le_of_ble_eq_true rfl⟩ ⟨Nat.le_of_ble_eq_true rfl, Nat.le_of_ble_eq_true rfl⟩ rfl rfl (Nat.le_of_ble_eq_true rfl) dX5_minds_173 ?_
  refine g_iload_n h dX5_minds_176 rfl ?_
  refine g_callVW0 h hE (m5_minds_0 _ _ _ o a s S p t b x K (by repeat (first | assumption | apply ranT_le | apply cN_le | apply bu_le | apply bu0_le | apply gi_le | apply mi0_le | apply mi1_le)) (by first | assumption | omega) (by assumption) (by assumption)) 0 rfl rfl (lw_V q1796 q1798 qs87 q95 q1799) gy_X5_minds ⟨Nat.le_of_ble_eq_true rfl, Nat.le_of_ble_eq_true rfl⟩ ⟨Nat.le_of_ble_eq_true rfl, Nat.le_of_ble_eq_true rfl⟩ rfl rfl (Nat.le_of_ble_eq_true rfl) dX5_minds_177 (st' := [.int ((mi 0 K p (s (20 + 4 * p + 2)) x t).2.1)]) rfl (fun _ e177 => ?_)
  subst e177
  exact g_iretWv h hE dX5_minds_180 (by first | (simp [mi, mi0, mi1, mi6, bI]; done) | (simp_all [mi, mi0, mi1, mi6, bI]; done)) (trW_eq (by first | (simp [mi, mi0, mi1, mi6, bI]; done) | (simp_all [mi, mi0, mi1, mi6, bI]; done)) (by first | (simp [mi, mi0, mi1, mi6, bI]; done) | (simp_all [mi, mi0, mi1, mi6, bI]; done)))
set_option maxHeartbeats 4000000 in
set_option maxRecDepth 100000 in
theorem m5_minds_5u (l : Launch) (D : va_G) (T : Nat → ClassId) (o : Nat) (a : Nat → Nat) (s : Nat → Int32) (S : Nat → Nat → Int32) (p : Nat) (t : TR) (b : Bool) (x : Int32) (K : Nat) (h0 : t.2 ≤ 30) (h1 : p < 6) (h2 : s (20 + 4 * p) = nI K) (h3 : K ≤ 6) : MetW l D T yX5_minds cX5_minds 5 (some .int) 10 219 0 0 [.ref o, .int (nI 5), .int x] (mW T o a s (trS S p t b)) (fun r_ w_ => r_ = some (.int ((mi 5 K p (s (20 + 4 * p + 2)) x t).2.1)) ∧ (w_ = mW T o a s (trS S p ((mi 5 K p (s (20 + 4 * p + 2)) x t).2.2) ((mi 5 K p (s (20 + 4 * p + 2)) x t).1)))) := by
  refine metW (own := RX5) rfl (by decide) rfl (fun X h hl hDx hTx hnm hE => ?_)
  subst hl; subst hDx; subst hTx
  show G X 0 0 (mW (xT X) o a s (trS S p t b)) 0 [(0, .ref o), (1, .int (nI 5)), (2, .int x)] []
  refine g_iconst (v := nI 0) h dX5_minds_0 (by decide) ?_
  refine g_istore_n (lv' := [(0, .ref o), (1, .int (nI 5)), (2, .int x), (3, .int (nI 0))]) h dX5_minds_1 (by decide) rfl ?_
  refine g_iload_n h dX5_minds_2 rfl ?_
  refine g_lookup h 171 dX5_minds_3 (by decide) (by rfl) (by decide) ?_
  refine g_aload_n h dX5_minds_171 rfl ?_
  refine g_iload_n h dX5_minds_172 rfl ?_
  refine g_callSR h (m5_above_5 _ _ _ ) (fun _ q => nomatch q) (lw_S q1781 q1782 q95 q1783) gy_X5_above ⟨Nat.le_of_ble_eq_true rfl, Nat.le_of_ble_eq_true rfl⟩ ⟨Nat.le_of_ble_eq_true rfl, Nat.le_of_ble_eq_true rfl⟩ rfl rfl (Nat.le_of_ble_eq_true rfl) dX5_minds_173 ?_
  refine g_iload_n h dX5_minds_176 rfl ?_
  refine g_callVW0 h hE (m5_minds_0 _ _ _ o a s S p t b x K (by repeat (first | assumption | apply ranT_le | apply cN_le | apply bu_le | apply bu0_le | apply gi_le | apply mi0_le | apply mi1_le)) (by first | assumption | omega) (by assumption) (by assumption)) 0 rfl rfl (lw_V q1796 q1798 qs87 q95 q1799) gy_X5_minds ⟨Nat.le_of_ble_eq_true rfl, Nat.le_of_ble_eq_true rfl⟩ ⟨Nat.le_of_ble_eq_true rfl, Nat.le_of_ble_eq_true rfl⟩ rfl rfl (Nat.le_of_ble_eq_true rfl) dX5_minds_177 (st' := [.int ((mi 0 K p (s (20 + 4 * p + 2)) x t).2.1)]) rfl (fun _ e177 => ?_)
  subst e177
  exact g_iretWv h hE dX5_minds_180 (by first | (simp [mi, mi0, mi1, mi6, bI]; done) | (simp_all [mi, mi0, mi1, mi6, bI]; done)) (trW_eq (by first | (simp [mi, mi0, mi1, mi6, bI]; done) | (simp_all [mi, mi0, mi1, mi6, bI]; done)) (by first | (simp [mi, mi0, mi1, mi6, bI]; done) | (simp_all [mi, mi0, mi1, mi6, bI]; done)))
set_option maxHeartbeats 4000000 in
set_option maxRecDepth 100000 in
theorem m5_minds_6u (l : Launch) (D : va_G) (T : Nat → ClassId) (o : Nat) (a : Nat → Nat) (s : Nat → Int32) (S : Nat → Nat → Int32) (p : Nat) (t : TR) (b : Bool) (x : Int32) (K : Nat) (h0 : t.2 ≤ 30) (h1 : p < 6) (h2 : s (20 + 4 * p) = nI K) (h3 : K ≤ 6) : MetW l D T yX5_minds cX5_minds 5 (some .int) 10 219 0 0 [.ref o, .int (nI 6), .int x] (mW T o a s (trS S p t b)) (fun r_ w_ => r_ = some (.int ((mi 6 K p (s (20 + 4 * p + 2)) x t).2.1)) ∧ (w_ = mW T o a s (trS S p ((mi 6 K p (s (20 + 4 * p + 2)) x t).2.2) ((mi 6 K p (s (20 + 4 * p + 2)) x t).1)))) := by
  refine metW (own := RX5) rfl (by decide) rfl (fun X h hl hDx hTx hnm hE => ?_)
  subst hl; subst hDx; subst hTx
  show G X 0 0 (mW (xT X) o a s (trS S p t b)) 0 [(0, .ref o), (1, .int (nI 6)), (2, .int x)] []
  refine g_iconst (v := nI 0) h dX5_minds_0 (by decide) ?_
  refine g_istore_n (lv' := [(0, .ref o), (1, .int (nI 6)), (2, .int x), (3, .int (nI 0))]) h dX5_minds_1 (by decide) rfl ?_
  refine g_iload_n h dX5_minds_2 rfl ?_
  refine g_lookup h 131 dX5_minds_3 (by decide) (by rfl) (by decide) ?_
  refine g_aload_n h dX5_minds_131 rfl ?_
  refine g_bipush (v := nI 61) h dX5_minds_132 (by decide) ?_
  refine g_callVW0 h hE (m5_begins _ _ _ o a s S p t b 61 (by repeat (first | assumption | apply ranT_le | apply cN_le | apply bu_le | apply bu0_le | apply gi_le | apply mi0_le | apply mi1_le))) 0 rfl rfl (lw_V q1777 q1779 qs83 q95 q1780) gy_X5_begins ⟨Nat.le_of_ble_eq_true rfl, Nat.le_of_ble_eq_true rfl⟩ ⟨Nat.le_of_ble_eq_true rfl, Nat.le_of_ble_eq_true rfl⟩ rfl rfl (Nat.le_of_ble_eq_true rfl) dX5_minds_134 (st' := []) rfl (fun _ e134 => ?_)
  subst e134
  refine g_aload_n h dX5_minds_137 rfl ?_
  refine g_bipush (v := nI 6) h dX5_minds_138 (by decide) ?_
  refine g_callSR h (m5_above_6 _ _ _ ) (fun _ q => nomatch q) (lw_S q1781 q1782 q95 q1783) gy_X5_above ⟨Nat.le_of_ble_eq_true rfl, Nat.le_of_ble_eq_true rfl⟩ ⟨Nat.le_of_ble_eq_true rfl, Nat.le_of_ble_eq_true rfl⟩ rfl rfl (Nat.le_of_ble_eq_true rfl) dX5_minds_140 ?_
  refine g_iload_n h dX5_minds_143 rfl ?_
  refine g_callVW0 h hE (m5_minds_1 _ _ _ o a s S p (ranT 61 t) b x K (by repeat (first | assumption | apply ranT_le | apply cN_le | apply bu_le | apply bu0_le | apply gi_le | apply mi0_le | apply mi1_le)) (by first | assumption | omega) (by assumption) (by assumption)) 0 rfl rfl (lw_V q1796 q1798 qs87 q95 q1799) gy_X5_minds ⟨Nat.le_of_ble_eq_true rfl, Nat.le_of_ble_eq_true rfl⟩ ⟨Nat.le_of_ble_eq_true rfl, Nat.le_of_ble_eq_true rfl⟩ rfl rfl (Nat.le_of_ble_eq_true rfl) dX5_minds_144 (st' := [.int ((mi 1 K p (s (20 + 4 * p + 2)) x (ranT 61 t)).2.1)]) rfl (fun _ e144 => ?_)
  subst e144
  refine g_istore_n (lv' := [(0, .ref o), (1, .int (nI 6)), (2, .int x), (3, .int ((mi 1 K p (s (20 + 4 * p + 2)) x (ranT 61 t)).2.1))]) h dX5_minds_147 (by decide) rfl ?_
  refine g_aload_n h dX5_minds_148 rfl ?_
  refine g_get h in_X5 0 rfl rfl 15 rfl q1389 rfl rfl dX5_minds_149 ?_
  show G X 0 0 (mW (xT X) o a s (trS S p ((mi 1 K p (s (20 + 4 * p + 2)) x (ranT 61 t)).2.2) ((mi 1 K p (s (20 + 4 * p + 2)) x (ranT 61 t)).1))) 152 [(0, .ref o), (1, .int (nI 6)), (2, .int x), (3, .int ((mi 1 K p (s (20 + 4 * p + 2)) x (ranT 61 t)).2.1))] [.int (bI ((mi 1 K p (s (20 + 4 * p + 2)) x (ranT 61 t)).1))]
  refine g_if_eqB h 159 dX5_minds_152 (by decide) (fun c152 => ?_) (fun c152 => ?_)
  · skip
    show G X 0 0 (mW (xT X) o a s (trS S p ((mi 1 K p (s (20 + 4 * p + 2)) x (ranT 61 t)).2.2) ((mi 1 K p (s (20 + 4 * p + 2)) x (ranT 61 t)).1))) 159 [(0, .ref o), (1, .int (nI 6)), (2, .int x), (3, .int ((mi 1 K p (s (20 + 4 * p + 2)) x (ranT 61 t)).2.1))] []
    refine g_iload_n h dX5_minds_159 rfl ?_
    refine g_aload_n h dX5_minds_160 rfl ?_
    refine g_aload_n h dX5_minds_161 rfl ?_
    refine g_callVR h (m5_kindNow _ _ _ o a s S p ((mi 1 K p (s (20 + 4 * p + 2)) x (ranT 61 t)).2.2) ((mi 1 K p (s (20 + 4 * p + 2)) x (ranT 61 t)).1) (by first | assumption | omega)) (fun _ q => q) 0 rfl rfl (lw_V q1769 q1771 qs81 q95 q1772) gy_X5_kindNow ⟨Nat.le_of_ble_eq_true rfl, Nat.le_of_ble_eq_true rfl⟩ ⟨Nat.le_of_ble_eq_true rfl, Nat.le_of_ble_eq_true rfl⟩ rfl rfl (Nat.le_of_ble_eq_true rfl) dX5_minds_162 ?_
    refine g_toN (a := K) h2 ?_
    refine g_iconst (v := nI 0) h dX5_minds_165 (by decide) ?_
    refine g_callVW0 h hE (m5_gives_g _ _ _ o a s S p ((mi 1 K p (s (20 + 4 * p + 2)) x (ranT 61 t)).2.2) ((mi 1 K p (s (20 + 4 * p + 2)) x (ranT 61 t)).1) 0 K K (by repeat (first | assumption | apply ranT_le | apply cN_le | apply bu_le | apply bu0_le | apply gi_le | apply mi0_le | apply mi1_le)) (by first | assumption | omega) (by assumption) (by assumption) (by first | assumption | omega)) 0 rfl rfl (lw_V q1788 q1790 qs85 q95 q1791) gy_X5_gives ⟨Nat.le_of_ble_eq_true rfl, Nat.le_of_ble_eq_true rfl⟩ ⟨Nat.le_of_ble_eq_true rfl, Nat.le_of_ble_eq_true rfl⟩ rfl rfl (Nat.le_of_ble_eq_true rfl) dX5_minds_166 (st' := [.int ((gi K K p (s (20 + 4 * p + 2)) 0 ((mi 1 K p (s (20 + 4 * p + 2)) x (ranT 61 t)).2.2)).1), .int ((mi 1 K p (s (20 + 4 * p + 2)) x (ranT 61 t)).2.1)]) rfl (fun _ e166 => ?_)
    subst e166
    refine g_isub h dX5_minds_169 ?_
    exact g_iretWv h hE dX5_minds_170 (by first | (simp [mi, mi0, mi1, mi6, bI, c152]; done) | (simp_all [mi, mi0, mi1, mi6, bI, c152]; done)) (trW_eq (by first | (simp [mi, mi0, mi1, mi6, bI, c152]; done) | (simp_all [mi, mi0, mi1, mi6, bI, c152]; done)) (by first | (simp [mi, mi0, mi1, mi6, bI, c152]; done) | (simp_all [mi, mi0, mi1, mi6, bI, c152]; done)))
  · skip
    show G X 0 0 (mW (xT X) o a s (trS S p ((mi 1 K p (s (20 + 4 * p + 2)) x (ranT 61 t)).2.2) ((mi 1 K p (s (20 + 4 * p + 2)) x (ranT 61 t)).1))) 155 [(0, .ref o), (1, .int (nI 6)), (2, .int x), (3, .int ((mi 1 K p (s (20 + 4 * p + 2)) x (ranT 61 t)).2.1))] []
    refine g_iconst (v := nI 0) h dX5_minds_155 (by decide) ?_
    refine g_goto h 170 dX5_minds_156 (by decide) ?_
    refine g_toI (y := 0) rfl ?_
    exact g_iretWv h hE dX5_minds_170 (by first | (simp [mi, mi0, mi1, mi6, bI, c152]; done) | (simp_all [mi, mi0, mi1, mi6, bI, c152]; done)) (trW_eq (by first | (simp [mi, mi0, mi1, mi6, bI, c152]; done) | (simp_all [mi, mi0, mi1, mi6, bI, c152]; done)) (by first | (simp [mi, mi0, mi1, mi6, bI, c152]; done) | (simp_all [mi, mi0, mi1, mi6, bI, c152]; done)))
set_option maxRecDepth 100000 in
theorem m5_minds_g (l : Launch) (D : va_G) (T : Nat → ClassId) (o : Nat) (a : Nat → Nat) (s : Nat → Int32) (S : Nat → Nat → Int32) (p : Nat) (t : TR) (b : Bool) (x : Int32) (K : Nat) (L : Nat) (h0 : t.2 ≤ 30) (h1 : p < 6) (h2 : s (20 + 4 * p) = nI K) (h3 : K ≤ 6) (h4 : L ≤ 6) : MetW l D T yX5_minds cX5_minds 5 (some .int) 10 219 0 0 [.ref o, .int (nI L), .int x] (mW T o a s (trS S p t b)) (fun r_ w_ => r_ = some (.int ((mi L K p (s (20 + 4 * p + 2)) x t).2.1)) ∧ (w_ = mW T o a s (trS S p ((mi L K p (s (20 + 4 * p + 2)) x t).2.2) ((mi L K p (s (20 + 4 * p + 2)) x t).1)))) := by
  rcases (show L = 0 ∨ L = 1 ∨ L = 2 ∨ L = 3 ∨ L = 4 ∨ L = 5 ∨ L = 6 by omega) with rfl | rfl | rfl | rfl | rfl | rfl | rfl
  · exact m5_minds_0u l D T o a s S p t b x K h0 h1 h2 h3
  · exact m5_minds_1u l D T o a s S p t b x K h0 h1 h2 h3
  · exact m5_minds_2u l D T o a s S p t b x K h0 h1 h2 h3
  · exact m5_minds_3u l D T o a s S p t b x K h0 h1 h2 h3
  · exact m5_minds_4u l D T o a s S p t b x K h0 h1 h2 h3
  · exact m5_minds_5u l D T o a s S p t b x K h0 h1 h2 h3
  · exact m5_minds_6u l D T o a s S p t b x K h0 h1 h2 h3
set_option maxHeartbeats 4000000 in
set_option maxRecDepth 100000 in
theorem m5_voice (l : Launch) (D : va_G) (T : Nat → ClassId) (o : Nat) (a : Nat → Nat) (s : Nat → Int32) (S : Nat → Nat → Int32) (x : Int32) (v : Int32) (y : Int32) (h0 : Inv s) (h1 : TrI S) : MetW l D T yX5_voice cX5_voice 6 (some .int) 11 243 0 0 [.ref o, .int x, .int v, .int y] (mW T o a s S) (fun r_ w_ => r_ = some (.int ((o_voice s (S 7) (S 3) (nv (S 0 5)) x v y).1)) ∧ (∃ (F : Nat → Int32), (F 0 = S 0 0) ∧ (F 5 = nI (o_voice s (S 7) (S 3) (nv (S 0 5)) x v y).2.1.2) ∧ w_ = mW T o a s (sU (sU (sU S 7 (o_voice s (S 7) (S 3) (nv (S 0 5)) x v y).2.1.1) 0 F) 3 (o_voice s (S 7) (S 3) (nv (S 0 5)) x v y).2.2))) := by
  refine metW (own := RX5) rfl (by decide) rfl (fun X h hl hDx hTx hnm hE => ?_)
  subst hl; subst hDx; subst hTx
  have hnp := h0.npl; have hnt := h0.ntl; have hnq := h0.nql
  show G X 0 0 (mW (xT X) o a s S) 0 [(0, .ref o), (1, .int x), (2, .int v), (3, .int y)] []
  refine g_aload_n h dX5_voice_0 rfl ?_
  refine g_iload_n h dX5_voice_1 rfl ?_
  refine g_callVR h (m5_isPerson _ _ _ o a s S x ) (fun _ q => q) 0 rfl rfl (lw_V q1455 q1457 qs36 q95 q1458) gy_X5_isPerson ⟨Nat.le_of_ble_eq_true rfl, Nat.le_of_ble_eq_true rfl⟩ ⟨Nat.le_of_ble_eq_true rfl, Nat.le_of_ble_eq_true rfl⟩ rfl rfl (Nat.le_of_ble_eq_true rfl) dX5_voice_2 ?_
  refine g_if_eqB h 17 dX5_voice_5 (by decide) (fun c5 => ?_) (fun c5 => ?_)
  · skip
    show G X 0 0 (mW (xT X) o a s S) 17 [(0, .ref o), (1, .int x), (2, .int v), (3, .int y)] []
    refine g_aload_n h dX5_voice_17 rfl ?_
    refine g_iconst (v := nI 1) h dX5_voice_18 (by decide) ?_
    refine g_callVW0 h hE (m5_error _ _ _ o a s S 1 (by first | assumption | omega)) 0 rfl rfl (lw_V q1446 q1448 qs35 q95 q1449) gy_X5_error ⟨Nat.le_of_ble_eq_true rfl, Nat.le_of_ble_eq_true rfl⟩ ⟨Nat.le_of_ble_eq_true rfl, Nat.le_of_ble_eq_true rfl⟩ rfl rfl (Nat.le_of_ble_eq_true rfl) dX5_voice_19 (st' := [.int (LOW - nI 1)]) rfl (fun _ e19 => ?_)
    subst e19
    exact g_iretWv h hE dX5_voice_22 (by first | (simp [o_voice, LOW, c5]; done) | (simp_all [o_voice, LOW, c5]; done)) (⟨S 0, rfl, (by simp [o_voice, LOW, c5, sU_self]; exact h1.1), mW_eq (by rfl) (by simp [o_voice, LOW, c5, sU_self])⟩)
  · skip
    show G X 0 0 (mW (xT X) o a s S) 8 [(0, .ref o), (1, .int x), (2, .int v), (3, .int y)] []
    obtain ⟨xn, hx, rfl⟩ := isP_of h0 c5
    have vx : nv (nI xn) = xn := nv_nI (by omega)
    refine g_iload_n h dX5_voice_8 rfl ?_
    refine g_iconst (v := nI 0) h dX5_voice_9 (by decide) ?_
    refine g_iconst (v := nI 3) h dX5_voice_10 (by decide) ?_
    refine g_callSR h (m5_in _ _ _ v 0 3 ) (fun _ q => nomatch q) (lw_S q1439 q1440 q95 q1441) gy_X5_in ⟨Nat.le_of_ble_eq_true rfl, Nat.le_of_ble_eq_true rfl⟩ ⟨Nat.le_of_ble_eq_true rfl, Nat.le_of_ble_eq_true rfl⟩ rfl rfl (Nat.le_of_ble_eq_true rfl) dX5_voice_11 ?_
    refine g_if_neB h 23 dX5_voice_14 (by decide) (fun c14 => ?_) (fun c14 => ?_)
    · skip
      show G X 0 0 (mW (xT X) o a s S) 23 [(0, .ref o), (1, .int (nI xn)), (2, .int v), (3, .int y)] []
      refine g_aload_n h dX5_voice_23 rfl ?_
      refine g_iconst (v := nI 0) h dX5_voice_24 (by decide) ?_
      refine g_put (ws' := mW (xT X) o a s (sU S 0 (upd (S 0) 5 0))) h hE.1 in_X5 tyX5 tyX5_ok nmX5 0 rfl rfl 13 rfl q1387 rfl rfl rfl rfl rfl rfl dX5_voice_25 rfl ?_
      refine g_aload_n h dX5_voice_28 rfl ?_
      refine g_iload_n h dX5_voice_29 rfl ?_
      refine g_put (ws' := mW (xT X) o a s (sU S 0 (upd (upd (S 0) 5 0) 6 (nI xn)))) h hE.1 in_X5 tyX5 tyX5_ok nmX5 0 rfl rfl 14 rfl q1388 rfl rfl rfl rfl rfl rfl dX5_voice_30 rfl ?_
      refine g_aload_n h dX5_voice_33 rfl ?_
      refine g_iconst (v := nI 0) h dX5_voice_34 (by decide) ?_
      refine g_put (ws' := mW (xT X) o a s (sU S 0 (upd (upd (upd (S 0) 5 0) 6 (nI xn)) 7 0))) h hE.1 in_X5 tyX5 tyX5_ok nmX5 0 rfl rfl 15 rfl q1389 rfl rfl rfl rfl rfl rfl dX5_voice_35 rfl ?_
      rw [show mW (xT X) o a s (sU S 0 (upd (upd (upd (S 0) 5 0) 6 (nI xn)) 7 0)) = mW (xT X) o a s (trS S xn (S 7, 0) false) from mW_eq rfl (by unfold trS; rw [sU_self]; rfl)]
      have hK := (h0.2.2.1 xn (by omega)).1.1; have hK6 := (h0.2.2.1 xn (by omega)).1.2; have h00 : 0 ≤ 30 := by decide
      refine g_aload_n h dX5_voice_38 rfl ?_
      refine g_callVR h (m5_kindNow _ _ _ o a s S xn (S 7, 0) false (by first | assumption | omega)) (fun _ q => q) 0 rfl rfl (lw_V q1769 q1771 qs81 q95 q1772) gy_X5_kindNow ⟨Nat.le_of_ble_eq_true rfl, Nat.le_of_ble_eq_true rfl⟩ ⟨Nat.le_of_ble_eq_true rfl, Nat.le_of_ble_eq_true rfl⟩ rfl rfl (Nat.le_of_ble_eq_true rfl) dX5_voice_39 ?_
      refine g_toN (a := nv (s (20 + 4 * xn))) hK ?_
      refine g_istore (lv' := [(0, .ref o), (1, .int (nI xn)), (2, .int v), (3, .int y), (4, .int (nI (nv (s (20 + 4 * xn)))))]) h dX5_voice_42 (by decide) rfl ?_
      refine g_iload_n h dX5_voice_44 rfl ?_
      refine g_if_ne h 58 dX5_voice_45 (by decide) (fun c45 => ?_) (fun c45 => ?_)
      · skip
        show G X 0 0 (mW (xT X) o a s (trS S xn (S 7, 0) false)) 58 [(0, .ref o), (1, .int (nI xn)), (2, .int v), (3, .int y), (4, .int (nI (nv (s (20 + 4 * xn)))))] []
        refine g_iload_n h dX5_voice_58 rfl ?_
        refine g_iconst (v := nI 1) h dX5_voice_59 (by decide) ?_
        refine g_toI (y := 1) rfl ?_
        refine g_icmp_ne h 73 dX5_voice_60 (by decide) (fun c60 => ?_) (fun c60 => ?_)
        · skip
          show G X 0 0 (mW (xT X) o a s (trS S xn (S 7, 0) false)) 73 [(0, .ref o), (1, .int (nI xn)), (2, .int v), (3, .int y), (4, .int (nI (nv (s (20 + 4 * xn)))))] []
          refine g_iload_n h dX5_voice_73 rfl ?_
          refine g_iconst (v := nI 2) h dX5_voice_74 (by decide) ?_
          refine g_toI (y := 2) rfl ?_
          refine g_icmp_ne h 88 dX5_voice_75 (by decide) (fun c75 => ?_) (fun c75 => ?_)
          · skip
            show G X 0 0 (mW (xT X) o a s (trS S xn (S 7, 0) false)) 88 [(0, .ref o), (1, .int (nI xn)), (2, .int v), (3, .int y), (4, .int (nI (nv (s (20 + 4 * xn)))))] []
            refine g_aload_n h dX5_voice_88 rfl ?_
            refine g_iload h dX5_voice_89 rfl ?_
            refine g_iload_n h dX5_voice_91 rfl ?_
            refine g_callVW0 h hE (m5_minds_g _ _ _ o a s S xn (S 7, 0) false y (nv (s (20 + 4 * xn))) (nv (s (20 + 4 * xn))) (by repeat (first | assumption | apply ranT_le | apply cN_le | apply bu_le | apply bu0_le | apply gi_le | apply mi0_le | apply mi1_le)) (by first | assumption | omega) (by assumption) (by assumption) (by first | assumption | omega)) 0 rfl rfl (lw_V q1796 q1798 qs87 q95 q1799) gy_X5_minds ⟨Nat.le_of_ble_eq_true rfl, Nat.le_of_ble_eq_true rfl⟩ ⟨Nat.le_of_ble_eq_true rfl, Nat.le_of_ble_eq_true rfl⟩ rfl rfl (Nat.le_of_ble_eq_true rfl) dX5_voice_92 (st' := [.int ((mi (nv (s (20 + 4 * xn))) (nv (s (20 + 4 * xn))) xn (s (20 + 4 * xn + 2)) y (S 7, 0)).2.1)]) rfl (fun _ e92 => ?_)
            subst e92
            refine g_istore (lv' := [(0, .ref o), (1, .int (nI xn)), (2, .int v), (3, .int y), (4, .int (nI (nv (s (20 + 4 * xn))))), (5, .int ((mi (nv (s (20 + 4 * xn))) (nv (s (20 + 4 * xn))) xn (s (20 + 4 * xn + 2)) y (S 7, 0)).2.1))]) h dX5_voice_95 (by decide) rfl ?_
            refine g_aload_n h dX5_voice_97 rfl ?_
            refine g_get h in_X5 0 rfl rfl 15 rfl q1389 rfl rfl dX5_voice_98 ?_
            show G X 0 0 (mW (xT X) o a s (trS S xn ((mi (nv (s (20 + 4 * xn))) (nv (s (20 + 4 * xn))) xn (s (20 + 4 * xn + 2)) y (S 7, 0)).2.2) ((mi (nv (s (20 + 4 * xn))) (nv (s (20 + 4 * xn))) xn (s (20 + 4 * xn + 2)) y (S 7, 0)).1))) 101 [(0, .ref o), (1, .int (nI xn)), (2, .int v), (3, .int y), (4, .int (nI (nv (s (20 + 4 * xn))))), (5, .int ((mi (nv (s (20 + 4 * xn))) (nv (s (20 + 4 * xn))) xn (s (20 + 4 * xn + 2)) y (S 7, 0)).2.1))] [.int (bI ((mi (nv (s (20 + 4 * xn))) (nv (s (20 + 4 * xn))) xn (s (20 + 4 * xn + 2)) y (S 7, 0)).1))]
            refine g_if_eqB h 113 dX5_voice_101 (by decide) (fun c101 => ?_) (fun c101 => ?_)
            · skip
              show G X 0 0 (mW (xT X) o a s (trS S xn ((mi (nv (s (20 + 4 * xn))) (nv (s (20 + 4 * xn))) xn (s (20 + 4 * xn + 2)) y (S 7, 0)).2.2) ((mi (nv (s (20 + 4 * xn))) (nv (s (20 + 4 * xn))) xn (s (20 + 4 * xn + 2)) y (S 7, 0)).1))) 113 [(0, .ref o), (1, .int (nI xn)), (2, .int v), (3, .int y), (4, .int (nI (nv (s (20 + 4 * xn))))), (5, .int ((mi (nv (s (20 + 4 * xn))) (nv (s (20 + 4 * xn))) xn (s (20 + 4 * xn + 2)) y (S 7, 0)).2.1))] []
              refine g_iload h dX5_voice_113 rfl ?_
              exact g_iretWv h hE dX5_voice_115 (by have e : (o_voice s (S 7) (S 3) (nv (S 0 5)) (nI xn) v y) = ((mi (nv (s (20 + 4 * xn))) (nv (s (20 + 4 * xn))) xn (s (20 + 4 * xn + 2)) y (S 7, 0)).2.1, ((mi (nv (s (20 + 4 * xn))) (nv (s (20 + 4 * xn))) xn (s (20 + 4 * xn + 2)) y (S 7, 0)).2.2), S 3) := (by simp only [o_voice, voiceV, c5, c14, vx, Bool.and_self, if_true]; simp [c45, c60, c75, c101]); rw [e]) (by have e : (o_voice s (S 7) (S 3) (nv (S 0 5)) (nI xn) v y) = ((mi (nv (s (20 + 4 * xn))) (nv (s (20 + 4 * xn))) xn (s (20 + 4 * xn + 2)) y (S 7, 0)).2.1, ((mi (nv (s (20 + 4 * xn))) (nv (s (20 + 4 * xn))) xn (s (20 + 4 * xn + 2)) y (S 7, 0)).2.2), S 3) := (by simp only [o_voice, voiceV, c5, c14, vx, Bool.and_self, if_true]; simp [c45, c60, c75, c101]); rw [e]; exact ⟨(upd (upd (upd (S 0) 5 (nI ((mi (nv (s (20 + 4 * xn))) (nv (s (20 + 4 * xn))) xn (s (20 + 4 * xn + 2)) y (S 7, 0)).2.2).2)) 6 (nI xn)) 7 (bI ((mi (nv (s (20 + 4 * xn))) (nv (s (20 + 4 * xn))) xn (s (20 + 4 * xn + 2)) y (S 7, 0)).1))), rfl, rfl, mW_eq rfl ((sU_self (trS S xn ((mi (nv (s (20 + 4 * xn))) (nv (s (20 + 4 * xn))) xn (s (20 + 4 * xn + 2)) y (S 7, 0)).2.2) ((mi (nv (s (20 + 4 * xn))) (nv (s (20 + 4 * xn))) xn (s (20 + 4 * xn + 2)) y (S 7, 0)).1)) 3).symm)⟩)
            · skip
              show G X 0 0 (mW (xT X) o a s (trS S xn ((mi (nv (s (20 + 4 * xn))) (nv (s (20 + 4 * xn))) xn (s (20 + 4 * xn + 2)) y (S 7, 0)).2.2) ((mi (nv (s (20 + 4 * xn))) (nv (s (20 + 4 * xn))) xn (s (20 + 4 * xn + 2)) y (S 7, 0)).1))) 104 [(0, .ref o), (1, .int (nI xn)), (2, .int v), (3, .int y), (4, .int (nI (nv (s (20 + 4 * xn))))), (5, .int ((mi (nv (s (20 + 4 * xn))) (nv (s (20 + 4 * xn))) xn (s (20 + 4 * xn + 2)) y (S 7, 0)).2.1))] []
              refine g_aload_n h dX5_voice_104 rfl ?_
              refine g_bipush (v := nI 6) h dX5_voice_105 (by decide) ?_
              refine g_callVW0 h hE (m5_error _ _ _ o a s (trS S xn ((mi (nv (s (20 + 4 * xn))) (nv (s (20 + 4 * xn))) xn (s (20 + 4 * xn + 2)) y (S 7, 0)).2.2) ((mi (nv (s (20 + 4 * xn))) (nv (s (20 + 4 * xn))) xn (s (20 + 4 * xn + 2)) y (S 7, 0)).1)) 6 (by first | assumption | omega)) 0 rfl rfl (lw_V q1446 q1448 qs35 q95 q1449) gy_X5_error ⟨Nat.le_of_ble_eq_true rfl, Nat.le_of_ble_eq_true rfl⟩ ⟨Nat.le_of_ble_eq_true rfl, Nat.le_of_ble_eq_true rfl⟩ rfl rfl (Nat.le_of_ble_eq_true rfl) dX5_voice_107 (st' := [.int (LOW - nI 6)]) rfl (fun _ e107 => ?_)
              subst e107
              refine g_goto h 115 dX5_voice_110 (by decide) ?_
              exact g_iretWv h hE dX5_voice_115 (by have e : (o_voice s (S 7) (S 3) (nv (S 0 5)) (nI xn) v y) = (LOW - nI 6, ((mi (nv (s (20 + 4 * xn))) (nv (s (20 + 4 * xn))) xn (s (20 + 4 * xn + 2)) y (S 7, 0)).2.2), upd (S 3) 6 (S 3 6 + 1)) := (by simp only [o_voice, voiceV, c5, c14, vx, Bool.and_self, if_true]; simp [c45, c60, c75, c101]); rw [e]) (by have e : (o_voice s (S 7) (S 3) (nv (S 0 5)) (nI xn) v y) = (LOW - nI 6, ((mi (nv (s (20 + 4 * xn))) (nv (s (20 + 4 * xn))) xn (s (20 + 4 * xn + 2)) y (S 7, 0)).2.2), upd (S 3) 6 (S 3 6 + 1)) := (by simp only [o_voice, voiceV, c5, c14, vx, Bool.and_self, if_true]; simp [c45, c60, c75, c101]); rw [e]; exact ⟨(upd (upd (upd (S 0) 5 (nI ((mi (nv (s (20 + 4 * xn))) (nv (s (20 + 4 * xn))) xn (s (20 + 4 * xn + 2)) y (S 7, 0)).2.2).2)) 6 (nI xn)) 7 (bI ((mi (nv (s (20 + 4 * xn))) (nv (s (20 + 4 * xn))) xn (s (20 + 4 * xn + 2)) y (S 7, 0)).1))), rfl, rfl, mW_eq rfl (rfl)⟩)
          · skip
            show G X 0 0 (mW (xT X) o a s (trS S xn (S 7, 0) false)) 78 [(0, .ref o), (1, .int (nI xn)), (2, .int v), (3, .int y), (4, .int (nI (nv (s (20 + 4 * xn)))))] []
            refine g_aload_n h dX5_voice_78 rfl ?_
            refine g_iload h dX5_voice_79 rfl ?_
            refine g_iload_n h dX5_voice_81 rfl ?_
            refine g_callVW0 h hE (m5_gives_g _ _ _ o a s S xn (S 7, 0) false y (nv (s (20 + 4 * xn))) (nv (s (20 + 4 * xn))) (by repeat (first | assumption | apply ranT_le | apply cN_le | apply bu_le | apply bu0_le | apply gi_le | apply mi0_le | apply mi1_le)) (by first | assumption | omega) (by assumption) (by assumption) (by first | assumption | omega)) 0 rfl rfl (lw_V q1788 q1790 qs85 q95 q1791) gy_X5_gives ⟨Nat.le_of_ble_eq_true rfl, Nat.le_of_ble_eq_true rfl⟩ ⟨Nat.le_of_ble_eq_true rfl, Nat.le_of_ble_eq_true rfl⟩ rfl rfl (Nat.le_of_ble_eq_true rfl) dX5_voice_82 (st' := [.int ((gi (nv (s (20 + 4 * xn))) (nv (s (20 + 4 * xn))) xn (s (20 + 4 * xn + 2)) y (S 7, 0)).1)]) rfl (fun _ e82 => ?_)
            subst e82
            refine g_goto h 95 dX5_voice_85 (by decide) ?_
            refine g_istore (lv' := [(0, .ref o), (1, .int (nI xn)), (2, .int v), (3, .int y), (4, .int (nI (nv (s (20 + 4 * xn))))), (5, .int ((gi (nv (s (20 + 4 * xn))) (nv (s (20 + 4 * xn))) xn (s (20 + 4 * xn + 2)) y (S 7, 0)).1))]) h dX5_voice_95 (by decide) rfl ?_
            refine g_aload_n h dX5_voice_97 rfl ?_
            refine g_get h in_X5 0 rfl rfl 15 rfl q1389 rfl rfl dX5_voice_98 ?_
            show G X 0 0 (mW (xT X) o a s (trS S xn ((gi (nv (s (20 + 4 * xn))) (nv (s (20 + 4 * xn))) xn (s (20 + 4 * xn + 2)) y (S 7, 0)).2) false)) 101 [(0, .ref o), (1, .int (nI xn)), (2, .int v), (3, .int y), (4, .int (nI (nv (s (20 + 4 * xn))))), (5, .int ((gi (nv (s (20 + 4 * xn))) (nv (s (20 + 4 * xn))) xn (s (20 + 4 * xn + 2)) y (S 7, 0)).1))] [.int (bI false)]
            refine g_if_eqB h 113 dX5_voice_101 (by decide) (fun c101 => ?_) (fun c101 => ?_)
            · skip
              show G X 0 0 (mW (xT X) o a s (trS S xn ((gi (nv (s (20 + 4 * xn))) (nv (s (20 + 4 * xn))) xn (s (20 + 4 * xn + 2)) y (S 7, 0)).2) false)) 113 [(0, .ref o), (1, .int (nI xn)), (2, .int v), (3, .int y), (4, .int (nI (nv (s (20 + 4 * xn))))), (5, .int ((gi (nv (s (20 + 4 * xn))) (nv (s (20 + 4 * xn))) xn (s (20 + 4 * xn + 2)) y (S 7, 0)).1))] []
              refine g_iload h dX5_voice_113 rfl ?_
              exact g_iretWv h hE dX5_voice_115 (by have e : (o_voice s (S 7) (S 3) (nv (S 0 5)) (nI xn) v y) = ((gi (nv (s (20 + 4 * xn))) (nv (s (20 + 4 * xn))) xn (s (20 + 4 * xn + 2)) y (S 7, 0)).1, ((gi (nv (s (20 + 4 * xn))) (nv (s (20 + 4 * xn))) xn (s (20 + 4 * xn + 2)) y (S 7, 0)).2), S 3) := (by simp only [o_voice, voiceV, c5, c14, vx, Bool.and_self, if_true]; simp [c45, c60, c75, c101]); rw [e]) (by have e : (o_voice s (S 7) (S 3) (nv (S 0 5)) (nI xn) v y) = ((gi (nv (s (20 + 4 * xn))) (nv (s (20 + 4 * xn))) xn (s (20 + 4 * xn + 2)) y (S 7, 0)).1, ((gi (nv (s (20 + 4 * xn))) (nv (s (20 + 4 * xn))) xn (s (20 + 4 * xn + 2)) y (S 7, 0)).2), S 3) := (by simp only [o_voice, voiceV, c5, c14, vx, Bool.and_self, if_true]; simp [c45, c60, c75, c101]); rw [e]; exact ⟨(upd (upd (upd (S 0) 5 (nI ((gi (nv (s (20 + 4 * xn))) (nv (s (20 + 4 * xn))) xn (s (20 + 4 * xn + 2)) y (S 7, 0)).2).2)) 6 (nI xn)) 7 (bI false)), rfl, rfl, mW_eq rfl ((sU_self (trS S xn ((gi (nv (s (20 + 4 * xn))) (nv (s (20 + 4 * xn))) xn (s (20 + 4 * xn + 2)) y (S 7, 0)).2) false) 3).symm)⟩)
            · skip
              show G X 0 0 (mW (xT X) o a s (trS S xn ((gi (nv (s (20 + 4 * xn))) (nv (s (20 + 4 * xn))) xn (s (20 + 4 * xn + 2)) y (S 7, 0)).2) false)) 104 [(0, .ref o), (1, .int (nI xn)), (2, .int v), (3, .int y), (4, .int (nI (nv (s (20 + 4 * xn))))), (5, .int ((gi (nv (s (20 + 4 * xn))) (nv (s (20 + 4 * xn))) xn (s (20 + 4 * xn + 2)) y (S 7, 0)).1))] []
              exact absurd c101 (by decide)
        · skip
          show G X 0 0 (mW (xT X) o a s (trS S xn (S 7, 0) false)) 63 [(0, .ref o), (1, .int (nI xn)), (2, .int v), (3, .int y), (4, .int (nI (nv (s (20 + 4 * xn)))))] []
          refine g_aload_n h dX5_voice_63 rfl ?_
          refine g_iload h dX5_voice_64 rfl ?_
          refine g_iload_n h dX5_voice_66 rfl ?_
          refine g_callVW0 h hE (m5_buys_g _ _ _ o a s S xn (S 7, 0) false y (nv (s (20 + 4 * xn))) (nv (s (20 + 4 * xn))) (by repeat (first | assumption | apply ranT_le | apply cN_le | apply bu_le | apply bu0_le | apply gi_le | apply mi0_le | apply mi1_le)) (by first | assumption | omega) (by assumption) (by assumption) (by first | assumption | omega)) 0 rfl rfl (lw_V q1784 q1786 qs84 q95 q1787) gy_X5_buys ⟨Nat.le_of_ble_eq_true rfl, Nat.le_of_ble_eq_true rfl⟩ ⟨Nat.le_of_ble_eq_true rfl, Nat.le_of_ble_eq_true rfl⟩ rfl rfl (Nat.le_of_ble_eq_true rfl) dX5_voice_67 (st' := [.int ((bu (nv (s (20 + 4 * xn))) (nv (s (20 + 4 * xn))) xn y (S 7, 0)).1)]) rfl (fun _ e67 => ?_)
          subst e67
          refine g_goto h 95 dX5_voice_70 (by decide) ?_
          refine g_istore (lv' := [(0, .ref o), (1, .int (nI xn)), (2, .int v), (3, .int y), (4, .int (nI (nv (s (20 + 4 * xn))))), (5, .int ((bu (nv (s (20 + 4 * xn))) (nv (s (20 + 4 * xn))) xn y (S 7, 0)).1))]) h dX5_voice_95 (by decide) rfl ?_
          refine g_aload_n h dX5_voice_97 rfl ?_
          refine g_get h in_X5 0 rfl rfl 15 rfl q1389 rfl rfl dX5_voice_98 ?_
          show G X 0 0 (mW (xT X) o a s (trS S xn ((bu (nv (s (20 + 4 * xn))) (nv (s (20 + 4 * xn))) xn y (S 7, 0)).2) false)) 101 [(0, .ref o), (1, .int (nI xn)), (2, .int v), (3, .int y), (4, .int (nI (nv (s (20 + 4 * xn))))), (5, .int ((bu (nv (s (20 + 4 * xn))) (nv (s (20 + 4 * xn))) xn y (S 7, 0)).1))] [.int (bI false)]
          refine g_if_eqB h 113 dX5_voice_101 (by decide) (fun c101 => ?_) (fun c101 => ?_)
          · skip
            show G X 0 0 (mW (xT X) o a s (trS S xn ((bu (nv (s (20 + 4 * xn))) (nv (s (20 + 4 * xn))) xn y (S 7, 0)).2) false)) 113 [(0, .ref o), (1, .int (nI xn)), (2, .int v), (3, .int y), (4, .int (nI (nv (s (20 + 4 * xn))))), (5, .int ((bu (nv (s (20 + 4 * xn))) (nv (s (20 + 4 * xn))) xn y (S 7, 0)).1))] []
            refine g_iload h dX5_voice_113 rfl ?_
            exact g_iretWv h hE dX5_voice_115 (by have e : (o_voice s (S 7) (S 3) (nv (S 0 5)) (nI xn) v y) = ((bu (nv (s (20 + 4 * xn))) (nv (s (20 + 4 * xn))) xn y (S 7, 0)).1, ((bu (nv (s (20 + 4 * xn))) (nv (s (20 + 4 * xn))) xn y (S 7, 0)).2), S 3) := (by simp only [o_voice, voiceV, c5, c14, vx, Bool.and_self, if_true]; simp [c45, c60, c101]); rw [e]) (by have e : (o_voice s (S 7) (S 3) (nv (S 0 5)) (nI xn) v y) = ((bu (nv (s (20 + 4 * xn))) (nv (s (20 + 4 * xn))) xn y (S 7, 0)).1, ((bu (nv (s (20 + 4 * xn))) (nv (s (20 + 4 * xn))) xn y (S 7, 0)).2), S 3) := (by simp only [o_voice, voiceV, c5, c14, vx, Bool.and_self, if_true]; simp [c45, c60, c101]); rw [e]; exact ⟨(upd (upd (upd (S 0) 5 (nI ((bu (nv (s (20 + 4 * xn))) (nv (s (20 + 4 * xn))) xn y (S 7, 0)).2).2)) 6 (nI xn)) 7 (bI false)), rfl, rfl, mW_eq rfl ((sU_self (trS S xn ((bu (nv (s (20 + 4 * xn))) (nv (s (20 + 4 * xn))) xn y (S 7, 0)).2) false) 3).symm)⟩)
          · skip
            show G X 0 0 (mW (xT X) o a s (trS S xn ((bu (nv (s (20 + 4 * xn))) (nv (s (20 + 4 * xn))) xn y (S 7, 0)).2) false)) 104 [(0, .ref o), (1, .int (nI xn)), (2, .int v), (3, .int y), (4, .int (nI (nv (s (20 + 4 * xn))))), (5, .int ((bu (nv (s (20 + 4 * xn))) (nv (s (20 + 4 * xn))) xn y (S 7, 0)).1))] []
            exact absurd c101 (by decide)
      · skip
        show G X 0 0 (mW (xT X) o a s (trS S xn (S 7, 0) false)) 48 [(0, .ref o), (1, .int (nI xn)), (2, .int v), (3, .int y), (4, .int (nI (nv (s (20 + 4 * xn)))))] []
        refine g_aload_n h dX5_voice_48 rfl ?_
        refine g_iload h dX5_voice_49 rfl ?_
        refine g_iload_n h dX5_voice_51 rfl ?_
        refine g_callVW0 h hE (m5_calls_g _ _ _ o a s S xn (S 7, 0) false y (nv (s (20 + 4 * xn))) (by repeat (first | assumption | apply ranT_le | apply cN_le | apply bu_le | apply bu0_le | apply gi_le | apply mi0_le | apply mi1_le)) (by first | assumption | omega) (by first | assumption | omega)) 0 rfl rfl (lw_V q1773 q1775 qs82 q95 q1776) gy_X5_calls ⟨Nat.le_of_ble_eq_true rfl, Nat.le_of_ble_eq_true rfl⟩ ⟨Nat.le_of_ble_eq_true rfl, Nat.le_of_ble_eq_true rfl⟩ rfl rfl (Nat.le_of_ble_eq_true rfl) dX5_voice_52 (st' := [.int ((cN (nv (s (20 + 4 * xn))) xn y (S 7, 0)).1)]) rfl (fun _ e52 => ?_)
        subst e52
        refine g_goto h 95 dX5_voice_55 (by decide) ?_
        refine g_istore (lv' := [(0, .ref o), (1, .int (nI xn)), (2, .int v), (3, .int y), (4, .int (nI (nv (s (20 + 4 * xn))))), (5, .int ((cN (nv (s (20 + 4 * xn))) xn y (S 7, 0)).1))]) h dX5_voice_95 (by decide) rfl ?_
        refine g_aload_n h dX5_voice_97 rfl ?_
        refine g_get h in_X5 0 rfl rfl 15 rfl q1389 rfl rfl dX5_voice_98 ?_
        show G X 0 0 (mW (xT X) o a s (trS S xn ((cN (nv (s (20 + 4 * xn))) xn y (S 7, 0)).2) false)) 101 [(0, .ref o), (1, .int (nI xn)), (2, .int v), (3, .int y), (4, .int (nI (nv (s (20 + 4 * xn))))), (5, .int ((cN (nv (s (20 + 4 * xn))) xn y (S 7, 0)).1))] [.int (bI false)]
        refine g_if_eqB h 113 dX5_voice_101 (by decide) (fun c101 => ?_) (fun c101 => ?_)
        · skip
          show G X 0 0 (mW (xT X) o a s (trS S xn ((cN (nv (s (20 + 4 * xn))) xn y (S 7, 0)).2) false)) 113 [(0, .ref o), (1, .int (nI xn)), (2, .int v), (3, .int y), (4, .int (nI (nv (s (20 + 4 * xn))))), (5, .int ((cN (nv (s (20 + 4 * xn))) xn y (S 7, 0)).1))] []
          refine g_iload h dX5_voice_113 rfl ?_
          exact g_iretWv h hE dX5_voice_115 (by have e : (o_voice s (S 7) (S 3) (nv (S 0 5)) (nI xn) v y) = ((cN (nv (s (20 + 4 * xn))) xn y (S 7, 0)).1, ((cN (nv (s (20 + 4 * xn))) xn y (S 7, 0)).2), S 3) := (by simp only [o_voice, voiceV, c5, c14, vx, Bool.and_self, if_true]; simp [c45, c101]); rw [e]) (by have e : (o_voice s (S 7) (S 3) (nv (S 0 5)) (nI xn) v y) = ((cN (nv (s (20 + 4 * xn))) xn y (S 7, 0)).1, ((cN (nv (s (20 + 4 * xn))) xn y (S 7, 0)).2), S 3) := (by simp only [o_voice, voiceV, c5, c14, vx, Bool.and_self, if_true]; simp [c45, c101]); rw [e]; exact ⟨(upd (upd (upd (S 0) 5 (nI ((cN (nv (s (20 + 4 * xn))) xn y (S 7, 0)).2).2)) 6 (nI xn)) 7 (bI false)), rfl, rfl, mW_eq rfl ((sU_self (trS S xn ((cN (nv (s (20 + 4 * xn))) xn y (S 7, 0)).2) false) 3).symm)⟩)
        · skip
          show G X 0 0 (mW (xT X) o a s (trS S xn ((cN (nv (s (20 + 4 * xn))) xn y (S 7, 0)).2) false)) 104 [(0, .ref o), (1, .int (nI xn)), (2, .int v), (3, .int y), (4, .int (nI (nv (s (20 + 4 * xn))))), (5, .int ((cN (nv (s (20 + 4 * xn))) xn y (S 7, 0)).1))] []
          exact absurd c101 (by decide)
    · skip
      show G X 0 0 (mW (xT X) o a s S) 17 [(0, .ref o), (1, .int (nI xn)), (2, .int v), (3, .int y)] []
      refine g_aload_n h dX5_voice_17 rfl ?_
      refine g_iconst (v := nI 1) h dX5_voice_18 (by decide) ?_
      refine g_callVW0 h hE (m5_error _ _ _ o a s S 1 (by first | assumption | omega)) 0 rfl rfl (lw_V q1446 q1448 qs35 q95 q1449) gy_X5_error ⟨Nat.le_of_ble_eq_true rfl, Nat.le_of_ble_eq_true rfl⟩ ⟨Nat.le_of_ble_eq_true rfl, Nat.le_of_ble_eq_true rfl⟩ rfl rfl (Nat.le_of_ble_eq_true rfl) dX5_voice_19 (st' := [.int (LOW - nI 1)]) rfl (fun _ e19 => ?_)
      subst e19
      exact g_iretWv h hE dX5_voice_22 (by first | (simp [o_voice, LOW, c5, vx, c14]; done) | (simp_all [o_voice, LOW, c5, vx, c14]; done)) (⟨S 0, rfl, (by simp [o_voice, LOW, c5, vx, c14, sU_self]; exact h1.1), mW_eq (by rfl) (by simp [o_voice, LOW, c5, vx, c14, sU_self])⟩)
