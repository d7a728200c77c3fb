
theorem gy_X5_allBelow : gY yX5_allBelow RX5 1 := ⟨rfl, by decide +kernel, by decide +kernel, by decide +kernel⟩
theorem gy_X5_nobody : gY yX5_nobody RX5 2 := ⟨rfl, by decide +kernel, by decide +kernel, by decide +kernel⟩
theorem gy_X5_gainOf : gY yX5_gainOf RX5 3 := ⟨rfl, by decide +kernel, by decide +kernel, by decide +kernel⟩
theorem gy_X5_lowest : gY yX5_lowest RX5 3 := ⟨rfl, by decide +kernel, by decide +kernel, by decide +kernel⟩
theorem gy_X5_isPriced : gY yX5_isPriced RX5 3 := ⟨rfl, by decide +kernel, by decide +kernel, by decide +kernel⟩
theorem gy_X5_taken : gY yX5_taken RX5 3 := ⟨rfl, by decide +kernel, by decide +kernel, by decide +kernel⟩
theorem gy_X5_gain : gY yX5_gain RX5 3 := ⟨rfl, by decide +kernel, by decide +kernel, by decide +kernel⟩
theorem gy_X5_better : gY yX5_better RX5 4 := ⟨rfl, by decide +kernel, by decide +kernel, by decide +kernel⟩
theorem gy_X5_bestWith : gY yX5_bestWith RX5 2 := ⟨rfl, by decide +kernel, by decide +kernel, by decide +kernel⟩
theorem gy_X5_bestOf : gY yX5_bestOf RX5 1 := ⟨rfl, by decide +kernel, by decide +kernel, by decide +kernel⟩
theorem gy_X5_best : gY yX5_best RX5 1 := ⟨rfl, by decide +kernel, by decide +kernel, by decide +kernel⟩
theorem gy_X5_right : gY yX5_right RX5 1 := ⟨rfl, by decide +kernel, by decide +kernel, by decide +kernel⟩
set_option maxHeartbeats 4000000 in
set_option maxRecDepth 100000 in
theorem m5_allBelow (l : Launch) (D : va_G) (T : Nat → ClassId) (o : Nat) (a : Nat → Nat) (s : Nat → Int32) (S : Nat → Nat → Int32) (t : Nat) (h0 : Inv s) (h1 : t < 12) : MetR l D T yX5_allBelow cX5_allBelow 5 (some .long) 2 43 [.ref o, .int (nI t)] (mW T o a s S) (fun r_ => r_ = some (.long (allB s t))) := by
  refine metR (own := RX5) rfl (by decide) rfl (fun X h hl hDx hTx hE => ?_)
  subst hl; subst hDx; subst hTx
  have hnp := h0.npl; have hnt := h0.ntl; have hnq := h0.nql
  show G X 0 0 (mW (xT X) o a s S) 0 [(0, .ref o), (1, .int (nI t))] []
  refine g_lconst (v := 1) h dX5_allBelow_0 (by decide) ?_
  refine g_lstore_n (lv' := [(0, .ref o), (1, .int (nI t)), (2, .long 1)]) h dX5_allBelow_1 (by decide) rfl ?_
  refine g_iconst (v := nI 0) h dX5_allBelow_2 (by decide) ?_
  refine g_istore (lv' := [(0, .ref o), (1, .int (nI t)), (2, .long 1), (4, .int (nI 0))]) h dX5_allBelow_3 (by decide) rfl ?_
  have lp : ∀ i, i ≤ nP s → ∀ (_u : Unit) (x : Int64), (x = fo i (allF s t) 1) → G X 0 0 (mW (xT X) o a s S) 5 [(0, .ref o), (1, .int (nI t)), (2, .long x), (4, .int (nI i))] [] := by
    refine g_ind (N := nP s) (fun i hi_i ih_lp => ?_)
    intro _u x e0_lp
    refine g_iload h dX5_allBelow_5 rfl ?_
    refine g_aload_n h dX5_allBelow_7 rfl ?_
    refine g_get h in_X5 0 rfl rfl 0 rfl q1374 rfl rfl dX5_allBelow_8 ?_
    refine g_iconst (v := nI 0) h dX5_allBelow_11 (by decide) ?_
    refine g_iald h 1 rfl (by first | assumption | omega) (by decide) dX5_allBelow_12 ?_
    refine g_toN (a := nP s) (Inv.np h0) ?_
    refine g_icmp_geN h 47 dX5_allBelow_13 (by decide) (by first | omega | decide) (by first | omega | decide) (fun c13 => ?_) (fun c13 => ?_)
    · skip
      show G X 0 0 (mW (xT X) o a s S) 47 [(0, .ref o), (1, .int (nI t)), (2, .long x), (4, .int (nI i))] []
      refine g_lload_n h dX5_allBelow_47 rfl ?_
      exact g_lretRv h hE dX5_allBelow_48 (by rw [e0_lp, show i = nP s by omega]; rfl)
    · skip
      show G X 0 0 (mW (xT X) o a s S) 16 [(0, .ref o), (1, .int (nI t)), (2, .long x), (4, .int (nI i))] []
      refine g_lload_n h dX5_allBelow_16 rfl ?_
      refine g_iload h dX5_allBelow_17 rfl ?_
      refine g_aload_n h dX5_allBelow_19 rfl ?_
      refine g_iload_n h dX5_allBelow_20 rfl ?_
      refine g_callVR h (m5_owner _ _ _ o a s S t (by first | assumption | omega)) (fun _ q => q) 0 rfl rfl (lw_V q1475 q1477 qs41 q95 q1478) gy_X5_owner ⟨Nat.le_of_ble_eq_true rfl, Nat.le_of_ble_eq_true rfl⟩ ⟨Nat.le_of_ble_eq_true rfl, Nat.le_of_ble_eq_true rfl⟩ rfl rfl (Nat.le_of_ble_eq_true rfl) dX5_allBelow_21 ?_
      refine g_icmp_ne h 31 dX5_allBelow_24 (by decide) (fun c24 => ?_) (fun c24 => ?_)
      · skip
        show G X 0 0 (mW (xT X) o a s S) 31 [(0, .ref o), (1, .int (nI t)), (2, .long x), (4, .int (nI i))] [.long x]
        refine g_aload_n h dX5_allBelow_31 rfl ?_
        refine g_iload h dX5_allBelow_32 rfl ?_
        refine g_iconst (v := nI 3) h dX5_allBelow_34 (by decide) ?_
        refine g_callVR h (m5_who _ _ _ o a s S i 3 (by first | assumption | omega)) (fun _ q => q) 0 rfl rfl (lw_V q1459 q1461 qs37 q95 q1462) gy_X5_who ⟨Nat.le_of_ble_eq_true rfl, Nat.le_of_ble_eq_true rfl⟩ ⟨Nat.le_of_ble_eq_true rfl, Nat.le_of_ble_eq_true rfl⟩ rfl rfl (Nat.le_of_ble_eq_true rfl) dX5_allBelow_35 ?_
        refine g_i2l h dX5_allBelow_38 ?_
        refine g_lmul h dX5_allBelow_39 ?_
        refine g_lstore_n (lv' := [(0, .ref o), (1, .int (nI t)), (2, .long (x * (Int32.toInt64 (s (20 + 4 * i + 3))))), (4, .int (nI i))]) h dX5_allBelow_40 (by decide) rfl ?_
        refine g_iincN (b := 1) (lv' := [(0, .ref o), (1, .int (nI t)), (2, .long (x * (Int32.toInt64 (s (20 + 4 * i + 3))))), (4, .int (nI (i + 1)))]) h dX5_allBelow_41 rfl rfl (by decide) rfl ?_
        refine g_goto h 5 dX5_allBelow_44 (by decide) ?_
        exact ih_lp (i + 1) (by omega) (by omega) () (x * (Int32.toInt64 (s (20 + 4 * i + 3)))) (by rw [fo_s, ← e0_lp]; simp [allF, c13, c24])
      · skip
        show G X 0 0 (mW (xT X) o a s S) 27 [(0, .ref o), (1, .int (nI t)), (2, .long x), (4, .int (nI i))] [.long x]
        refine g_lconst (v := 1) h dX5_allBelow_27 (by decide) ?_
        refine g_goto h 39 dX5_allBelow_28 (by decide) ?_
        refine g_lmul h dX5_allBelow_39 ?_
        refine g_lstore_n (lv' := [(0, .ref o), (1, .int (nI t)), (2, .long (x * 1)), (4, .int (nI i))]) h dX5_allBelow_40 (by decide) rfl ?_
        refine g_iincN (b := 1) (lv' := [(0, .ref o), (1, .int (nI t)), (2, .long (x * 1)), (4, .int (nI (i + 1)))]) h dX5_allBelow_41 rfl rfl (by decide) rfl ?_
        refine g_goto h 5 dX5_allBelow_44 (by decide) ?_
        exact ih_lp (i + 1) (by omega) (by omega) () (x * 1) (by rw [fo_s, ← e0_lp]; simp [allF, c13, c24])
  exact lp (0) (by omega) () 1 rfl
set_option maxHeartbeats 4000000 in
set_option maxRecDepth 100000 in
theorem m5_nobody (l : Launch) (D : va_G) (T : Nat → ClassId) (o : Nat) (a : Nat → Nat) (s : Nat → Int32) (S : Nat → Nat → Int32) (t : Nat) (price : Int32) (h0 : Inv s) (h1 : t < 12) : MetR l D T yX5_nobody cX5_nobody 7 (some .long) 2 44 [.ref o, .int (nI t), .int price] (mW T o a s S) (fun r_ => r_ = some (.long (nob s t price))) := by
  refine metR (own := RX5) rfl (by decide) rfl (fun X h hl hDx hTx hE => ?_)
  subst hl; subst hDx; subst hTx
  have hnp := h0.npl; have hnt := h0.ntl; have hnq := h0.nql
  show G X 0 0 (mW (xT X) o a s S) 0 [(0, .ref o), (1, .int (nI t)), (2, .int price)] []
  refine g_lconst (v := 1) h dX5_nobody_0 (by decide) ?_
  refine g_lstore_n (lv' := [(0, .ref o), (1, .int (nI t)), (2, .int price), (3, .long 1)]) h dX5_nobody_1 (by decide) rfl ?_
  refine g_iconst (v := nI 0) h dX5_nobody_2 (by decide) ?_
  refine g_istore (lv' := [(0, .ref o), (1, .int (nI t)), (2, .int price), (3, .long 1), (5, .int (nI 0))]) h dX5_nobody_3 (by decide) rfl ?_
  have lp : ∀ i, i ≤ nP s → ∀ (_u : Unit) (x : Int64), (x = fo i (nobF s t price) 1) → G X 0 0 (mW (xT X) o a s S) 5 [(0, .ref o), (1, .int (nI t)), (2, .int price), (3, .long x), (5, .int (nI i))] [] := by
    refine g_ind (N := nP s) (fun i hi_i ih_lp => ?_)
    intro _u x e0_lp
    refine g_iload h dX5_nobody_5 rfl ?_
    refine g_aload_n h dX5_nobody_7 rfl ?_
    refine g_get h in_X5 0 rfl rfl 0 rfl q1374 rfl rfl dX5_nobody_8 ?_
    refine g_iconst (v := nI 0) h dX5_nobody_11 (by decide) ?_
    refine g_iald h 1 rfl (by first | assumption | omega) (by decide) dX5_nobody_12 ?_
    refine g_toN (a := nP s) (Inv.np h0) ?_
    refine g_icmp_geN h 89 dX5_nobody_13 (by decide) (by first | omega | decide) (by first | omega | decide) (fun c13 => ?_) (fun c13 => ?_)
    · skip
      show G X 0 0 (mW (xT X) o a s S) 89 [(0, .ref o), (1, .int (nI t)), (2, .int price), (3, .long x), (5, .int (nI i))] []
      refine g_lload_n h dX5_nobody_89 rfl ?_
      exact g_lretRv h hE dX5_nobody_90 (by rw [e0_lp, show i = nP s by omega]; rfl)
    · skip
      show G X 0 0 (mW (xT X) o a s S) 16 [(0, .ref o), (1, .int (nI t)), (2, .int price), (3, .long x), (5, .int (nI i))] []
      refine g_aload_n h dX5_nobody_16 rfl ?_
      refine g_iload h dX5_nobody_17 rfl ?_
      refine g_iload_n h dX5_nobody_19 rfl ?_
      refine g_callVR h (m5_valueTo _ _ _ o a s S i t (by first | assumption | omega) (by first | assumption | omega)) (fun _ q => q) 0 rfl rfl (lw_V q1487 q1489 qs44 q95 q1490) gy_X5_valueTo ⟨Nat.le_of_ble_eq_true rfl, Nat.le_of_ble_eq_true rfl⟩ ⟨Nat.le_of_ble_eq_true rfl, Nat.le_of_ble_eq_true rfl⟩ rfl rfl (Nat.le_of_ble_eq_true rfl) dX5_nobody_20 ?_
      refine g_iload_n h dX5_nobody_23 rfl ?_
      refine g_icmp_leC h 31 dX5_nobody_24 (by decide) (fun c24 => ?_) (fun c24 => ?_)
      · skip
        show G X 0 0 (mW (xT X) o a s S) 31 [(0, .ref o), (1, .int (nI t)), (2, .int price), (3, .long x), (5, .int (nI i))] []
        refine g_iconst (v := nI 0) h dX5_nobody_31 (by decide) ?_
        refine g_istore (lv' := [(0, .ref o), (1, .int (nI t)), (2, .int price), (3, .long x), (5, .int (nI i)), (6, .int (nI 0))]) h dX5_nobody_32 (by decide) rfl ?_
        refine g_lload_n h dX5_nobody_34 rfl ?_
        refine g_iload h dX5_nobody_35 rfl ?_
        refine g_aload_n h dX5_nobody_37 rfl ?_
        refine g_iload_n h dX5_nobody_38 rfl ?_
        refine g_callVR h (m5_owner _ _ _ o a s S t (by first | assumption | omega)) (fun _ q => q) 0 rfl rfl (lw_V q1475 q1477 qs41 q95 q1478) gy_X5_owner ⟨Nat.le_of_ble_eq_true rfl, Nat.le_of_ble_eq_true rfl⟩ ⟨Nat.le_of_ble_eq_true rfl, Nat.le_of_ble_eq_true rfl⟩ rfl rfl (Nat.le_of_ble_eq_true rfl) dX5_nobody_39 ?_
        refine g_icmp_ne h 49 dX5_nobody_42 (by decide) (fun c42 => ?_) (fun c42 => ?_)
        · skip
          show G X 0 0 (mW (xT X) o a s S) 49 [(0, .ref o), (1, .int (nI t)), (2, .int price), (3, .long x), (5, .int (nI i)), (6, .int (nI 0))] [.long x]
          refine g_iload h dX5_nobody_49 rfl ?_
          refine g_if_eqN h 73 dX5_nobody_51 (by decide) (by first | omega | decide) (fun c51 => ?_) (fun c51 => ?_)
          · skip
            show G X 0 0 (mW (xT X) o a s S) 73 [(0, .ref o), (1, .int (nI t)), (2, .int price), (3, .long x), (5, .int (nI i)), (6, .int (nI 0))] [.long x]
            refine g_aload_n h dX5_nobody_73 rfl ?_
            refine g_iload h dX5_nobody_74 rfl ?_
            refine g_iconst (v := nI 3) h dX5_nobody_76 (by decide) ?_
            refine g_callVR h (m5_who _ _ _ o a s S i 3 (by first | assumption | omega)) (fun _ q => q) 0 rfl rfl (lw_V q1459 q1461 qs37 q95 q1462) gy_X5_who ⟨Nat.le_of_ble_eq_true rfl, Nat.le_of_ble_eq_true rfl⟩ ⟨Nat.le_of_ble_eq_true rfl, Nat.le_of_ble_eq_true rfl⟩ rfl rfl (Nat.le_of_ble_eq_true rfl) dX5_nobody_77 ?_
            refine g_i2l h dX5_nobody_80 ?_
            refine g_lmul h dX5_nobody_81 ?_
            refine g_lstore_n (lv' := [(0, .ref o), (1, .int (nI t)), (2, .int price), (3, .long (x * (Int32.toInt64 (s (20 + 4 * i + 3))))), (5, .int (nI i)), (6, .int (nI 0))]) h dX5_nobody_82 (by decide) rfl ?_
            refine g_iincN (b := 1) (lv' := [(0, .ref o), (1, .int (nI t)), (2, .int price), (3, .long (x * (Int32.toInt64 (s (20 + 4 * i + 3))))), (5, .int (nI (i + 1))), (6, .int (nI 0))]) h dX5_nobody_83 rfl rfl (by decide) rfl ?_
            refine g_goto h 5 dX5_nobody_86 (by decide) ?_
            refine g_lv (lv' := [(0, .ref o), (1, .int (nI t)), (2, .int price), (3, .long (x * (Int32.toInt64 (s (20 + 4 * i + 3))))), (5, .int (nI (i + 1)))]) (lvle_cons rfl (lvle_cons rfl (lvle_cons rfl (lvle_cons rfl (lvle_cons rfl (lvle_nil)))))) ?_
            exact ih_lp (i + 1) (by omega) (by omega) () (x * (Int32.toInt64 (s (20 + 4 * i + 3)))) (by rw [fo_s, ← e0_lp]; simp [nobF, c13, c24, c42, c51])
          · skip
            show G X 0 0 (mW (xT X) o a s S) 54 [(0, .ref o), (1, .int (nI t)), (2, .int price), (3, .long x), (5, .int (nI i)), (6, .int (nI 0))] [.long x]
            exact absurd c51 (by decide)
        · skip
          show G X 0 0 (mW (xT X) o a s S) 45 [(0, .ref o), (1, .int (nI t)), (2, .int price), (3, .long x), (5, .int (nI i)), (6, .int (nI 0))] [.long x]
          refine g_lconst (v := 1) h dX5_nobody_45 (by decide) ?_
          refine g_goto h 81 dX5_nobody_46 (by decide) ?_
          refine g_lmul h dX5_nobody_81 ?_
          refine g_lstore_n (lv' := [(0, .ref o), (1, .int (nI t)), (2, .int price), (3, .long (x * 1)), (5, .int (nI i)), (6, .int (nI 0))]) h dX5_nobody_82 (by decide) rfl ?_
          refine g_iincN (b := 1) (lv' := [(0, .ref o), (1, .int (nI t)), (2, .int price), (3, .long (x * 1)), (5, .int (nI (i + 1))), (6, .int (nI 0))]) h dX5_nobody_83 rfl rfl (by decide) rfl ?_
          refine g_goto h 5 dX5_nobody_86 (by decide) ?_
          refine g_lv (lv' := [(0, .ref o), (1, .int (nI t)), (2, .int price), (3, .long (x * 1)), (5, .int (nI (i + 1)))]) (lvle_cons rfl (lvle_cons rfl (lvle_cons rfl (lvle_cons rfl (lvle_cons rfl (lvle_nil)))))) ?_
          exact ih_lp (i + 1) (by omega) (by omega) () (x * 1) (by rw [fo_s, ← e0_lp]; simp [nobF, c13, c24, c42])
      · skip
        show G X 0 0 (mW (xT X) o a s S) 27 [(0, .ref o), (1, .int (nI t)), (2, .int price), (3, .long x), (5, .int (nI i))] []
        refine g_iconst (v := nI 1) h dX5_nobody_27 (by decide) ?_
        refine g_goto h 32 dX5_nobody_28 (by decide) ?_
        refine g_istore (lv' := [(0, .ref o), (1, .int (nI t)), (2, .int price), (3, .long x), (5, .int (nI i)), (6, .int (nI 1))]) h dX5_nobody_32 (by decide) rfl ?_
        refine g_lload_n h dX5_nobody_34 rfl ?_
        refine g_iload h dX5_nobody_35 rfl ?_
        refine g_aload_n h dX5_nobody_37 rfl ?_
        refine g_iload_n h dX5_nobody_38 rfl ?_
        refine g_callVR h (m5_owner _ _ _ o a s S t (by first | assumption | omega)) (fun _ q => q) 0 rfl rfl (lw_V q1475 q1477 qs41 q95 q1478) gy_X5_owner ⟨Nat.le_of_ble_eq_true rfl, Nat.le_of_ble_eq_true rfl⟩ ⟨Nat.le_of_ble_eq_true rfl, Nat.le_of_ble_eq_true rfl⟩ rfl rfl (Nat.le_of_ble_eq_true rfl) dX5_nobody_39 ?_
        refine g_icmp_ne h 49 dX5_nobody_42 (by decide) (fun c42 => ?_) (fun c42 => ?_)
        · skip
          show G X 0 0 (mW (xT X) o a s S) 49 [(0, .ref o), (1, .int (nI t)), (2, .int price), (3, .long x), (5, .int (nI i)), (6, .int (nI 1))] [.long x]
          refine g_iload h dX5_nobody_49 rfl ?_
          refine g_if_eqN h 73 dX5_nobody_51 (by decide) (by first | omega | decide) (fun c51 => ?_) (fun c51 => ?_)
          · skip
            show G X 0 0 (mW (xT X) o a s S) 73 [(0, .ref o), (1, .int (nI t)), (2, .int price), (3, .long x), (5, .int (nI i)), (6, .int (nI 1))] [.long x]
            exact absurd c51 (by decide)
          · skip
            show G X 0 0 (mW (xT X) o a s S) 54 [(0, .ref o), (1, .int (nI t)), (2, .int price), (3, .long x), (5, .int (nI i)), (6, .int (nI 1))] [.long x]
            refine g_aload_n h dX5_nobody_54 rfl ?_
            refine g_iload h dX5_nobody_55 rfl ?_
            refine g_iconst (v := nI 3) h dX5_nobody_57 (by decide) ?_
            refine g_callVR h (m5_who _ _ _ o a s S i 3 (by first | assumption | omega)) (fun _ q => q) 0 rfl rfl (lw_V q1459 q1461 qs37 q95 q1462) gy_X5_who ⟨Nat.le_of_ble_eq_true rfl, Nat.le_of_ble_eq_true rfl⟩ ⟨Nat.le_of_ble_eq_true rfl, Nat.le_of_ble_eq_true rfl⟩ rfl rfl (Nat.le_of_ble_eq_true rfl) dX5_nobody_58 ?_
            refine g_aload_n h dX5_nobody_61 rfl ?_
            refine g_iload h dX5_nobody_62 rfl ?_
            refine g_iconst (v := nI 2) h dX5_nobody_64 (by decide) ?_
            refine g_callVR h (m5_who _ _ _ o a s S i 2 (by first | assumption | omega)) (fun _ q => q) 0 rfl rfl (lw_V q1459 q1461 qs37 q95 q1462) gy_X5_who ⟨Nat.le_of_ble_eq_true rfl, Nat.le_of_ble_eq_true rfl⟩ ⟨Nat.le_of_ble_eq_true rfl, Nat.le_of_ble_eq_true rfl⟩ rfl rfl (Nat.le_of_ble_eq_true rfl) dX5_nobody_65 ?_
            refine g_isub h dX5_nobody_68 ?_
            refine g_i2l h dX5_nobody_69 ?_
            refine g_goto h 81 dX5_nobody_70 (by decide) ?_
            refine g_lmul h dX5_nobody_81 ?_
            refine g_lstore_n (lv' := [(0, .ref o), (1, .int (nI t)), (2, .int price), (3, .long (x * (Int32.toInt64 ((s (20 + 4 * i + 3)) - (s (20 + 4 * i + 2)))))), (5, .int (nI i)), (6, .int (nI 1))]) h dX5_nobody_82 (by decide) rfl ?_
            refine g_iincN (b := 1) (lv' := [(0, .ref o), (1, .int (nI t)), (2, .int price), (3, .long (x * (Int32.toInt64 ((s (20 + 4 * i + 3)) - (s (20 + 4 * i + 2)))))), (5, .int (nI (i + 1))), (6, .int (nI 1))]) h dX5_nobody_83 rfl rfl (by decide) rfl ?_
            refine g_goto h 5 dX5_nobody_86 (by decide) ?_
            refine g_lv (lv' := [(0, .ref o), (1, .int (nI t)), (2, .int price), (3, .long (x * (Int32.toInt64 ((s (20 + 4 * i + 3)) - (s (20 + 4 * i + 2)))))), (5, .int (nI (i + 1)))]) (lvle_cons rfl (lvle_cons rfl (lvle_cons rfl (lvle_cons rfl (lvle_cons rfl (lvle_nil)))))) ?_
            exact ih_lp (i + 1) (by omega) (by omega) () (x * (Int32.toInt64 ((s (20 + 4 * i + 3)) - (s (20 + 4 * i + 2))))) (by rw [fo_s, ← e0_lp]; simp [nobF, c13, c24, c42, c51])
        · skip
          show G X 0 0 (mW (xT X) o a s S) 45 [(0, .ref o), (1, .int (nI t)), (2, .int price), (3, .long x), (5, .int (nI i)), (6, .int (nI 1))] [.long x]
          refine g_lconst (v := 1) h dX5_nobody_45 (by decide) ?_
          refine g_goto h 81 dX5_nobody_46 (by decide) ?_
          refine g_lmul h dX5_nobody_81 ?_
          refine g_lstore_n (lv' := [(0, .ref o), (1, .int (nI t)), (2, .int price), (3, .long (x * 1)), (5, .int (nI i)), (6, .int (nI 1))]) h dX5_nobody_82 (by decide) rfl ?_
          refine g_iincN (b := 1) (lv' := [(0, .ref o), (1, .int (nI t)), (2, .int price), (3, .long (x * 1)), (5, .int (nI (i + 1))), (6, .int (nI 1))]) h dX5_nobody_83 rfl rfl (by decide) rfl ?_
          refine g_goto h 5 dX5_nobody_86 (by decide) ?_
          refine g_lv (lv' := [(0, .ref o), (1, .int (nI t)), (2, .int price), (3, .long (x * 1)), (5, .int (nI (i + 1)))]) (lvle_cons rfl (lvle_cons rfl (lvle_cons rfl (lvle_cons rfl (lvle_cons rfl (lvle_nil)))))) ?_
          exact ih_lp (i + 1) (by omega) (by omega) () (x * 1) (by rw [fo_s, ← e0_lp]; simp [nobF, c13, c24, c42])
  exact lp (0) (by omega) () 1 rfl
set_option maxHeartbeats 4000000 in
set_option maxRecDepth 100000 in
theorem m5_gainOf (l : Launch) (D : va_G) (T : Nat → ClassId) (o : Nat) (a : Nat → Nat) (s : Nat → Int32) (S : Nat → Nat → Int32) (t : Nat) (price : Int32) (part : Int32) (h0 : Inv s) (h1 : t < nT s) : MetR l D T yX5_gainOf cX5_gainOf 10 (some .long) 3 70 [.ref o, .int (nI t), .int price, .int part] (mW T o a s S) (fun r_ => r_ = some (.long (gaO s t price part))) := by
  refine metR (own := RX5) rfl (by decide) rfl (fun X h hl hDx hTx hE => ?_)
  subst hl; subst hDx; subst hTx
  have hnp := h0.npl; have hnt := h0.ntl; have hnq := h0.nql
  have how := h0.owlE h1
  show G X 0 0 (mW (xT X) o a s S) 0 [(0, .ref o), (1, .int (nI t)), (2, .int price), (3, .int part)] []
  refine g_aload_n h dX5_gainOf_0 rfl ?_
  refine g_iload_n h dX5_gainOf_1 rfl ?_
  refine g_callVR h (m5_allBelow _ _ _ o a s S t h0 (by first | assumption | omega)) (fun _ q => q) 0 rfl rfl (lw_V q1649 q1651 qs67 q95 q1652) gy_X5_allBelow ⟨Nat.le_of_ble_eq_true rfl, Nat.le_of_ble_eq_true rfl⟩ ⟨Nat.le_of_ble_eq_true rfl, Nat.le_of_ble_eq_true rfl⟩ rfl rfl (Nat.le_of_ble_eq_true rfl) dX5_gainOf_2 ?_
  refine g_lstore (lv' := [(0, .ref o), (1, .int (nI t)), (2, .int price), (3, .int part), (4, .long (allB s t))]) h dX5_gainOf_5 (by decide) rfl ?_
  refine g_aload_n h dX5_gainOf_7 rfl ?_
  refine g_iload_n h dX5_gainOf_8 rfl ?_
  refine g_iload_n h dX5_gainOf_9 rfl ?_
  refine g_callVR h (m5_nobody _ _ _ o a s S t price h0 (by first | assumption | omega)) (fun _ q => q) 0 rfl rfl (lw_V q1653 q1655 qs68 q95 q1656) gy_X5_nobody ⟨Nat.le_of_ble_eq_true rfl, Nat.le_of_ble_eq_true rfl⟩ ⟨Nat.le_of_ble_eq_true rfl, Nat.le_of_ble_eq_true rfl⟩ rfl rfl (Nat.le_of_ble_eq_true rfl) dX5_gainOf_10 ?_
  refine g_lstore (lv' := [(0, .ref o), (1, .int (nI t)), (2, .int price), (3, .int part), (4, .long (allB s t)), (6, .long (nob s t price))]) h dX5_gainOf_13 (by decide) rfl ?_
  refine g_aload_n h dX5_gainOf_15 rfl ?_
  refine g_aload_n h dX5_gainOf_16 rfl ?_
  refine g_iload_n h dX5_gainOf_17 rfl ?_
  refine g_callVR h (m5_owner _ _ _ o a s S t (by first | assumption | omega)) (fun _ q => q) 0 rfl rfl (lw_V q1475 q1477 qs41 q95 q1478) gy_X5_owner ⟨Nat.le_of_ble_eq_true rfl, Nat.le_of_ble_eq_true rfl⟩ ⟨Nat.le_of_ble_eq_true rfl, Nat.le_of_ble_eq_true rfl⟩ rfl rfl (Nat.le_of_ble_eq_true rfl) dX5_gainOf_18 ?_
  refine g_toN (a := owr s t) (h0.owE h1) ?_
  refine g_iload_n h dX5_gainOf_21 rfl ?_
  refine g_callVR h (m5_valueTo _ _ _ o a s S (owr s t) t (by first | assumption | omega) (by first | assumption | omega)) (fun _ q => q) 0 rfl rfl (lw_V q1487 q1489 qs44 q95 q1490) gy_X5_valueTo ⟨Nat.le_of_ble_eq_true rfl, Nat.le_of_ble_eq_true rfl⟩ ⟨Nat.le_of_ble_eq_true rfl, Nat.le_of_ble_eq_true rfl⟩ rfl rfl (Nat.le_of_ble_eq_true rfl) dX5_gainOf_22 ?_
  refine g_i2l h dX5_gainOf_25 ?_
  refine g_lstore (lv' := [(0, .ref o), (1, .int (nI t)), (2, .int price), (3, .int part), (4, .long (allB s t)), (6, .long (nob s t price)), (8, .long (Int32.toInt64 (val s (owr s t) t)))]) h dX5_gainOf_26 (by decide) rfl ?_
  refine g_ldc2 h q1657 dX5_gainOf_28 ?_
  refine g_lload h dX5_gainOf_31 rfl ?_
  refine g_lload h dX5_gainOf_33 rfl ?_
  refine g_lsub h dX5_gainOf_35 ?_
  refine g_iload_n h dX5_gainOf_36 rfl ?_
  refine g_i2l h dX5_gainOf_37 ?_
  refine g_lmul h dX5_gainOf_38 ?_
  refine g_lload h dX5_gainOf_39 rfl ?_
  refine g_lload h dX5_gainOf_41 rfl ?_
  refine g_lmul h dX5_gainOf_43 ?_
  refine g_ladd h dX5_gainOf_44 ?_
  refine g_lmul h dX5_gainOf_45 ?_
  refine g_iload_n h dX5_gainOf_46 rfl ?_
  refine g_iload_n h dX5_gainOf_47 rfl ?_
  refine g_imul h dX5_gainOf_48 ?_
  refine g_i2l h dX5_gainOf_49 ?_
  refine g_lload h dX5_gainOf_50 rfl ?_
  refine g_lmul h dX5_gainOf_52 ?_
  refine g_lsub h dX5_gainOf_53 ?_
  exact g_lretRv h hE dX5_gainOf_54 (by first | (simp [gaO]; done) | (simp_all [gaO]; done))
set_option maxHeartbeats 4000000 in
set_option maxRecDepth 100000 in
theorem m5_lowest (l : Launch) (D : va_G) (T : Nat → ClassId) (up : Int64) (below : Int64) (part : Int32) (h0 : ¬ below = 0) : MetR l D T yX5_lowest cX5_lowest 11 (some .long) 0 0 [.long up, .long below, .int part] (([] : va_W)) (fun r_ => r_ = some (.long (lowV up below part))) := by
  refine metR (own := RX5) rfl (by decide) rfl (fun X h hl hDx hTx hE => ?_)
  subst hl; subst hDx; subst hTx
  show G X 0 0 (([] : va_W)) 0 [(0, .long up), (2, .long below), (4, .int part)] []
  refine g_lload_n h dX5_lowest_0 rfl ?_
  refine g_lconst (v := 0) h dX5_lowest_1 (by decide) ?_
  refine g_lcmp h dX5_lowest_2 ?_
  refine g_if_geL h 11 dX5_lowest_3 (by decide) (fun c3 => ?_) (fun c3 => ?_)
  · skip
    show G X 0 0 (([] : va_W)) 11 [(0, .long up), (2, .long below), (4, .int part)] []
    refine g_lload_n h dX5_lowest_11 rfl ?_
    refine g_lstore (lv' := [(0, .long up), (2, .long below), (4, .int part), (5, .long up)]) h dX5_lowest_12 (by decide) rfl ?_
    refine g_lload_n h dX5_lowest_14 rfl ?_
    refine g_lstore (lv' := [(0, .long up), (2, .long below), (4, .int part), (5, .long up), (7, .long below)]) h dX5_lowest_15 (by decide) rfl ?_
    have lw : ∀ q_ : Int64 × Int64, (match q_ with | (x, y) => (gcL below.toInt.natAbs (absL up) below = gcL y.toInt.natAbs x y) → (¬ (x = 0 ∧ y = 0)) → G X 0 0 (([] : va_W)) 17 [(0, .long up), (2, .long below), (4, .int part), (5, .long x), (7, .long y)] []) := by
      refine g_rec (fun q_ => match q_ with | (x, y) => y.toInt.natAbs) ?_
      rintro ⟨x, y⟩ ih_lw e0_lw e1_lw
      skip
      refine g_lload h dX5_lowest_17 rfl ?_
      refine g_lconst (v := 0) h dX5_lowest_19 (by decide) ?_
      refine g_lcmp h dX5_lowest_20 ?_
      refine g_if_eqL h 42 dX5_lowest_21 (by decide) (fun c21 => ?_) (fun c21 => ?_)
      · skip
        show G X 0 0 (([] : va_W)) 42 [(0, .long up), (2, .long below), (4, .int part), (5, .long x), (7, .long y)] []
        subst c21
        have hx0 : ¬ x = 0 := fun z => e1_lw ⟨z, rfl⟩; rw [gcL_0] at e0_lw
        refine g_iload h dX5_lowest_42 rfl ?_
        refine g_if_ne h 54 dX5_lowest_44 (by decide) (fun c44 => ?_) (fun c44 => ?_)
        · skip
          show G X 0 0 (([] : va_W)) 54 [(0, .long up), (2, .long below), (4, .int part), (5, .long x), (7, .long 0)] []
          refine g_lload_n h dX5_lowest_54 rfl ?_
          refine g_lload h dX5_lowest_55 rfl ?_
          refine g_ldiv h dX5_lowest_57 hx0 ?_
          exact g_lretRv h hE dX5_lowest_58 (by unfold lowV; rw [e0_lw]; simp [c44])
        · skip
          show G X 0 0 (([] : va_W)) 47 [(0, .long up), (2, .long below), (4, .int part), (5, .long x), (7, .long 0)] []
          refine g_lload_n h dX5_lowest_47 rfl ?_
          refine g_lload h dX5_lowest_48 rfl ?_
          refine g_ldiv h dX5_lowest_50 hx0 ?_
          refine g_goto h 58 dX5_lowest_51 (by decide) ?_
          exact g_lretRv h hE dX5_lowest_58 (by unfold lowV; rw [e0_lw]; simp [c44])
      · skip
        show G X 0 0 (([] : va_W)) 24 [(0, .long up), (2, .long below), (4, .int part), (5, .long x), (7, .long y)] []
        refine g_lload h dX5_lowest_24 rfl ?_
        refine g_lload h dX5_lowest_26 rfl ?_
        refine g_lrem h dX5_lowest_28 c21 ?_
        refine g_lstore (lv' := [(0, .long up), (2, .long below), (4, .int part), (5, .long x), (7, .long y), (9, .long (x - x / y * y))]) h dX5_lowest_29 (by decide) rfl ?_
        refine g_lload h dX5_lowest_31 rfl ?_
        refine g_lstore (lv' := [(0, .long up), (2, .long below), (4, .int part), (5, .long y), (7, .long y), (9, .long (x - x / y * y))]) h dX5_lowest_33 (by decide) rfl ?_
        refine g_lload h dX5_lowest_35 rfl ?_
        refine g_lstore (lv' := [(0, .long up), (2, .long below), (4, .int part), (5, .long y), (7, .long (x - x / y * y)), (9, .long (x - x / y * y))]) h dX5_lowest_37 (by decide) rfl ?_
        refine g_goto h 17 dX5_lowest_39 (by decide) ?_
        refine g_lv (lv' := [(0, .long up), (2, .long below), (4, .int part), (5, .long y), (7, .long (x - x / y * y))]) (lvle_cons rfl (lvle_cons rfl (lvle_cons rfl (lvle_cons rfl (lvle_cons rfl (lvle_nil)))))) ?_
        exact ih_lw (y, x - x / y * y) (lrem_abs (by assumption)) (e0_lw.trans (gc_step (by assumption))) (fun z => (by assumption : ¬ y = 0) z.1)
    exact lw (up, below) (by simp [absL, *]) (fun z => h0 z.2)
  · skip
    show G X 0 0 (([] : va_W)) 6 [(0, .long up), (2, .long below), (4, .int part)] []
    refine g_lload_n h dX5_lowest_6 rfl ?_
    refine g_lneg h dX5_lowest_7 ?_
    refine g_goto h 12 dX5_lowest_8 (by decide) ?_
    refine g_lstore (lv' := [(0, .long up), (2, .long below), (4, .int part), (5, .long (-up))]) h dX5_lowest_12 (by decide) rfl ?_
    refine g_lload_n h dX5_lowest_14 rfl ?_
    refine g_lstore (lv' := [(0, .long up), (2, .long below), (4, .int part), (5, .long (-up)), (7, .long below)]) h dX5_lowest_15 (by decide) rfl ?_
    have lw : ∀ q_ : Int64 × Int64, (match q_ with | (x, y) => (gcL below.toInt.natAbs (absL up) below = gcL y.toInt.natAbs x y) → (¬ (x = 0 ∧ y = 0)) → G X 0 0 (([] : va_W)) 17 [(0, .long up), (2, .long below), (4, .int part), (5, .long x), (7, .long y)] []) := by
      refine g_rec (fun q_ => match q_ with | (x, y) => y.toInt.natAbs) ?_
      rintro ⟨x, y⟩ ih_lw e0_lw e1_lw
      skip
      refine g_lload h dX5_lowest_17 rfl ?_
      refine g_lconst (v := 0) h dX5_lowest_19 (by decide) ?_
      refine g_lcmp h dX5_lowest_20 ?_
      refine g_if_eqL h 42 dX5_lowest_21 (by decide) (fun c21 => ?_) (fun c21 => ?_)
      · skip
        show G X 0 0 (([] : va_W)) 42 [(0, .long up), (2, .long below), (4, .int part), (5, .long x), (7, .long y)] []
        subst c21
        have hx0 : ¬ x = 0 := fun z => e1_lw ⟨z, rfl⟩; rw [gcL_0] at e0_lw
        refine g_iload h dX5_lowest_42 rfl ?_
        refine g_if_ne h 54 dX5_lowest_44 (by decide) (fun c44 => ?_) (fun c44 => ?_)
        · skip
          show G X 0 0 (([] : va_W)) 54 [(0, .long up), (2, .long below), (4, .int part), (5, .long x), (7, .long 0)] []
          refine g_lload_n h dX5_lowest_54 rfl ?_
          refine g_lload h dX5_lowest_55 rfl ?_
          refine g_ldiv h dX5_lowest_57 hx0 ?_
          exact g_lretRv h hE dX5_lowest_58 (by unfold lowV; rw [e0_lw]; simp [c44])
        · skip
          show G X 0 0 (([] : va_W)) 47 [(0, .long up), (2, .long below), (4, .int part), (5, .long x), (7, .long 0)] []
          refine g_lload_n h dX5_lowest_47 rfl ?_
          refine g_lload h dX5_lowest_48 rfl ?_
          refine g_ldiv h dX5_lowest_50 hx0 ?_
          refine g_goto h 58 dX5_lowest_51 (by decide) ?_
          exact g_lretRv h hE dX5_lowest_58 (by unfold lowV; rw [e0_lw]; simp [c44])
      · skip
        show G X 0 0 (([] : va_W)) 24 [(0, .long up), (2, .long below), (4, .int part), (5, .long x), (7, .long y)] []
        refine g_lload h dX5_lowest_24 rfl ?_
        refine g_lload h dX5_lowest_26 rfl ?_
        refine g_lrem h dX5_lowest_28 c21 ?_
        refine g_lstore (lv' := [(0, .long up), (2, .long below), (4, .int part), (5, .long x), (7, .long y), (9, .long (x - x / y * y))]) h dX5_lowest_29 (by decide) rfl ?_
        refine g_lload h dX5_lowest_31 rfl ?_
        refine g_lstore (lv' := [(0, .long up), (2, .long below), (4, .int part), (5, .long y), (7, .long y), (9, .long (x - x / y * y))]) h dX5_lowest_33 (by decide) rfl ?_
        refine g_lload h dX5_lowest_35 rfl ?_
        refine g_lstore (lv' := [(0, .long up), (2, .long below), (4, .int part), (5, .long y), (7, .long (x - x / y * y)), (9, .long (x - x / y * y))]) h dX5_lowest_37 (by decide) rfl ?_
        refine g_goto h 17 dX5_lowest_39 (by decide) ?_
        refine g_lv (lv' := [(0, .long up), (2, .long below), (4, .int part), (5, .long y), (7, .long (x - x / y * y))]) (lvle_cons rfl (lvle_cons rfl (lvle_cons rfl (lvle_cons rfl (lvle_cons rfl (lvle_nil)))))) ?_
        exact ih_lw (y, x - x / y * y) (lrem_abs (by assumption)) (e0_lw.trans (gc_step (by assumption))) (fun z => (by assumption : ¬ y = 0) z.1)
    exact lw (-up, below) (by simp [absL, *]) (fun z => h0 z.2)
set_option maxHeartbeats 4000000 in
set_option maxRecDepth 100000 in
theorem m5_isPriced (l : Launch) (D : va_G) (T : Nat → ClassId) (o : Nat) (a : Nat → Nat) (s : Nat → Int32) (S : Nat → Nat → Int32) (x : Int32) (price : Int32) (part : Int32) : MetR l D T yX5_isPriced cX5_isPriced 4 (some .boolean) 2 43 [.ref o, .int x, .int price, .int part] (mW T o a s S) (fun r_ => r_ = some (.int (bI (isPr s x price part)))) := by
  refine metR (own := RX5) rfl (by decide) rfl (fun X h hl hDx hTx hE => ?_)
  subst hl; subst hDx; subst hTx
  show G X 0 0 (mW (xT X) o a s S) 0 [(0, .ref o), (1, .int x), (2, .int price), (3, .int part)] []
  refine g_aload_n h dX5_isPriced_0 rfl ?_
  refine g_iload_n h dX5_isPriced_1 rfl ?_
  refine g_callVR h (m5_isThing _ _ _ o a s S x ) (fun _ q => q) 0 rfl rfl (lw_V q1514 q1516 qs45 q95 q1517) gy_X5_isThing ⟨Nat.le_of_ble_eq_true rfl, Nat.le_of_ble_eq_true rfl⟩ ⟨Nat.le_of_ble_eq_true rfl, Nat.le_of_ble_eq_true rfl⟩ rfl rfl (Nat.le_of_ble_eq_true rfl) dX5_isPriced_2 ?_
  refine g_if_eqB h 32 dX5_isPriced_5 (by decide) (fun c5 => ?_) (fun c5 => ?_)
  · skip
    show G X 0 0 (mW (xT X) o a s S) 32 [(0, .ref o), (1, .int x), (2, .int price), (3, .int part)] []
    refine g_iconst (v := nI 0) h dX5_isPriced_32 (by decide) ?_
    exact g_zretRv h hE dX5_isPriced_33 (by rw [show (isPr s x price part) = false by first | (simp [isPr, c5]; done) | (simp_all [isPr, c5]; done)]; rfl)
  · skip
    show G X 0 0 (mW (xT X) o a s S) 8 [(0, .ref o), (1, .int x), (2, .int price), (3, .int part)] []
    refine g_iload_n h dX5_isPriced_8 rfl ?_
    refine g_iconst (v := nI 0) h dX5_isPriced_9 (by decide) ?_
    refine g_sipush (v := nI 9999) h dX5_isPriced_10 (by decide) ?_
    refine g_callSR h (m5_in _ _ _ price 0 9999 ) (fun _ q => nomatch q) (lw_S q1439 q1440 q95 q1441) gy_X5_in ⟨Nat.le_of_ble_eq_true rfl, Nat.le_of_ble_eq_true rfl⟩ ⟨Nat.le_of_ble_eq_true rfl, Nat.le_of_ble_eq_true rfl⟩ rfl rfl (Nat.le_of_ble_eq_true rfl) dX5_isPriced_13 ?_
    refine g_if_eqB h 32 dX5_isPriced_16 (by decide) (fun c16 => ?_) (fun c16 => ?_)
    · skip
      show G X 0 0 (mW (xT X) o a s S) 32 [(0, .ref o), (1, .int x), (2, .int price), (3, .int part)] []
      refine g_iconst (v := nI 0) h dX5_isPriced_32 (by decide) ?_
      exact g_zretRv h hE dX5_isPriced_33 (by rw [show (isPr s x price part) = false by first | (simp [isPr, c5, c16]; done) | (simp_all [isPr, c5, c16]; done)]; rfl)
    · skip
      show G X 0 0 (mW (xT X) o a s S) 19 [(0, .ref o), (1, .int x), (2, .int price), (3, .int part)] []
      refine g_iload_n h dX5_isPriced_19 rfl ?_
      refine g_iconst (v := nI 0) h dX5_isPriced_20 (by decide) ?_
      refine g_iconst (v := nI 1) h dX5_isPriced_21 (by decide) ?_
      refine g_callSR h (m5_in _ _ _ part 0 1 ) (fun _ q => nomatch q) (lw_S q1439 q1440 q95 q1441) gy_X5_in ⟨Nat.le_of_ble_eq_true rfl, Nat.le_of_ble_eq_true rfl⟩ ⟨Nat.le_of_ble_eq_true rfl, Nat.le_of_ble_eq_true rfl⟩ rfl rfl (Nat.le_of_ble_eq_true rfl) dX5_isPriced_22 ?_
      refine g_if_eqB h 32 dX5_isPriced_25 (by decide) (fun c25 => ?_) (fun c25 => ?_)
      · skip
        show G X 0 0 (mW (xT X) o a s S) 32 [(0, .ref o), (1, .int x), (2, .int price), (3, .int part)] []
        refine g_iconst (v := nI 0) h dX5_isPriced_32 (by decide) ?_
        exact g_zretRv h hE dX5_isPriced_33 (by rw [show (isPr s x price part) = false by first | (simp [isPr, c5, c16, c25]; done) | (simp_all [isPr, c5, c16, c25]; done)]; rfl)
      · skip
        show G X 0 0 (mW (xT X) o a s S) 28 [(0, .ref o), (1, .int x), (2, .int price), (3, .int part)] []
        refine g_iconst (v := nI 1) h dX5_isPriced_28 (by decide) ?_
        refine g_goto h 33 dX5_isPriced_29 (by decide) ?_
        exact g_zretRv h hE dX5_isPriced_33 (by rw [show (isPr s x price part) = true by first | (simp [isPr, c5, c16, c25]; done) | (simp_all [isPr, c5, c16, c25]; done)]; rfl)
set_option maxHeartbeats 4000000 in
set_option maxRecDepth 100000 in
theorem m5_taken (l : Launch) (D : va_G) (T : Nat → ClassId) (o : Nat) (a : Nat → Nat) (s : Nat → Int32) (S : Nat → Nat → Int32) (x : Int32) (price : Int32) (part : Int32) (h0 : Inv s) : MetW l D T yX5_taken cX5_taken 6 (some .long) 3 70 0 0 [.ref o, .int x, .int price, .int part] (mW T o a s S) (fun r_ w_ => r_ = some (.long ((o_taken s (S 3) x price part).1)) ∧ (w_ = mW T o a ((o_taken s (S 3) x price part).2.1) (sU S 3 (o_taken s (S 3) x price part).2.2))) := by
  refine metW (own := RX5) rfl (by decide) rfl (fun X h hl hDx hTx hnm hE => ?_)
  subst hl; subst hDx; subst hTx
  have hnp := h0.npl; have hnt := h0.ntl; have hnq := h0.nql
  show G X 0 0 (mW (xT X) o a s S) 0 [(0, .ref o), (1, .int x), (2, .int price), (3, .int part)] []
  refine g_aload_n h dX5_taken_0 rfl ?_
  refine g_iload_n h dX5_taken_1 rfl ?_
  refine g_iload_n h dX5_taken_2 rfl ?_
  refine g_iload_n h dX5_taken_3 rfl ?_
  refine g_callVR h (m5_isPriced _ _ _ o a s S x price part ) (fun _ q => q) 0 rfl rfl (lw_V q1715 q1717 qs78 q95 q1718) gy_X5_isPriced ⟨Nat.le_of_ble_eq_true rfl, Nat.le_of_ble_eq_true rfl⟩ ⟨Nat.le_of_ble_eq_true rfl, Nat.le_of_ble_eq_true rfl⟩ rfl rfl (Nat.le_of_ble_eq_true rfl) dX5_taken_4 ?_
  refine g_if_neB h 17 dX5_taken_7 (by decide) (fun c7 => ?_) (fun c7 => ?_)
  · skip
    show G X 0 0 (mW (xT X) o a s S) 17 [(0, .ref o), (1, .int x), (2, .int price), (3, .int part)] []
    have ⟨c7a, c7b⟩ : isT s x = true ∧ inB price 0 9999 = true ∧ inB part 0 1 = true := by simpa [isPr] using c7
    obtain ⟨xn, hx, rfl⟩ := isT_of h0 c7a
    have vx : nv (nI xn) = xn := nv_nI (by omega)
    refine g_aload_n h dX5_taken_17 rfl ?_
    refine g_iload_n h dX5_taken_18 rfl ?_
    refine g_callVR h (m5_allBelow _ _ _ o a s S xn h0 (by first | assumption | omega)) (fun _ q => q) 0 rfl rfl (lw_V q1649 q1651 qs67 q95 q1652) gy_X5_allBelow ⟨Nat.le_of_ble_eq_true rfl, Nat.le_of_ble_eq_true rfl⟩ ⟨Nat.le_of_ble_eq_true rfl, Nat.le_of_ble_eq_true rfl⟩ rfl rfl (Nat.le_of_ble_eq_true rfl) dX5_taken_19 ?_
    refine g_lstore (lv' := [(0, .ref o), (1, .int (nI xn)), (2, .int price), (3, .int part), (4, .long (allB s xn))]) h dX5_taken_22 (by decide) rfl ?_
    refine g_lload h dX5_taken_24 rfl ?_
    refine g_aload_n h dX5_taken_26 rfl ?_
    refine g_iload_n h dX5_taken_27 rfl ?_
    refine g_iload_n h dX5_taken_28 rfl ?_
    refine g_callVR h (m5_nobody _ _ _ o a s S xn price h0 (by first | assumption | omega)) (fun _ q => q) 0 rfl rfl (lw_V q1653 q1655 qs68 q95 q1656) gy_X5_nobody ⟨Nat.le_of_ble_eq_true rfl, Nat.le_of_ble_eq_true rfl⟩ ⟨Nat.le_of_ble_eq_true rfl, Nat.le_of_ble_eq_true rfl⟩ rfl rfl (Nat.le_of_ble_eq_true rfl) dX5_taken_29 ?_
    refine g_lsub h dX5_taken_32 ?_
    refine g_lload h dX5_taken_33 rfl ?_
    refine g_iload_n h dX5_taken_35 rfl ?_
    refine g_callSR h (m5_lowest _ _ _ ((allB s xn) - (nob s xn price)) (allB s xn) part (allB_ne h0 xn)) (fun _ q => nomatch q) (lw_S q1719 q1720 q95 q1721) gy_X5_lowest ⟨Nat.le_of_ble_eq_true rfl, Nat.le_of_ble_eq_true rfl⟩ ⟨Nat.le_of_ble_eq_true rfl, Nat.le_of_ble_eq_true rfl⟩ rfl rfl (Nat.le_of_ble_eq_true rfl) dX5_taken_36 ?_
    exact g_lretWv h hE dX5_taken_39 (by first | (simp [o_taken, erL, er, LOW, sU_self, nI_pred, nv_nI, c7, vx]; done) | (simp_all [o_taken, erL, er, LOW, sU_self, nI_pred, nv_nI, c7, vx]; done)) (mW_eq (by first | (simp [o_taken, erL, er, LOW, sU_self, nI_pred, nv_nI, c7, vx]; done) | (simp_all [o_taken, erL, er, LOW, sU_self, nI_pred, nv_nI, c7, vx]; done)) (by first | (simp [o_taken, erL, er, LOW, sU_self, nI_pred, nv_nI, c7, vx]; done) | (simp_all [o_taken, erL, er, LOW, sU_self, nI_pred, nv_nI, c7, vx]; done)))
  · skip
    show G X 0 0 (mW (xT X) o a s S) 10 [(0, .ref o), (1, .int x), (2, .int price), (3, .int part)] []
    refine g_aload_n h dX5_taken_10 rfl ?_
    refine g_iconst (v := nI 1) h dX5_taken_11 (by decide) ?_
    refine g_callVW0 h hE (m5_error _ _ _ o a s S 1 (by first | assumption | omega)) 0 rfl rfl (lw_V q1446 q1448 qs35 q95 q1449) gy_X5_error ⟨Nat.le_of_ble_eq_true rfl, Nat.le_of_ble_eq_true rfl⟩ ⟨Nat.le_of_ble_eq_true rfl, Nat.le_of_ble_eq_true rfl⟩ rfl rfl (Nat.le_of_ble_eq_true rfl) dX5_taken_12 (st' := [.int (LOW - nI 1)]) rfl (fun _ e12 => ?_)
    subst e12
    refine g_i2l h dX5_taken_15 ?_
    exact g_lretWv h hE dX5_taken_16 (by first | (simp [o_taken, erL, er, LOW, sU_self, nI_pred, nv_nI, c7]; done) | (simp_all [o_taken, erL, er, LOW, sU_self, nI_pred, nv_nI, c7]; done)) (mW_eq (by first | (simp [o_taken, erL, er, LOW, sU_self, nI_pred, nv_nI, c7]; done) | (simp_all [o_taken, erL, er, LOW, sU_self, nI_pred, nv_nI, c7]; done)) (by first | (simp [o_taken, erL, er, LOW, sU_self, nI_pred, nv_nI, c7]; done) | (simp_all [o_taken, erL, er, LOW, sU_self, nI_pred, nv_nI, c7]; done)))
set_option maxHeartbeats 4000000 in
set_option maxRecDepth 100000 in
theorem m5_gain (l : Launch) (D : va_G) (T : Nat → ClassId) (o : Nat) (a : Nat → Nat) (s : Nat → Int32) (S : Nat → Nat → Int32) (x : Int32) (price : Int32) (part : Int32) (h0 : Inv s) : MetW l D T yX5_gain cX5_gain 4 (some .long) 4 99 0 0 [.ref o, .int x, .int price, .int part] (mW T o a s S) (fun r_ w_ => r_ = some (.long ((o_gain s (S 3) x price part).1)) ∧ (w_ = mW T o a ((o_gain s (S 3) x price part).2.1) (sU S 3 (o_gain s (S 3) x price part).2.2))) := by
  refine metW (own := RX5) rfl (by decide) rfl (fun X h hl hDx hTx hnm hE => ?_)
  subst hl; subst hDx; subst hTx
  have hnp := h0.npl; have hnt := h0.ntl; have hnq := h0.nql
  show G X 0 0 (mW (xT X) o a s S) 0 [(0, .ref o), (1, .int x), (2, .int price), (3, .int part)] []
  refine g_aload_n h dX5_gain_0 rfl ?_
  refine g_iload_n h dX5_gain_1 rfl ?_
  refine g_iload_n h dX5_gain_2 rfl ?_
  refine g_iload_n h dX5_gain_3 rfl ?_
  refine g_callVR h (m5_isPriced _ _ _ o a s S x price part ) (fun _ q => q) 0 rfl rfl (lw_V q1715 q1717 qs78 q95 q1718) gy_X5_isPriced ⟨Nat.le_of_ble_eq_true rfl, Nat.le_of_ble_eq_true rfl⟩ ⟨Nat.le_of_ble_eq_true rfl, Nat.le_of_ble_eq_true rfl⟩ rfl rfl (Nat.le_of_ble_eq_true rfl) dX5_gain_4 ?_
  refine g_if_neB h 17 dX5_gain_7 (by decide) (fun c7 => ?_) (fun c7 => ?_)
  · skip
    show G X 0 0 (mW (xT X) o a s S) 17 [(0, .ref o), (1, .int x), (2, .int price), (3, .int part)] []
    have ⟨c7a, c7b⟩ : isT s x = true ∧ inB price 0 9999 = true ∧ inB part 0 1 = true := by simpa [isPr] using c7
    obtain ⟨xn, hx, rfl⟩ := isT_of h0 c7a
    have vx : nv (nI xn) = xn := nv_nI (by omega)
    refine g_aload_n h dX5_gain_17 rfl ?_
    refine g_iload_n h dX5_gain_18 rfl ?_
    refine g_iload_n h dX5_gain_19 rfl ?_
    refine g_aload_n h dX5_gain_20 rfl ?_
    refine g_get h in_X5 0 rfl rfl 0 rfl q1374 rfl rfl dX5_gain_21 ?_
    refine g_bipush (v := nI 10) h dX5_gain_24 (by decide) ?_
    refine g_iald h 1 rfl (by first | assumption | omega) (by decide) dX5_gain_26 ?_
    refine g_callVR h (m5_gainOf _ _ _ o a s S xn price (s 10) h0 (by first | assumption | omega)) (fun _ q => q) 0 rfl rfl (lw_V q1645 q1647 qs66 q95 q1648) gy_X5_gainOf ⟨Nat.le_of_ble_eq_true rfl, Nat.le_of_ble_eq_true rfl⟩ ⟨Nat.le_of_ble_eq_true rfl, Nat.le_of_ble_eq_true rfl⟩ rfl rfl (Nat.le_of_ble_eq_true rfl) dX5_gain_27 ?_
    refine g_ldc2 h q1657 dX5_gain_30 ?_
    refine g_aload_n h dX5_gain_33 rfl ?_
    refine g_iload_n h dX5_gain_34 rfl ?_
    refine g_callVR h (m5_allBelow _ _ _ o a s S xn h0 (by first | assumption | omega)) (fun _ q => q) 0 rfl rfl (lw_V q1649 q1651 qs67 q95 q1652) gy_X5_allBelow ⟨Nat.le_of_ble_eq_true rfl, Nat.le_of_ble_eq_true rfl⟩ ⟨Nat.le_of_ble_eq_true rfl, Nat.le_of_ble_eq_true rfl⟩ rfl rfl (Nat.le_of_ble_eq_true rfl) dX5_gain_35 ?_
    refine g_lmul h dX5_gain_38 ?_
    refine g_iload_n h dX5_gain_39 rfl ?_
    refine g_callSR h (m5_lowest _ _ _ (gaO s xn price (s 10)) (100 * (allB s xn)) part (allB100_ne h0 xn)) (fun _ q => nomatch q) (lw_S q1719 q1720 q95 q1721) gy_X5_lowest ⟨Nat.le_of_ble_eq_true rfl, Nat.le_of_ble_eq_true rfl⟩ ⟨Nat.le_of_ble_eq_true rfl, Nat.le_of_ble_eq_true rfl⟩ rfl rfl (Nat.le_of_ble_eq_true rfl) dX5_gain_40 ?_
    exact g_lretWv h hE dX5_gain_43 (by first | (simp [o_gain, erL, er, LOW, sU_self, nI_pred, nv_nI, c7, vx]; done) | (simp_all [o_gain, erL, er, LOW, sU_self, nI_pred, nv_nI, c7, vx]; done)) (mW_eq (by first | (simp [o_gain, erL, er, LOW, sU_self, nI_pred, nv_nI, c7, vx]; done) | (simp_all [o_gain, erL, er, LOW, sU_self, nI_pred, nv_nI, c7, vx]; done)) (by first | (simp [o_gain, erL, er, LOW, sU_self, nI_pred, nv_nI, c7, vx]; done) | (simp_all [o_gain, erL, er, LOW, sU_self, nI_pred, nv_nI, c7, vx]; done)))
  · skip
    show G X 0 0 (mW (xT X) o a s S) 10 [(0, .ref o), (1, .int x), (2, .int price), (3, .int part)] []
    refine g_aload_n h dX5_gain_10 rfl ?_
    refine g_iconst (v := nI 1) h dX5_gain_11 (by decide) ?_
    refine g_callVW0 h hE (m5_error _ _ _ o a s S 1 (by first | assumption | omega)) 0 rfl rfl (lw_V q1446 q1448 qs35 q95 q1449) gy_X5_error ⟨Nat.le_of_ble_eq_true rfl, Nat.le_of_ble_eq_true rfl⟩ ⟨Nat.le_of_ble_eq_true rfl, Nat.le_of_ble_eq_true rfl⟩ rfl rfl (Nat.le_of_ble_eq_true rfl) dX5_gain_12 (st' := [.int (LOW - nI 1)]) rfl (fun _ e12 => ?_)
    subst e12
    refine g_i2l h dX5_gain_15 ?_
    exact g_lretWv h hE dX5_gain_16 (by first | (simp [o_gain, erL, er, LOW, sU_self, nI_pred, nv_nI, c7]; done) | (simp_all [o_gain, erL, er, LOW, sU_self, nI_pred, nv_nI, c7]; done)) (mW_eq (by first | (simp [o_gain, erL, er, LOW, sU_self, nI_pred, nv_nI, c7]; done) | (simp_all [o_gain, erL, er, LOW, sU_self, nI_pred, nv_nI, c7]; done)) (by first | (simp [o_gain, erL, er, LOW, sU_self, nI_pred, nv_nI, c7]; done) | (simp_all [o_gain, erL, er, LOW, sU_self, nI_pred, nv_nI, c7]; done)))
set_option maxHeartbeats 4000000 in
set_option maxRecDepth 100000 in
theorem m5_better (l : Launch) (D : va_G) (T : Nat → ClassId) (o : Nat) (a : Nat → Nat) (s : Nat → Int32) (S : Nat → Nat → Int32) (t : Nat) (best : Int32) (price : Int32) (part : Int32) (h0 : Inv s) (h1 : t < nT s) : MetR l D T yX5_better cX5_better 9 (some .int) 4 99 [.ref o, .int (nI t), .int best, .int price, .int part] (mW T o a s S) (fun r_ => r_ = some (.int (betr s t best price part))) := by
  refine metR (own := RX5) rfl (by decide) rfl (fun X h hl hDx hTx hE => ?_)
  subst hl; subst hDx; subst hTx
  have hnp := h0.npl; have hnt := h0.ntl; have hnq := h0.nql
  show G X 0 0 (mW (xT X) o a s S) 0 [(0, .ref o), (1, .int (nI t)), (2, .int best), (3, .int price), (4, .int part)] []
  refine g_iload_n h dX5_better_0 rfl ?_
  refine g_iconst (v := nI 0) h dX5_better_1 (by decide) ?_
  refine g_sipush (v := nI 9999) h dX5_better_2 (by decide) ?_
  refine g_callSR h (m5_in _ _ _ price 0 9999 ) (fun _ q => nomatch q) (lw_S q1439 q1440 q95 q1441) gy_X5_in ⟨Nat.le_of_ble_eq_true rfl, Nat.le_of_ble_eq_true rfl⟩ ⟨Nat.le_of_ble_eq_true rfl, Nat.le_of_ble_eq_true rfl⟩ rfl rfl (Nat.le_of_ble_eq_true rfl) dX5_better_5 ?_
  refine g_if_neB h 13 dX5_better_8 (by decide) (fun c8 => ?_) (fun c8 => ?_)
  · skip
    show G X 0 0 (mW (xT X) o a s S) 13 [(0, .ref o), (1, .int (nI t)), (2, .int best), (3, .int price), (4, .int part)] []
    refine g_aload_n h dX5_better_13 rfl ?_
    refine g_iload_n h dX5_better_14 rfl ?_
    refine g_iload_n h dX5_better_15 rfl ?_
    refine g_iload h dX5_better_16 rfl ?_
    refine g_callVR h (m5_gainOf _ _ _ o a s S t price part h0 (by first | assumption | omega)) (fun _ q => q) 0 rfl rfl (lw_V q1645 q1647 qs66 q95 q1648) gy_X5_gainOf ⟨Nat.le_of_ble_eq_true rfl, Nat.le_of_ble_eq_true rfl⟩ ⟨Nat.le_of_ble_eq_true rfl, Nat.le_of_ble_eq_true rfl⟩ rfl rfl (Nat.le_of_ble_eq_true rfl) dX5_better_18 ?_
    refine g_lstore (lv' := [(0, .ref o), (1, .int (nI t)), (2, .int best), (3, .int price), (4, .int part), (5, .long (gaO s t price part))]) h dX5_better_21 (by decide) rfl ?_
    refine g_aload_n h dX5_better_23 rfl ?_
    refine g_iload_n h dX5_better_24 rfl ?_
    refine g_iload_n h dX5_better_25 rfl ?_
    refine g_iload h dX5_better_26 rfl ?_
    refine g_callVR h (m5_gainOf _ _ _ o a s S t best part h0 (by first | assumption | omega)) (fun _ q => q) 0 rfl rfl (lw_V q1645 q1647 qs66 q95 q1648) gy_X5_gainOf ⟨Nat.le_of_ble_eq_true rfl, Nat.le_of_ble_eq_true rfl⟩ ⟨Nat.le_of_ble_eq_true rfl, Nat.le_of_ble_eq_true rfl⟩ rfl rfl (Nat.le_of_ble_eq_true rfl) dX5_better_28 ?_
    refine g_lstore (lv' := [(0, .ref o), (1, .int (nI t)), (2, .int best), (3, .int price), (4, .int part), (5, .long (gaO s t price part)), (7, .long (gaO s t best part))]) h dX5_better_31 (by decide) rfl ?_
    refine g_lload h dX5_better_33 rfl ?_
    refine g_lload h dX5_better_35 rfl ?_
    refine g_lcmp h dX5_better_37 ?_
    refine g_if_gtL h 54 dX5_better_38 (by decide) (fun c38 => ?_) (fun c38 => ?_)
    · skip
      show G X 0 0 (mW (xT X) o a s S) 54 [(0, .ref o), (1, .int (nI t)), (2, .int best), (3, .int price), (4, .int part), (5, .long (gaO s t price part)), (7, .long (gaO s t best part))] []
      refine g_iload_n h dX5_better_54 rfl ?_
      refine g_goto h 59 dX5_better_55 (by decide) ?_
      exact g_iretRv h hE dX5_better_59 (by first | (simp [betr, c8, c38]; done) | (simp_all [betr, c8, c38]; done))
    · skip
      show G X 0 0 (mW (xT X) o a s S) 41 [(0, .ref o), (1, .int (nI t)), (2, .int best), (3, .int price), (4, .int part), (5, .long (gaO s t price part)), (7, .long (gaO s t best part))] []
      refine g_lload h dX5_better_41 rfl ?_
      refine g_lload h dX5_better_43 rfl ?_
      refine g_lcmp h dX5_better_45 ?_
      refine g_if_neL h 58 dX5_better_46 (by decide) (fun c46 => ?_) (fun c46 => ?_)
      · skip
        show G X 0 0 (mW (xT X) o a s S) 58 [(0, .ref o), (1, .int (nI t)), (2, .int best), (3, .int price), (4, .int part), (5, .long (gaO s t price part)), (7, .long (gaO s t best part))] []
        refine g_iload_n h dX5_better_58 rfl ?_
        exact g_iretRv h hE dX5_better_59 (by first | (simp [betr, c8, c38, c46]; done) | (simp_all [betr, c8, c38, c46]; done))
      · skip
        show G X 0 0 (mW (xT X) o a s S) 49 [(0, .ref o), (1, .int (nI t)), (2, .int best), (3, .int price), (4, .int part), (5, .long (gaO s t price part)), (7, .long (gaO s t best part))] []
        refine g_iload_n h dX5_better_49 rfl ?_
        refine g_iload_n h dX5_better_50 rfl ?_
        refine g_icmp_geC h 58 dX5_better_51 (by decide) (fun c51 => ?_) (fun c51 => ?_)
        · skip
          show G X 0 0 (mW (xT X) o a s S) 58 [(0, .ref o), (1, .int (nI t)), (2, .int best), (3, .int price), (4, .int part), (5, .long (gaO s t price part)), (7, .long (gaO s t best part))] []
          refine g_iload_n h dX5_better_58 rfl ?_
          exact g_iretRv h hE dX5_better_59 (by first | (simp [betr, c8, c38, c46, c51]; done) | (simp_all [betr, c8, c38, c46, c51]; done))
        · skip
          show G X 0 0 (mW (xT X) o a s S) 54 [(0, .ref o), (1, .int (nI t)), (2, .int best), (3, .int price), (4, .int part), (5, .long (gaO s t price part)), (7, .long (gaO s t best part))] []
          refine g_iload_n h dX5_better_54 rfl ?_
          refine g_goto h 59 dX5_better_55 (by decide) ?_
          exact g_iretRv h hE dX5_better_59 (by first | (simp [betr, c8, c38, c46, c51]; done) | (simp_all [betr, c8, c38, c46, c51]; done))
  · skip
    show G X 0 0 (mW (xT X) o a s S) 11 [(0, .ref o), (1, .int (nI t)), (2, .int best), (3, .int price), (4, .int part)] []
    refine g_iload_n h dX5_better_11 rfl ?_
    exact g_iretRv h hE dX5_better_12 (by first | (simp [betr, c8]; done) | (simp_all [betr, c8]; done))
set_option maxHeartbeats 4000000 in
set_option maxRecDepth 100000 in
theorem m5_bestWith (l : Launch) (D : va_G) (T : Nat → ClassId) (o : Nat) (a : Nat → Nat) (s : Nat → Int32) (S : Nat → Nat → Int32) (t : Nat) (part : Int32) (h0 : Inv s) (h1 : t < nT s) : MetR l D T yX5_bestWith cX5_bestWith 5 (some .int) 5 127 [.ref o, .int (nI t), .int part] (mW T o a s S) (fun r_ => r_ = some (.int (bestW s t part))) := by
  refine metR (own := RX5) rfl (by decide) rfl (fun X h hl hDx hTx hE => ?_)
  subst hl; subst hDx; subst hTx
  have hnp := h0.npl; have hnt := h0.ntl; have hnq := h0.nql
  show G X 0 0 (mW (xT X) o a s S) 0 [(0, .ref o), (1, .int (nI t)), (2, .int part)] []
  refine g_aload_n h dX5_bestWith_0 rfl ?_
  refine g_iload_n h dX5_bestWith_1 rfl ?_
  refine g_iconst (v := nI 0) h dX5_bestWith_2 (by decide) ?_
  refine g_sipush (v := nI 9999) h dX5_bestWith_3 (by decide) ?_
  refine g_iload_n h dX5_bestWith_6 rfl ?_
  refine g_callVR h (m5_better _ _ _ o a s S t 0 9999 part h0 (by first | assumption | omega)) (fun _ q => q) 0 rfl rfl (lw_V q1641 q1643 qs65 q95 q1644) gy_X5_better ⟨Nat.le_of_ble_eq_true rfl, Nat.le_of_ble_eq_true rfl⟩ ⟨Nat.le_of_ble_eq_true rfl, Nat.le_of_ble_eq_true rfl⟩ rfl rfl (Nat.le_of_ble_eq_true rfl) dX5_bestWith_7 ?_
  refine g_istore_n (lv' := [(0, .ref o), (1, .int (nI t)), (2, .int part), (3, .int (betr s t 0 9999 part))]) h dX5_bestWith_10 (by decide) rfl ?_
  refine g_iconst (v := nI 0) h dX5_bestWith_11 (by decide) ?_
  refine g_istore (lv' := [(0, .ref o), (1, .int (nI t)), (2, .int part), (3, .int (betr s t 0 9999 part)), (4, .int (nI 0))]) h dX5_bestWith_12 (by decide) rfl ?_
  have lp : ∀ i, i ≤ nP s → ∀ (_u : Unit) (x : Int32), (x = fo i (bestF s t part) (betr s t 0 9999 part)) → G X 0 0 (mW (xT X) o a s S) 14 [(0, .ref o), (1, .int (nI t)), (2, .int part), (3, .int x), (4, .int (nI i))] [] := by
    refine g_ind (N := nP s) (fun i hi_i ih_lp => ?_)
    intro _u x e0_lp
    refine g_iload h dX5_bestWith_14 rfl ?_
    refine g_aload_n h dX5_bestWith_16 rfl ?_
    refine g_get h in_X5 0 rfl rfl 0 rfl q1374 rfl rfl dX5_bestWith_17 ?_
    refine g_iconst (v := nI 0) h dX5_bestWith_20 (by decide) ?_
    refine g_iald h 1 rfl (by first | assumption | omega) (by decide) dX5_bestWith_21 ?_
    refine g_toN (a := nP s) (Inv.np h0) ?_
    refine g_icmp_geN h 73 dX5_bestWith_22 (by decide) (by first | omega | decide) (by first | omega | decide) (fun c22 => ?_) (fun c22 => ?_)
    · skip
      show G X 0 0 (mW (xT X) o a s S) 73 [(0, .ref o), (1, .int (nI t)), (2, .int part), (3, .int x), (4, .int (nI i))] []
      refine g_iload_n h dX5_bestWith_73 rfl ?_
      exact g_iretRv h hE dX5_bestWith_74 (by rw [e0_lp, show i = nP s by omega]; rfl)
    · skip
      show G X 0 0 (mW (xT X) o a s S) 25 [(0, .ref o), (1, .int (nI t)), (2, .int part), (3, .int x), (4, .int (nI i))] []
      refine g_iload h dX5_bestWith_25 rfl ?_
      refine g_aload_n h dX5_bestWith_27 rfl ?_
      refine g_iload_n h dX5_bestWith_28 rfl ?_
      refine g_callVR h (m5_owner _ _ _ o a s S t (by first | assumption | omega)) (fun _ q => q) 0 rfl rfl (lw_V q1475 q1477 qs41 q95 q1478) gy_X5_owner ⟨Nat.le_of_ble_eq_true rfl, Nat.le_of_ble_eq_true rfl⟩ ⟨Nat.le_of_ble_eq_true rfl, Nat.le_of_ble_eq_true rfl⟩ rfl rfl (Nat.le_of_ble_eq_true rfl) dX5_bestWith_29 ?_
      refine g_icmp_eq h 67 dX5_bestWith_32 (by decide) (fun c32 => ?_) (fun c32 => ?_)
      · skip
        show G X 0 0 (mW (xT X) o a s S) 67 [(0, .ref o), (1, .int (nI t)), (2, .int part), (3, .int x), (4, .int (nI i))] []
        refine g_iincN (b := 1) (lv' := [(0, .ref o), (1, .int (nI t)), (2, .int part), (3, .int x), (4, .int (nI (i + 1)))]) h dX5_bestWith_67 rfl rfl (by decide) rfl ?_
        refine g_goto h 14 dX5_bestWith_70 (by decide) ?_
        exact ih_lp (i + 1) (by omega) (by omega) () x (by rw [fo_s, ← e0_lp]; simp [bestF, c22, c32])
      · skip
        show G X 0 0 (mW (xT X) o a s S) 35 [(0, .ref o), (1, .int (nI t)), (2, .int part), (3, .int x), (4, .int (nI i))] []
        refine g_aload_n h dX5_bestWith_35 rfl ?_
        refine g_iload_n h dX5_bestWith_36 rfl ?_
        refine g_iload_n h dX5_bestWith_37 rfl ?_
        refine g_aload_n h dX5_bestWith_38 rfl ?_
        refine g_iload h dX5_bestWith_39 rfl ?_
        refine g_iload_n h dX5_bestWith_41 rfl ?_
        refine g_callVR h (m5_valueTo _ _ _ o a s S i t (by first | assumption | omega) (by first | assumption | omega)) (fun _ q => q) 0 rfl rfl (lw_V q1487 q1489 qs44 q95 q1490) gy_X5_valueTo ⟨Nat.le_of_ble_eq_true rfl, Nat.le_of_ble_eq_true rfl⟩ ⟨Nat.le_of_ble_eq_true rfl, Nat.le_of_ble_eq_true rfl⟩ rfl rfl (Nat.le_of_ble_eq_true rfl) dX5_bestWith_42 ?_
        refine g_iload_n h dX5_bestWith_45 rfl ?_
        refine g_callVR h (m5_better _ _ _ o a s S t x (val s i t) part h0 (by first | assumption | omega)) (fun _ q => q) 0 rfl rfl (lw_V q1641 q1643 qs65 q95 q1644) gy_X5_better ⟨Nat.le_of_ble_eq_true rfl, Nat.le_of_ble_eq_true rfl⟩ ⟨Nat.le_of_ble_eq_true rfl, Nat.le_of_ble_eq_true rfl⟩ rfl rfl (Nat.le_of_ble_eq_true rfl) dX5_bestWith_46 ?_
        refine g_istore_n (lv' := [(0, .ref o), (1, .int (nI t)), (2, .int part), (3, .int (betr s t x (val s i t) part)), (4, .int (nI i))]) h dX5_bestWith_49 (by decide) rfl ?_
        refine g_aload_n h dX5_bestWith_50 rfl ?_
        refine g_iload_n h dX5_bestWith_51 rfl ?_
        refine g_iload_n h dX5_bestWith_52 rfl ?_
        refine g_aload_n h dX5_bestWith_53 rfl ?_
        refine g_iload h dX5_bestWith_54 rfl ?_
        refine g_iload_n h dX5_bestWith_56 rfl ?_
        refine g_callVR h (m5_valueTo _ _ _ o a s S i t (by first | assumption | omega) (by first | assumption | omega)) (fun _ q => q) 0 rfl rfl (lw_V q1487 q1489 qs44 q95 q1490) gy_X5_valueTo ⟨Nat.le_of_ble_eq_true rfl, Nat.le_of_ble_eq_true rfl⟩ ⟨Nat.le_of_ble_eq_true rfl, Nat.le_of_ble_eq_true rfl⟩ rfl rfl (Nat.le_of_ble_eq_true rfl) dX5_bestWith_57 ?_
        refine g_iconst (v := nI 1) h dX5_bestWith_60 (by decide) ?_
        refine g_toI (y := 1) rfl ?_
        refine g_isub h dX5_bestWith_61 ?_
        refine g_iload_n h dX5_bestWith_62 rfl ?_
        refine g_callVR h (m5_better _ _ _ o a s S t (betr s t x (val s i t) part) ((val s i t) - 1) part h0 (by first | assumption | omega)) (fun _ q => q) 0 rfl rfl (lw_V q1641 q1643 qs65 q95 q1644) gy_X5_better ⟨Nat.le_of_ble_eq_true rfl, Nat.le_of_ble_eq_true rfl⟩ ⟨Nat.le_of_ble_eq_true rfl, Nat.le_of_ble_eq_true rfl⟩ rfl rfl (Nat.le_of_ble_eq_true rfl) dX5_bestWith_63 ?_
        refine g_istore_n (lv' := [(0, .ref o), (1, .int (nI t)), (2, .int part), (3, .int (betr s t (betr s t x (val s i t) part) ((val s i t) - 1) part)), (4, .int (nI i))]) h dX5_bestWith_66 (by decide) rfl ?_
        refine g_iincN (b := 1) (lv' := [(0, .ref o), (1, .int (nI t)), (2, .int part), (3, .int (betr s t (betr s t x (val s i t) part) ((val s i t) - 1) part)), (4, .int (nI (i + 1)))]) h dX5_bestWith_67 rfl rfl (by decide) rfl ?_
        refine g_goto h 14 dX5_bestWith_70 (by decide) ?_
        exact ih_lp (i + 1) (by omega) (by omega) () (betr s t (betr s t x (val s i t) part) ((val s i t) - 1) part) (by rw [fo_s, ← e0_lp]; simp [bestF, c22, c32])
  exact lp (0) (by omega) () (betr s t 0 9999 part) rfl
set_option maxHeartbeats 4000000 in
set_option maxRecDepth 100000 in
theorem m5_bestOf (l : Launch) (D : va_G) (T : Nat → ClassId) (o : Nat) (a : Nat → Nat) (s : Nat → Int32) (S : Nat → Nat → Int32) (t : Nat) (h0 : Inv s) (h1 : t < nT s) : MetR l D T yX5_bestOf cX5_bestOf 2 (some .int) 6 151 [.ref o, .int (nI t)] (mW T o a s S) (fun r_ => r_ = some (.int (bestW s t (s 10)))) := by
  refine metR (own := RX5) rfl (by decide) rfl (fun X h hl hDx hTx hE => ?_)
  subst hl; subst hDx; subst hTx
  have hnp := h0.npl; have hnt := h0.ntl; have hnq := h0.nql
  show G X 0 0 (mW (xT X) o a s S) 0 [(0, .ref o), (1, .int (nI t))] []
  refine g_aload_n h dX5_bestOf_0 rfl ?_
  refine g_iload_n h dX5_bestOf_1 rfl ?_
  refine g_aload_n h dX5_bestOf_2 rfl ?_
  refine g_get h in_X5 0 rfl rfl 0 rfl q1374 rfl rfl dX5_bestOf_3 ?_
  refine g_bipush (v := nI 10) h dX5_bestOf_6 (by decide) ?_
  refine g_iald h 1 rfl (by first | assumption | omega) (by decide) dX5_bestOf_8 ?_
  refine g_callVR h (m5_bestWith _ _ _ o a s S t (s 10) h0 (by first | assumption | omega)) (fun _ q => q) 0 rfl rfl (lw_V q1637 q1639 qs64 q95 q1640) gy_X5_bestWith ⟨Nat.le_of_ble_eq_true rfl, Nat.le_of_ble_eq_true rfl⟩ ⟨Nat.le_of_ble_eq_true rfl, Nat.le_of_ble_eq_true rfl⟩ rfl rfl (Nat.le_of_ble_eq_true rfl) dX5_bestOf_9 ?_
  exact g_iretRv h hE dX5_bestOf_12 rfl
set_option maxHeartbeats 4000000 in
set_option maxRecDepth 100000 in
theorem m5_best (l : Launch) (D : va_G) (T : Nat → ClassId) (o : Nat) (a : Nat → Nat) (s : Nat → Int32) (S : Nat → Nat → Int32) (x : Int32) (h0 : Inv s) : MetW l D T yX5_best cX5_best 2 (some .int) 7 172 0 0 [.ref o, .int x] (mW T o a s S) (fun r_ w_ => r_ = some (.int ((o_best s (S 3) x).1)) ∧ (w_ = mW T o a ((o_best s (S 3) x).2.1) (sU S 3 (o_best s (S 3) x).2.2))) := by
  refine metW (own := RX5) rfl (by decide) rfl (fun X h hl hDx hTx hnm hE => ?_)
  subst hl; subst hDx; subst hTx
  have hnp := h0.npl; have hnt := h0.ntl; have hnq := h0.nql
  show G X 0 0 (mW (xT X) o a s S) 0 [(0, .ref o), (1, .int x)] []
  refine g_aload_n h dX5_best_0 rfl ?_
  refine g_iload_n h dX5_best_1 rfl ?_
  refine g_callVR h (m5_isThing _ _ _ o a s S x ) (fun _ q => q) 0 rfl rfl (lw_V q1514 q1516 qs45 q95 q1517) gy_X5_isThing ⟨Nat.le_of_ble_eq_true rfl, Nat.le_of_ble_eq_true rfl⟩ ⟨Nat.le_of_ble_eq_true rfl, Nat.le_of_ble_eq_true rfl⟩ rfl rfl (Nat.le_of_ble_eq_true rfl) dX5_best_2 ?_
  refine g_if_eqB h 16 dX5_best_5 (by decide) (fun c5 => ?_) (fun c5 => ?_)
  · skip
    show G X 0 0 (mW (xT X) o a s S) 16 [(0, .ref o), (1, .int x)] []
    refine g_aload_n h dX5_best_16 rfl ?_
    refine g_iconst (v := nI 1) h dX5_best_17 (by decide) ?_
    refine g_callVW0 h hE (m5_error _ _ _ o a s S 1 (by first | assumption | omega)) 0 rfl rfl (lw_V q1446 q1448 qs35 q95 q1449) gy_X5_error ⟨Nat.le_of_ble_eq_true rfl, Nat.le_of_ble_eq_true rfl⟩ ⟨Nat.le_of_ble_eq_true rfl, Nat.le_of_ble_eq_true rfl⟩ rfl rfl (Nat.le_of_ble_eq_true rfl) dX5_best_18 (st' := [.int (LOW - nI 1)]) rfl (fun _ e18 => ?_)
    subst e18
    exact g_iretWv h hE dX5_best_21 (by first | (simp [o_best, er, LOW, sU_self, nI_pred, nv_nI, c5]; done) | (simp_all [o_best, er, LOW, sU_self, nI_pred, nv_nI, c5]; done)) (mW_eq (by first | (simp [o_best, er, LOW, sU_self, nI_pred, nv_nI, c5]; done) | (simp_all [o_best, er, LOW, sU_self, nI_pred, nv_nI, c5]; done)) (by first | (simp [o_best, er, LOW, sU_self, nI_pred, nv_nI, c5]; done) | (simp_all [o_best, er, LOW, sU_self, nI_pred, nv_nI, c5]; done)))
  · skip
    show G X 0 0 (mW (xT X) o a s S) 8 [(0, .ref o), (1, .int x)] []
    obtain ⟨xn, hx, rfl⟩ := isT_of h0 c5
    have vx : nv (nI xn) = xn := nv_nI (by omega)
    refine g_aload_n h dX5_best_8 rfl ?_
    refine g_iload_n h dX5_best_9 rfl ?_
    refine g_callVR h (m5_bestOf _ _ _ o a s S xn h0 (by first | assumption | omega)) (fun _ q => q) 0 rfl rfl (lw_V q1633 q1635 qs63 q95 q1636) gy_X5_bestOf ⟨Nat.le_of_ble_eq_true rfl, Nat.le_of_ble_eq_true rfl⟩ ⟨Nat.le_of_ble_eq_true rfl, Nat.le_of_ble_eq_true rfl⟩ rfl rfl (Nat.le_of_ble_eq_true rfl) dX5_best_10 ?_
    refine g_goto h 21 dX5_best_13 (by decide) ?_
    exact g_iretWv h hE dX5_best_21 (by first | (simp [o_best, er, LOW, sU_self, nI_pred, nv_nI, c5, vx]; done) | (simp_all [o_best, er, LOW, sU_self, nI_pred, nv_nI, c5, vx]; done)) (mW_eq (by first | (simp [o_best, er, LOW, sU_self, nI_pred, nv_nI, c5, vx]; done) | (simp_all [o_best, er, LOW, sU_self, nI_pred, nv_nI, c5, vx]; done)) (by first | (simp [o_best, er, LOW, sU_self, nI_pred, nv_nI, c5, vx]; done) | (simp_all [o_best, er, LOW, sU_self, nI_pred, nv_nI, c5, vx]; done)))
set_option maxHeartbeats 4000000 in
set_option maxRecDepth 100000 in
theorem m5_right (l : Launch) (D : va_G) (T : Nat → ClassId) (o : Nat) (a : Nat → Nat) (s : Nat → Int32) (S : Nat → Nat → Int32) (x : Int32) (h0 : Inv s) : MetW l D T yX5_right cX5_right 3 (some .int) 6 151 0 0 [.ref o, .int x] (mW T o a s S) (fun r_ w_ => r_ = some (.int ((o_right s (S 3) x).1)) ∧ (w_ = mW T o a ((o_right s (S 3) x).2.1) (sU S 3 (o_right s (S 3) x).2.2))) := by
  refine metW (own := RX5) rfl (by decide) rfl (fun X h hl hDx hTx hnm hE => ?_)
  subst hl; subst hDx; subst hTx
  have hnp := h0.npl; have hnt := h0.ntl; have hnq := h0.nql
  have how := @Inv.owlE s h0
  show G X 0 0 (mW (xT X) o a s S) 0 [(0, .ref o), (1, .int x)] []
  refine g_aload_n h dX5_right_0 rfl ?_
  refine g_iload_n h dX5_right_1 rfl ?_
  refine g_callVR h (m5_isThing _ _ _ o a s S x ) (fun _ q => q) 0 rfl rfl (lw_V q1514 q1516 qs45 q95 q1517) gy_X5_isThing ⟨Nat.le_of_ble_eq_true rfl, Nat.le_of_ble_eq_true rfl⟩ ⟨Nat.le_of_ble_eq_true rfl, Nat.le_of_ble_eq_true rfl⟩ rfl rfl (Nat.le_of_ble_eq_true rfl) dX5_right_2 ?_
  refine g_if_neB h 14 dX5_right_5 (by decide) (fun c5 => ?_) (fun c5 => ?_)
  · skip
    show G X 0 0 (mW (xT X) o a s S) 14 [(0, .ref o), (1, .int x)] []
    obtain ⟨xn, hx, rfl⟩ := isT_of h0 c5
    have vx : nv (nI xn) = xn := nv_nI (by omega)
    refine g_iconst (v := nI 0) h dX5_right_14 (by decide) ?_
    refine g_istore_n (lv' := [(0, .ref o), (1, .int (nI xn)), (2, .int (nI 0))]) h dX5_right_15 (by decide) rfl ?_
    have lp : ∀ i, i ≤ 100 → ∀ (_u : Unit), (rightR s xn 100 0 = rightR s xn (100 - i) i) → G X 0 0 (mW (xT X) o a s S) 16 [(0, .ref o), (1, .int (nI xn)), (2, .int (nI i))] [] := by
      refine g_ind (N := 100) (fun i hi_i ih_lp => ?_)
      intro _u e0_lp
      refine g_iload_n h dX5_right_16 rfl ?_
      refine g_bipush (v := nI 99) h dX5_right_17 (by decide) ?_
      refine g_icmp_gtN h 49 dX5_right_19 (by decide) (by first | omega | decide) (by first | omega | decide) (fun c19 => ?_) (fun c19 => ?_)
      · skip
        show G X 0 0 (mW (xT X) o a s S) 49 [(0, .ref o), (1, .int (nI xn)), (2, .int (nI i))] []
        refine g_aload_n h dX5_right_49 rfl ?_
        refine g_iconst (v := nI 2) h dX5_right_50 (by decide) ?_
        refine g_callVW0 h hE (m5_error _ _ _ o a s S 2 (by first | assumption | omega)) 0 rfl rfl (lw_V q1446 q1448 qs35 q95 q1449) gy_X5_error ⟨Nat.le_of_ble_eq_true rfl, Nat.le_of_ble_eq_true rfl⟩ ⟨Nat.le_of_ble_eq_true rfl, Nat.le_of_ble_eq_true rfl⟩ rfl rfl (Nat.le_of_ble_eq_true rfl) dX5_right_51 (st' := [.int (LOW - nI 2)]) rfl (fun _ e51 => ?_)
        subst e51
        exact g_iretWv h hE dX5_right_54 (by have e : rightR s xn 100 0 = 100 := (by rw [e0_lp, show 100 - i = 0 by omega, rightR]; omega); simp [o_right, c5, vx, e, er]) (mW_eq (by have e : rightR s xn 100 0 = 100 := (by rw [e0_lp, show 100 - i = 0 by omega, rightR]; omega); simp [o_right, c5, vx, e, er]) (by have e : rightR s xn 100 0 = 100 := (by rw [e0_lp, show 100 - i = 0 by omega, rightR]; omega); simp [o_right, c5, vx, e, er]))
      · skip
        show G X 0 0 (mW (xT X) o a s S) 22 [(0, .ref o), (1, .int (nI xn)), (2, .int (nI i))] []
        refine g_aload_n h dX5_right_22 rfl ?_
        refine g_iload_n h dX5_right_23 rfl ?_
        refine g_iload_n h dX5_right_24 rfl ?_
        refine g_callVR h (m5_bestWith _ _ _ o a s S xn (nI i) h0 (by first | assumption | omega)) (fun _ q => q) 0 rfl rfl (lw_V q1637 q1639 qs64 q95 q1640) gy_X5_bestWith ⟨Nat.le_of_ble_eq_true rfl, Nat.le_of_ble_eq_true rfl⟩ ⟨Nat.le_of_ble_eq_true rfl, Nat.le_of_ble_eq_true rfl⟩ rfl rfl (Nat.le_of_ble_eq_true rfl) dX5_right_25 ?_
        refine g_aload_n h dX5_right_28 rfl ?_
        refine g_aload_n h dX5_right_29 rfl ?_
        refine g_iload_n h dX5_right_30 rfl ?_
        refine g_callVR h (m5_owner _ _ _ o a s S xn (by first | assumption | omega)) (fun _ q => q) 0 rfl rfl (lw_V q1475 q1477 qs41 q95 q1478) gy_X5_owner ⟨Nat.le_of_ble_eq_true rfl, Nat.le_of_ble_eq_true rfl⟩ ⟨Nat.le_of_ble_eq_true rfl, Nat.le_of_ble_eq_true rfl⟩ rfl rfl (Nat.le_of_ble_eq_true rfl) dX5_right_31 ?_
        refine g_toN (a := owr s xn) (h0.owE hx) ?_
        refine g_iload_n h dX5_right_34 rfl ?_
        refine g_callVR h (m5_valueTo _ _ _ o a s S (owr s xn) xn (by have := how hx; omega) (by first | assumption | omega)) (fun _ q => q) 0 rfl rfl (lw_V q1487 q1489 qs44 q95 q1490) gy_X5_valueTo ⟨Nat.le_of_ble_eq_true rfl, Nat.le_of_ble_eq_true rfl⟩ ⟨Nat.le_of_ble_eq_true rfl, Nat.le_of_ble_eq_true rfl⟩ rfl rfl (Nat.le_of_ble_eq_true rfl) dX5_right_35 ?_
        refine g_icmp_ne h 43 dX5_right_38 (by decide) (fun c38 => ?_) (fun c38 => ?_)
        · skip
          show G X 0 0 (mW (xT X) o a s S) 43 [(0, .ref o), (1, .int (nI xn)), (2, .int (nI i))] []
          refine g_iincN (b := 1) (lv' := [(0, .ref o), (1, .int (nI xn)), (2, .int (nI (i + 1)))]) h dX5_right_43 rfl rfl (by decide) rfl ?_
          refine g_goto h 16 dX5_right_46 (by decide) ?_
          exact ih_lp (i + 1) (by omega) (by omega) ()  (by rw [e0_lp, show 100 - i = (100 - (i + 1)) + 1 by omega, rightR]; simp [o_right, er, LOW, sU_self, nI_pred, nv_nI, c5, vx, c19, c38])
        · skip
          show G X 0 0 (mW (xT X) o a s S) 41 [(0, .ref o), (1, .int (nI xn)), (2, .int (nI i))] []
          refine g_iload_n h dX5_right_41 rfl ?_
          exact g_iretWv h hE dX5_right_42 (by have e : rightR s xn 100 0 = i := (by rw [e0_lp, show 100 - i = (100 - (i + 1)) + 1 by omega, rightR]; simp [c38]); simp [o_right, c5, vx, e, show i < 100 by omega]) (mW_eq (by have e : rightR s xn 100 0 = i := (by rw [e0_lp, show 100 - i = (100 - (i + 1)) + 1 by omega, rightR]; simp [c38]); simp [o_right, c5, vx, e, er]; split <;> rfl) (by have e : rightR s xn 100 0 = i := (by rw [e0_lp, show 100 - i = (100 - (i + 1)) + 1 by omega, rightR]; simp [c38]); simp [o_right, c5, vx, e, er, show i < 100 by omega, sU_self]))
    exact lp (0) (by omega) ()  rfl
  · skip
    show G X 0 0 (mW (xT X) o a s S) 8 [(0, .ref o), (1, .int x)] []
    refine g_aload_n h dX5_right_8 rfl ?_
    refine g_iconst (v := nI 1) h dX5_right_9 (by decide) ?_
    refine g_callVW0 h hE (m5_error _ _ _ o a s S 1 (by first | assumption | omega)) 0 rfl rfl (lw_V q1446 q1448 qs35 q95 q1449) gy_X5_error ⟨Nat.le_of_ble_eq_true rfl, Nat.le_of_ble_eq_true rfl⟩ ⟨Nat.le_of_ble_eq_true rfl, Nat.le_of_ble_eq_true rfl⟩ rfl rfl (Nat.le_of_ble_eq_true rfl) dX5_right_10 (st' := [.int (LOW - nI 1)]) rfl (fun _ e10 => ?_)
    subst e10
    exact g_iretWv h hE dX5_right_13 (by first | (simp [o_right, er, LOW, sU_self, nI_pred, nv_nI, c5]; done) | (simp_all [o_right, er, LOW, sU_self, nI_pred, nv_nI, c5]; done)) (mW_eq (by first | (simp [o_right, er, LOW, sU_self, nI_pred, nv_nI, c5]; done) | (simp_all [o_right, er, LOW, sU_self, nI_pred, nv_nI, c5]; done)) (by first | (simp [o_right, er, LOW, sU_self, nI_pred, nv_nI, c5]; done) | (simp_all [o_right, er, LOW, sU_self, nI_pred, nv_nI, c5]; done)))
