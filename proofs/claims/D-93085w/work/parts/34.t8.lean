
theorem gy_X5_sumOf : gY yX5_sumOf RX5 1 := ⟨rfl, by decide +kernel, by decide +kernel, by decide +kernel⟩
theorem gy_X5_townOf : gY yX5_townOf RX5 1 := ⟨rfl, by decide +kernel, by decide +kernel, by decide +kernel⟩
theorem gy_X5_town : gY yX5_town RX5 1 := ⟨rfl, by decide +kernel, by decide +kernel, by decide +kernel⟩
theorem gy_X5_firm : gY yX5_firm RX5 2 := ⟨rfl, by decide +kernel, by decide +kernel, by decide +kernel⟩
theorem gy_X5_lay : gY yX5_lay RX5 2 := ⟨rfl, by decide +kernel, by decide +kernel, by decide +kernel⟩
theorem gy_X5_then : gY yX5_then RX5 2 := ⟨rfl, by decide +kernel, by decide +kernel, by decide +kernel⟩
theorem gy_X5_whose : gY yX5_whose RX5 2 := ⟨rfl, by decide +kernel, by decide +kernel, by decide +kernel⟩
theorem gy_X5_part : gY yX5_part RX5 1 := ⟨rfl, by decide +kernel, by decide +kernel, by decide +kernel⟩
set_option maxHeartbeats 4000000 in
set_option maxRecDepth 100000 in
theorem m5_sumOf (l : Launch) (D : va_G) (T : Nat → ClassId) (o : Nat) (a : Nat → Nat) (s : Nat → Int32) (S : Nat → Nat → Int32) (w : Int32) (h0 : Inv s) : MetR l D T yX5_sumOf cX5_sumOf 4 (some .int) 3 67 [.ref o, .int w] (mW T o a s S) (fun r_ => r_ = some (.int (townS s w))) := by
  refine metR (own := RX5) rfl (by decide) rfl (fun X h hl hDx hTx hE => ?_)
  subst hl; subst hDx; subst hTx
  have hnp := h0.npl; have hnt := h0.ntl; have hnq := h0.nql
  have how := @Inv.owlE s h0
  show G X 0 0 (mW (xT X) o a s S) 0 [(0, .ref o), (1, .int w)] []
  refine g_iconst (v := nI 0) h dX5_sumOf_0 (by decide) ?_
  refine g_istore_n (lv' := [(0, .ref o), (1, .int w), (2, .int (nI 0))]) h dX5_sumOf_1 (by decide) rfl ?_
  refine g_iconst (v := nI 0) h dX5_sumOf_2 (by decide) ?_
  refine g_istore_n (lv' := [(0, .ref o), (1, .int w), (2, .int (nI 0)), (3, .int (nI 0))]) h dX5_sumOf_3 (by decide) rfl ?_
  have la : ∀ i, i ≤ nT s → ∀ (_u : Unit) (x : Int32), (x = fo i (sumTF s w) 0) → G X 0 0 (mW (xT X) o a s S) 4 [(0, .ref o), (1, .int w), (2, .int x), (3, .int (nI i))] [] := by
    refine g_ind (N := nT s) (fun i hi_i ih_la => ?_)
    intro _u x e0_la
    have how2 := @how i
    refine g_iload_n h dX5_sumOf_4 rfl ?_
    refine g_aload_n h dX5_sumOf_5 rfl ?_
    refine g_get h in_X5 0 rfl rfl 0 rfl q1374 rfl rfl dX5_sumOf_6 ?_
    refine g_iconst (v := nI 1) h dX5_sumOf_9 (by decide) ?_
    refine g_iald h 1 rfl (by first | assumption | omega) (by decide) dX5_sumOf_10 ?_
    refine g_toN (a := nT s) (Inv.nt h0) ?_
    refine g_icmp_geN h 78 dX5_sumOf_11 (by decide) (by first | omega | decide) (by first | omega | decide) (fun c11 => ?_) (fun c11 => ?_)
    · skip
      show G X 0 0 (mW (xT X) o a s S) 78 [(0, .ref o), (1, .int w), (2, .int x), (3, .int (nI i))] []
      refine g_iconst (v := nI 0) h dX5_sumOf_78 (by decide) ?_
      refine g_istore_n (lv' := [(0, .ref o), (1, .int w), (2, .int x), (3, .int (nI 0))]) h dX5_sumOf_79 (by decide) rfl ?_
      have lb : ∀ k, k ≤ nQ s → ∀ (_u : Unit) (y : Int32), ((w = 0 → y = fo k (bonF s) (sumT s 0)) ∧ (¬ w = 0 → y = sumT s w)) → G X 0 0 (mW (xT X) o a s S) 80 [(0, .ref o), (1, .int w), (2, .int y), (3, .int (nI k))] [] := by
        refine g_ind (N := nQ s) (fun k hi_k ih_lb => ?_)
        intro _u y e0_lb
        refine g_iload_n h dX5_sumOf_80 rfl ?_
        refine g_aload_n h dX5_sumOf_81 rfl ?_
        refine g_get h in_X5 0 rfl rfl 0 rfl q1374 rfl rfl dX5_sumOf_82 ?_
        refine g_iconst (v := nI 2) h dX5_sumOf_85 (by decide) ?_
        refine g_iald h 1 rfl (by first | assumption | omega) (by decide) dX5_sumOf_86 ?_
        refine g_toN (a := nQ s) (Inv.nq h0) ?_
        refine g_icmp_geN h 121 dX5_sumOf_87 (by decide) (by first | omega | decide) (by first | omega | decide) (fun c87 => ?_) (fun c87 => ?_)
        · skip
          show G X 0 0 (mW (xT X) o a s S) 121 [(0, .ref o), (1, .int w), (2, .int y), (3, .int (nI k))] []
          refine g_iload_n h dX5_sumOf_121 rfl ?_
          exact g_iretRv h hE dX5_sumOf_122 (by by_cases hw : w = 0; exact (by rw [e0_lb.1 hw]; unfold townS; rw [if_pos hw]; first | rw [show k = nQ s by omega] | exact absurd hw (by assumption)); rw [e0_lb.2 hw]; unfold townS; rw [if_neg hw])
        · skip
          show G X 0 0 (mW (xT X) o a s S) 90 [(0, .ref o), (1, .int w), (2, .int y), (3, .int (nI k))] []
          refine g_iload_n h dX5_sumOf_90 rfl ?_
          refine g_if_ne h 121 dX5_sumOf_91 (by decide) (fun c91 => ?_) (fun c91 => ?_)
          · skip
            show G X 0 0 (mW (xT X) o a s S) 121 [(0, .ref o), (1, .int w), (2, .int y), (3, .int (nI k))] []
            refine g_iload_n h dX5_sumOf_121 rfl ?_
            exact g_iretRv h hE dX5_sumOf_122 (by by_cases hw : w = 0; exact (by rw [e0_lb.1 hw]; unfold townS; rw [if_pos hw]; first | rw [show k = nQ s by omega] | exact absurd hw (by assumption)); rw [e0_lb.2 hw]; unfold townS; rw [if_neg hw])
          · skip
            show G X 0 0 (mW (xT X) o a s S) 94 [(0, .ref o), (1, .int w), (2, .int y), (3, .int (nI k))] []
            refine g_iload_n h dX5_sumOf_94 rfl ?_
            refine g_aload_n h dX5_sumOf_95 rfl ?_
            refine g_iload_n h dX5_sumOf_96 rfl ?_
            refine g_callVR h (m5_hasBonus _ _ _ o a s S k h0 (by first | assumption | omega)) (fun _ q => q) 0 rfl rfl (lw_V q1542 q1544 qs47 q95 q1545) gy_X5_hasBonus ⟨Nat.le_of_ble_eq_true rfl, Nat.le_of_ble_eq_true rfl⟩ ⟨Nat.le_of_ble_eq_true rfl, Nat.le_of_ble_eq_true rfl⟩ rfl rfl (Nat.le_of_ble_eq_true rfl) dX5_sumOf_97 ?_
            refine g_if_geC h 107 dX5_sumOf_100 (by decide) (fun c100 => ?_) (fun c100 => ?_)
            · skip
              show G X 0 0 (mW (xT X) o a s S) 107 [(0, .ref o), (1, .int w), (2, .int y), (3, .int (nI k))] [.int y]
              refine g_aload_n h dX5_sumOf_107 rfl ?_
              refine g_iload_n h dX5_sumOf_108 rfl ?_
              refine g_iconst (v := nI 2) h dX5_sumOf_109 (by decide) ?_
              refine g_callVR h (m5_pairIts _ _ _ o a s S k 2 (by first | assumption | omega)) (fun _ q => q) 0 rfl rfl (lw_V q1471 q1473 qs40 q95 q1474) gy_X5_pairIts ⟨Nat.le_of_ble_eq_true rfl, Nat.le_of_ble_eq_true rfl⟩ ⟨Nat.le_of_ble_eq_true rfl, Nat.le_of_ble_eq_true rfl⟩ rfl rfl (Nat.le_of_ble_eq_true rfl) dX5_sumOf_110 ?_
              refine g_iadd h dX5_sumOf_113 ?_
              refine g_istore_n (lv' := [(0, .ref o), (1, .int w), (2, .int (y + (s (92 + 3 * k + 2)))), (3, .int (nI k))]) h dX5_sumOf_114 (by decide) rfl ?_
              refine g_iincN (b := 1) (lv' := [(0, .ref o), (1, .int w), (2, .int (y + (s (92 + 3 * k + 2)))), (3, .int (nI (k + 1)))]) h dX5_sumOf_115 rfl rfl (by decide) rfl ?_
              refine g_goto h 80 dX5_sumOf_118 (by decide) ?_
              exact ih_lb (k + 1) (by omega) (by omega) () (y + (s (92 + 3 * k + 2))) (⟨fun z => by rw [fo_s, ← e0_lb.1 z]; simp [bonF, c11, c87, c91, c100], fun z => absurd c91 z⟩)
            · skip
              show G X 0 0 (mW (xT X) o a s S) 103 [(0, .ref o), (1, .int w), (2, .int y), (3, .int (nI k))] [.int y]
              refine g_iconst (v := nI 0) h dX5_sumOf_103 (by decide) ?_
              refine g_goto h 113 dX5_sumOf_104 (by decide) ?_
              refine g_toI (y := 0) rfl ?_
              refine g_iadd h dX5_sumOf_113 ?_
              refine g_istore_n (lv' := [(0, .ref o), (1, .int w), (2, .int (y + 0)), (3, .int (nI k))]) h dX5_sumOf_114 (by decide) rfl ?_
              refine g_iincN (b := 1) (lv' := [(0, .ref o), (1, .int w), (2, .int (y + 0)), (3, .int (nI (k + 1)))]) h dX5_sumOf_115 rfl rfl (by decide) rfl ?_
              refine g_goto h 80 dX5_sumOf_118 (by decide) ?_
              exact ih_lb (k + 1) (by omega) (by omega) () (y + 0) (⟨fun z => by rw [fo_s, ← e0_lb.1 z]; simp [bonF, c11, c87, c91, c100], fun z => absurd c91 z⟩)
      exact lb (0) (by omega) () x (have e : x = sumT s w := (by rw [e0_la, show i = nT s by omega]; rfl); ⟨fun z => by rw [e, z]; rfl, fun _ => e⟩)
    · skip
      show G X 0 0 (mW (xT X) o a s S) 14 [(0, .ref o), (1, .int w), (2, .int x), (3, .int (nI i))] []
      refine g_iload_n h dX5_sumOf_14 rfl ?_
      refine g_iload_n h dX5_sumOf_15 rfl ?_
      refine g_if_ne h 32 dX5_sumOf_16 (by decide) (fun c16 => ?_) (fun c16 => ?_)
      · skip
        show G X 0 0 (mW (xT X) o a s S) 32 [(0, .ref o), (1, .int w), (2, .int x), (3, .int (nI i))] [.int x]
        refine g_iload_n h dX5_sumOf_32 rfl ?_
        refine g_iconst (v := nI 1) h dX5_sumOf_33 (by decide) ?_
        refine g_toI (y := 1) rfl ?_
        refine g_icmp_ne h 50 dX5_sumOf_34 (by decide) (fun c34 => ?_) (fun c34 => ?_)
        · skip
          show G X 0 0 (mW (xT X) o a s S) 50 [(0, .ref o), (1, .int w), (2, .int x), (3, .int (nI i))] [.int x]
          refine g_iload_n h dX5_sumOf_50 rfl ?_
          refine g_iconst (v := nI 5) h dX5_sumOf_51 (by decide) ?_
          refine g_toI (y := 5) rfl ?_
          refine g_icmp_ne h 64 dX5_sumOf_52 (by decide) (fun c52 => ?_) (fun c52 => ?_)
          · skip
            show G X 0 0 (mW (xT X) o a s S) 64 [(0, .ref o), (1, .int w), (2, .int x), (3, .int (nI i))] [.int x]
            refine g_aload_n h dX5_sumOf_64 rfl ?_
            refine g_iload_n h dX5_sumOf_65 rfl ?_
            refine g_iconst (v := nI 1) h dX5_sumOf_66 (by decide) ?_
            refine g_callVR h (m5_its _ _ _ o a s S i 1 (by first | assumption | omega)) (fun _ q => q) 0 rfl rfl (lw_V q1479 q1481 qs42 q95 q1482) gy_X5_its ⟨Nat.le_of_ble_eq_true rfl, Nat.le_of_ble_eq_true rfl⟩ ⟨Nat.le_of_ble_eq_true rfl, Nat.le_of_ble_eq_true rfl⟩ rfl rfl (Nat.le_of_ble_eq_true rfl) dX5_sumOf_67 ?_
            refine g_iadd h dX5_sumOf_70 ?_
            refine g_istore_n (lv' := [(0, .ref o), (1, .int w), (2, .int (x + (s (44 + 4 * i + 1)))), (3, .int (nI i))]) h dX5_sumOf_71 (by decide) rfl ?_
            refine g_iincN (b := 1) (lv' := [(0, .ref o), (1, .int w), (2, .int (x + (s (44 + 4 * i + 1)))), (3, .int (nI (i + 1)))]) h dX5_sumOf_72 rfl rfl (by decide) rfl ?_
            refine g_goto h 4 dX5_sumOf_75 (by decide) ?_
            exact ih_la (i + 1) (by omega) (by omega) () (x + (s (44 + 4 * i + 1))) (by rw [fo_s, ← e0_la]; simp [sumTF, c11, c16, c34, c52])
          · skip
            show G X 0 0 (mW (xT X) o a s S) 55 [(0, .ref o), (1, .int w), (2, .int x), (3, .int (nI i))] [.int x]
            refine g_aload_n h dX5_sumOf_55 rfl ?_
            refine g_iload_n h dX5_sumOf_56 rfl ?_
            refine g_iconst (v := nI 2) h dX5_sumOf_57 (by decide) ?_
            refine g_callVR h (m5_its _ _ _ o a s S i 2 (by first | assumption | omega)) (fun _ q => q) 0 rfl rfl (lw_V q1479 q1481 qs42 q95 q1482) gy_X5_its ⟨Nat.le_of_ble_eq_true rfl, Nat.le_of_ble_eq_true rfl⟩ ⟨Nat.le_of_ble_eq_true rfl, Nat.le_of_ble_eq_true rfl⟩ rfl rfl (Nat.le_of_ble_eq_true rfl) dX5_sumOf_58 ?_
            refine g_goto h 70 dX5_sumOf_61 (by decide) ?_
            refine g_iadd h dX5_sumOf_70 ?_
            refine g_istore_n (lv' := [(0, .ref o), (1, .int w), (2, .int (x + (s (44 + 4 * i + 2)))), (3, .int (nI i))]) h dX5_sumOf_71 (by decide) rfl ?_
            refine g_iincN (b := 1) (lv' := [(0, .ref o), (1, .int w), (2, .int (x + (s (44 + 4 * i + 2)))), (3, .int (nI (i + 1)))]) h dX5_sumOf_72 rfl rfl (by decide) rfl ?_
            refine g_goto h 4 dX5_sumOf_75 (by decide) ?_
            exact ih_la (i + 1) (by omega) (by omega) () (x + (s (44 + 4 * i + 2))) (by rw [fo_s, ← e0_la]; simp [sumTF, c11, c16, c34, c52])
        · skip
          show G X 0 0 (mW (xT X) o a s S) 37 [(0, .ref o), (1, .int w), (2, .int x), (3, .int (nI i))] [.int x]
          refine g_aload_n h dX5_sumOf_37 rfl ?_
          refine g_aload_n h dX5_sumOf_38 rfl ?_
          refine g_iload_n h dX5_sumOf_39 rfl ?_
          refine g_callVR h (m5_fondest _ _ _ o a s S i h0 (by first | assumption | omega) (by have := how2 c11; omega)) (fun _ q => q) 0 rfl rfl (lw_V q1518 q1520 qs46 q95 q1521) gy_X5_fondest ⟨Nat.le_of_ble_eq_true rfl, Nat.le_of_ble_eq_true rfl⟩ ⟨Nat.le_of_ble_eq_true rfl, Nat.le_of_ble_eq_true rfl⟩ rfl rfl (Nat.le_of_ble_eq_true rfl) dX5_sumOf_40 ?_
          refine g_iload_n h dX5_sumOf_43 rfl ?_
          refine g_callVR h (m5_valueTo _ _ _ o a s S (fon s i) i (by have := fon_lt (s := s) (by have := how2 c11; omega) i; omega) (by first | assumption | omega)) (fun _ q => q) 0 rfl rfl (lw_V q1487 q1489 qs44 q95 q1490) gy_X5_valueTo ⟨Nat.le_of_ble_eq_true rfl, Nat.le_of_ble_eq_true rfl⟩ ⟨Nat.le_of_ble_eq_true rfl, Nat.le_of_ble_eq_true rfl⟩ rfl rfl (Nat.le_of_ble_eq_true rfl) dX5_sumOf_44 ?_
          refine g_goto h 70 dX5_sumOf_47 (by decide) ?_
          refine g_iadd h dX5_sumOf_70 ?_
          refine g_istore_n (lv' := [(0, .ref o), (1, .int w), (2, .int (x + (val s (fon s i) i))), (3, .int (nI i))]) h dX5_sumOf_71 (by decide) rfl ?_
          refine g_iincN (b := 1) (lv' := [(0, .ref o), (1, .int w), (2, .int (x + (val s (fon s i) i))), (3, .int (nI (i + 1)))]) h dX5_sumOf_72 rfl rfl (by decide) rfl ?_
          refine g_goto h 4 dX5_sumOf_75 (by decide) ?_
          exact ih_la (i + 1) (by omega) (by omega) () (x + (val s (fon s i) i)) (by rw [fo_s, ← e0_la]; simp [sumTF, c11, c16, c34])
      · skip
        show G X 0 0 (mW (xT X) o a s S) 19 [(0, .ref o), (1, .int w), (2, .int x), (3, .int (nI i))] [.int x]
        refine g_aload_n h dX5_sumOf_19 rfl ?_
        refine g_aload_n h dX5_sumOf_20 rfl ?_
        refine g_iload_n h dX5_sumOf_21 rfl ?_
        refine g_callVR h (m5_owner _ _ _ o a s S i (by first | assumption | omega)) (fun _ q => q) 0 rfl rfl (lw_V q1475 q1477 qs41 q95 q1478) gy_X5_owner ⟨Nat.le_of_ble_eq_true rfl, Nat.le_of_ble_eq_true rfl⟩ ⟨Nat.le_of_ble_eq_true rfl, Nat.le_of_ble_eq_true rfl⟩ rfl rfl (Nat.le_of_ble_eq_true rfl) dX5_sumOf_22 ?_
        refine g_toN (a := owr s i) (h0.owE c11) ?_
        refine g_iload_n h dX5_sumOf_25 rfl ?_
        refine g_callVR h (m5_valueTo _ _ _ o a s S (owr s i) i (by have := how2 c11; omega) (by first | assumption | omega)) (fun _ q => q) 0 rfl rfl (lw_V q1487 q1489 qs44 q95 q1490) gy_X5_valueTo ⟨Nat.le_of_ble_eq_true rfl, Nat.le_of_ble_eq_true rfl⟩ ⟨Nat.le_of_ble_eq_true rfl, Nat.le_of_ble_eq_true rfl⟩ rfl rfl (Nat.le_of_ble_eq_true rfl) dX5_sumOf_26 ?_
        refine g_goto h 70 dX5_sumOf_29 (by decide) ?_
        refine g_iadd h dX5_sumOf_70 ?_
        refine g_istore_n (lv' := [(0, .ref o), (1, .int w), (2, .int (x + (val s (owr s i) i))), (3, .int (nI i))]) h dX5_sumOf_71 (by decide) rfl ?_
        refine g_iincN (b := 1) (lv' := [(0, .ref o), (1, .int w), (2, .int (x + (val s (owr s i) i))), (3, .int (nI (i + 1)))]) h dX5_sumOf_72 rfl rfl (by decide) rfl ?_
        refine g_goto h 4 dX5_sumOf_75 (by decide) ?_
        exact ih_la (i + 1) (by omega) (by omega) () (x + (val s (owr s i) i)) (by rw [fo_s, ← e0_la]; simp [sumTF, c11, c16])
  exact la (0) (by omega) () 0 rfl
set_option maxHeartbeats 4000000 in
set_option maxRecDepth 100000 in
theorem m5_townOf (l : Launch) (D : va_G) (T : Nat → ClassId) (o : Nat) (a : Nat → Nat) (s : Nat → Int32) (S : Nat → Nat → Int32) (w : Int32) (h0 : Inv s) : MetR l D T yX5_townOf cX5_townOf 4 (some .int) 4 90 [.ref o, .int w] (mW T o a s S) (fun r_ => r_ = some (.int (townV s w))) := by
  refine metR (own := RX5) rfl (by decide) rfl (fun X h hl hDx hTx hE => ?_)
  subst hl; subst hDx; subst hTx
  have hnp := h0.npl; have hnt := h0.ntl; have hnq := h0.nql
  show G X 0 0 (mW (xT X) o a s S) 0 [(0, .ref o), (1, .int w)] []
  refine g_iload_n h dX5_townOf_0 rfl ?_
  refine g_iconst (v := nI 3) h dX5_townOf_1 (by decide) ?_
  refine g_toI (y := 3) rfl ?_
  refine g_icmp_eq h 10 dX5_townOf_2 (by decide) (fun c2 => ?_) (fun c2 => ?_)
  · skip
    show G X 0 0 (mW (xT X) o a s S) 10 [(0, .ref o), (1, .int w)] []
    refine g_aload_n h dX5_townOf_10 rfl ?_
    refine g_get h in_X5 0 rfl rfl 0 rfl q1374 rfl rfl dX5_townOf_11 ?_
    refine g_iload_n h dX5_townOf_14 rfl ?_
    refine g_iconst (v := nI 3) h dX5_townOf_15 (by decide) ?_
    refine g_toI (y := 3) rfl ?_
    refine g_icmp_ne h 23 dX5_townOf_16 (by decide) (fun c16 => ?_) (fun c16 => ?_)
    · skip
      show G X 0 0 (mW (xT X) o a s S) 23 [(0, .ref o), (1, .int w)] [.ref (a 0)]
      exact absurd c2 c16
    · skip
      show G X 0 0 (mW (xT X) o a s S) 19 [(0, .ref o), (1, .int w)] [.ref (a 0)]
      refine g_iconst (v := nI 5) h dX5_townOf_19 (by decide) ?_
      refine g_goto h 24 dX5_townOf_20 (by decide) ?_
      refine g_iald h 1 rfl (by first | assumption | omega) (by decide) dX5_townOf_24 ?_
      exact g_iretRv h hE dX5_townOf_25 (by first | (simp [townV, c2, c16]; done) | (simp_all [townV, c2, c16]; done))
  · skip
    show G X 0 0 (mW (xT X) o a s S) 5 [(0, .ref o), (1, .int w)] []
    refine g_iload_n h dX5_townOf_5 rfl ?_
    refine g_iconst (v := nI 4) h dX5_townOf_6 (by decide) ?_
    refine g_toI (y := 4) rfl ?_
    refine g_icmp_ne h 26 dX5_townOf_7 (by decide) (fun c7 => ?_) (fun c7 => ?_)
    · skip
      show G X 0 0 (mW (xT X) o a s S) 26 [(0, .ref o), (1, .int w)] []
      refine g_iload_n h dX5_townOf_26 rfl ?_
      refine g_iconst (v := nI 2) h dX5_townOf_27 (by decide) ?_
      refine g_toI (y := 2) rfl ?_
      refine g_icmp_eq h 37 dX5_townOf_28 (by decide) (fun c28 => ?_) (fun c28 => ?_)
      · skip
        show G X 0 0 (mW (xT X) o a s S) 37 [(0, .ref o), (1, .int w)] []
        refine g_iconst (v := nI 0) h dX5_townOf_37 (by decide) ?_
        refine g_istore_n (lv' := [(0, .ref o), (1, .int w), (2, .int (nI 0))]) h dX5_townOf_38 (by decide) rfl ?_
        refine g_iconst (v := nI 0) h dX5_townOf_39 (by decide) ?_
        refine g_istore_n (lv' := [(0, .ref o), (1, .int w), (2, .int (nI 0)), (3, .int (nI 0))]) h dX5_townOf_40 (by decide) rfl ?_
        have lp : ∀ i, i ≤ nP s → ∀ (_u : Unit) (x : Int32), (x = fo i (purF s) 0) → G X 0 0 (mW (xT X) o a s S) 41 [(0, .ref o), (1, .int w), (2, .int x), (3, .int (nI i))] [] := by
          refine g_ind (N := nP s) (fun i hi_i ih_lp => ?_)
          intro _u x e0_lp
          refine g_iload_n h dX5_townOf_41 rfl ?_
          refine g_aload_n h dX5_townOf_42 rfl ?_
          refine g_get h in_X5 0 rfl rfl 0 rfl q1374 rfl rfl dX5_townOf_43 ?_
          refine g_iconst (v := nI 0) h dX5_townOf_46 (by decide) ?_
          refine g_iald h 1 rfl (by first | assumption | omega) (by decide) dX5_townOf_47 ?_
          refine g_toN (a := nP s) (Inv.np h0) ?_
          refine g_icmp_geN h 66 dX5_townOf_48 (by decide) (by first | omega | decide) (by first | omega | decide) (fun c48 => ?_) (fun c48 => ?_)
          · skip
            show G X 0 0 (mW (xT X) o a s S) 66 [(0, .ref o), (1, .int w), (2, .int x), (3, .int (nI i))] []
            refine g_iload_n h dX5_townOf_66 rfl ?_
            exact g_iretRv h hE dX5_townOf_67 (by rw [e0_lp, show i = nP s by omega]; simp [townV, c28])
          · skip
            show G X 0 0 (mW (xT X) o a s S) 51 [(0, .ref o), (1, .int w), (2, .int x), (3, .int (nI i))] []
            refine g_iload_n h dX5_townOf_51 rfl ?_
            refine g_aload_n h dX5_townOf_52 rfl ?_
            refine g_iload_n h dX5_townOf_53 rfl ?_
            refine g_iconst (v := nI 1) h dX5_townOf_54 (by decide) ?_
            refine g_callVR h (m5_who _ _ _ o a s S i 1 (by first | assumption | omega)) (fun _ q => q) 0 rfl rfl (lw_V q1459 q1461 qs37 q95 q1462) gy_X5_who ⟨Nat.le_of_ble_eq_true rfl, Nat.le_of_ble_eq_true rfl⟩ ⟨Nat.le_of_ble_eq_true rfl, Nat.le_of_ble_eq_true rfl⟩ rfl rfl (Nat.le_of_ble_eq_true rfl) dX5_townOf_55 ?_
            refine g_iadd h dX5_townOf_58 ?_
            refine g_istore_n (lv' := [(0, .ref o), (1, .int w), (2, .int (x + (s (20 + 4 * i + 1)))), (3, .int (nI i))]) h dX5_townOf_59 (by decide) rfl ?_
            refine g_iincN (b := 1) (lv' := [(0, .ref o), (1, .int w), (2, .int (x + (s (20 + 4 * i + 1)))), (3, .int (nI (i + 1)))]) h dX5_townOf_60 rfl rfl (by decide) rfl ?_
            refine g_goto h 41 dX5_townOf_63 (by decide) ?_
            exact ih_lp (i + 1) (by omega) (by omega) () (x + (s (20 + 4 * i + 1))) (by rw [fo_s, ← e0_lp]; simp [purF, townV, c2, c7, c28, c48])
        exact lp (0) (by omega) () 0 rfl
      · skip
        show G X 0 0 (mW (xT X) o a s S) 31 [(0, .ref o), (1, .int w)] []
        refine g_aload_n h dX5_townOf_31 rfl ?_
        refine g_iload_n h dX5_townOf_32 rfl ?_
        refine g_callVR h (m5_sumOf _ _ _ o a s S w h0) (fun _ q => q) 0 rfl rfl (lw_V q1742 q1744 qs80 q95 q1745) gy_X5_sumOf ⟨Nat.le_of_ble_eq_true rfl, Nat.le_of_ble_eq_true rfl⟩ ⟨Nat.le_of_ble_eq_true rfl, Nat.le_of_ble_eq_true rfl⟩ rfl rfl (Nat.le_of_ble_eq_true rfl) dX5_townOf_33 ?_
        exact g_iretRv h hE dX5_townOf_36 (by first | (simp [townV, c2, c7, c28]; done) | (simp_all [townV, c2, c7, c28]; done))
    · skip
      show G X 0 0 (mW (xT X) o a s S) 10 [(0, .ref o), (1, .int w)] []
      refine g_aload_n h dX5_townOf_10 rfl ?_
      refine g_get h in_X5 0 rfl rfl 0 rfl q1374 rfl rfl dX5_townOf_11 ?_
      refine g_iload_n h dX5_townOf_14 rfl ?_
      refine g_iconst (v := nI 3) h dX5_townOf_15 (by decide) ?_
      refine g_toI (y := 3) rfl ?_
      refine g_icmp_ne h 23 dX5_townOf_16 (by decide) (fun c16 => ?_) (fun c16 => ?_)
      · skip
        show G X 0 0 (mW (xT X) o a s S) 23 [(0, .ref o), (1, .int w)] [.ref (a 0)]
        refine g_iconst (v := nI 4) h dX5_townOf_23 (by decide) ?_
        refine g_iald h 1 rfl (by first | assumption | omega) (by decide) dX5_townOf_24 ?_
        exact g_iretRv h hE dX5_townOf_25 (by first | (simp [townV, c2, c7, c16]; done) | (simp_all [townV, c2, c7, c16]; done))
      · skip
        show G X 0 0 (mW (xT X) o a s S) 19 [(0, .ref o), (1, .int w)] [.ref (a 0)]
        exact absurd c16 c2
set_option maxHeartbeats 4000000 in
set_option maxRecDepth 100000 in
theorem m5_town (l : Launch) (D : va_G) (T : Nat → ClassId) (o : Nat) (a : Nat → Nat) (s : Nat → Int32) (S : Nat → Nat → Int32) (w : Int32) (h0 : Inv s) : MetW l D T yX5_town cX5_town 2 (some .int) 5 113 0 0 [.ref o, .int w] (mW T o a s S) (fun r_ w_ => r_ = some (.int ((o_town s (S 3) w).1)) ∧ (w_ = mW T o a ((o_town s (S 3) w).2.1) (sU S 3 (o_town s (S 3) w).2.2))) := by
  refine metW (own := RX5) rfl (by decide) rfl (fun X h hl hDx hTx hnm hE => ?_)
  subst hl; subst hDx; subst hTx
  have hnp := h0.npl; have hnt := h0.ntl; have hnq := h0.nql
  show G X 0 0 (mW (xT X) o a s S) 0 [(0, .ref o), (1, .int w)] []
  refine g_iload_n h dX5_town_0 rfl ?_
  refine g_iconst (v := nI 0) h dX5_town_1 (by decide) ?_
  refine g_bipush (v := nI 6) h dX5_town_2 (by decide) ?_
  refine g_callSR h (m5_in _ _ _ w 0 6 ) (fun _ q => nomatch q) (lw_S q1439 q1440 q95 q1441) gy_X5_in ⟨Nat.le_of_ble_eq_true rfl, Nat.le_of_ble_eq_true rfl⟩ ⟨Nat.le_of_ble_eq_true rfl, Nat.le_of_ble_eq_true rfl⟩ rfl rfl (Nat.le_of_ble_eq_true rfl) dX5_town_4 ?_
  refine g_if_eqB h 18 dX5_town_7 (by decide) (fun c7 => ?_) (fun c7 => ?_)
  · skip
    show G X 0 0 (mW (xT X) o a s S) 18 [(0, .ref o), (1, .int w)] []
    refine g_aload_n h dX5_town_18 rfl ?_
    refine g_iconst (v := nI 1) h dX5_town_19 (by decide) ?_
    refine g_callVW0 h hE (m5_error _ _ _ o a s S 1 (by first | assumption | omega)) 0 rfl rfl (lw_V q1446 q1448 qs35 q95 q1449) gy_X5_error ⟨Nat.le_of_ble_eq_true rfl, Nat.le_of_ble_eq_true rfl⟩ ⟨Nat.le_of_ble_eq_true rfl, Nat.le_of_ble_eq_true rfl⟩ rfl rfl (Nat.le_of_ble_eq_true rfl) dX5_town_20 (st' := [.int (LOW - nI 1)]) rfl (fun _ e20 => ?_)
    subst e20
    exact g_iretWv h hE dX5_town_23 (by first | (simp [o_town, er, LOW, sU_self, nI_pred, nv_nI, c7]; done) | (simp_all [o_town, er, LOW, sU_self, nI_pred, nv_nI, c7]; done)) (mW_eq (by first | (simp [o_town, er, LOW, sU_self, nI_pred, nv_nI, c7]; done) | (simp_all [o_town, er, LOW, sU_self, nI_pred, nv_nI, c7]; done)) (by first | (simp [o_town, er, LOW, sU_self, nI_pred, nv_nI, c7]; done) | (simp_all [o_town, er, LOW, sU_self, nI_pred, nv_nI, c7]; done)))
  · skip
    show G X 0 0 (mW (xT X) o a s S) 10 [(0, .ref o), (1, .int w)] []
    refine g_aload_n h dX5_town_10 rfl ?_
    refine g_iload_n h dX5_town_11 rfl ?_
    refine g_callVR h (m5_townOf _ _ _ o a s S w h0) (fun _ q => q) 0 rfl rfl (lw_V q1738 q1740 qs79 q95 q1741) gy_X5_townOf ⟨Nat.le_of_ble_eq_true rfl, Nat.le_of_ble_eq_true rfl⟩ ⟨Nat.le_of_ble_eq_true rfl, Nat.le_of_ble_eq_true rfl⟩ rfl rfl (Nat.le_of_ble_eq_true rfl) dX5_town_12 ?_
    refine g_goto h 23 dX5_town_15 (by decide) ?_
    exact g_iretWv h hE dX5_town_23 (by first | (simp [o_town, er, LOW, sU_self, nI_pred, nv_nI, c7]; done) | (simp_all [o_town, er, LOW, sU_self, nI_pred, nv_nI, c7]; done)) (mW_eq (by first | (simp [o_town, er, LOW, sU_self, nI_pred, nv_nI, c7]; done) | (simp_all [o_town, er, LOW, sU_self, nI_pred, nv_nI, c7]; done)) (by first | (simp [o_town, er, LOW, sU_self, nI_pred, nv_nI, c7]; done) | (simp_all [o_town, er, LOW, sU_self, nI_pred, nv_nI, c7]; done)))
set_option maxHeartbeats 4000000 in
set_option maxRecDepth 100000 in
theorem m5_firm (l : Launch) (D : va_G) (T : Nat → ClassId) (o : Nat) (a : Nat → Nat) (s : Nat → Int32) (S : Nat → Nat → Int32) (x : Int32) (w : Int32) (h0 : Inv s) : MetW l D T yX5_firm cX5_firm 10 (some .int) 2 44 0 0 [.ref o, .int x, .int w] (mW T o a s S) (fun r_ w_ => r_ = some (.int ((o_firm s (S 3) x w).1)) ∧ (w_ = mW T o a ((o_firm s (S 3) x w).2.1) (sU S 3 (o_firm s (S 3) x w).2.2))) := by
  refine metW (own := RX5) rfl (by decide) rfl (fun X h hl hDx hTx hnm hE => ?_)
  subst hl; subst hDx; subst hTx
  have hnp := h0.npl; have hnt := h0.ntl; have hnq := h0.nql
  show G X 0 0 (mW (xT X) o a s S) 0 [(0, .ref o), (1, .int x), (2, .int w)] []
  refine g_aload_n h dX5_firm_0 rfl ?_
  refine g_iload_n h dX5_firm_1 rfl ?_
  refine g_callVR h (m5_isPerson _ _ _ o a s S x ) (fun _ q => q) 0 rfl rfl (lw_V q1455 q1457 qs36 q95 q1458) gy_X5_isPerson ⟨Nat.le_of_ble_eq_true rfl, Nat.le_of_ble_eq_true rfl⟩ ⟨Nat.le_of_ble_eq_true rfl, Nat.le_of_ble_eq_true rfl⟩ rfl rfl (Nat.le_of_ble_eq_true rfl) dX5_firm_2 ?_
  refine g_if_eqB h 17 dX5_firm_5 (by decide) (fun c5 => ?_) (fun c5 => ?_)
  · skip
    show G X 0 0 (mW (xT X) o a s S) 17 [(0, .ref o), (1, .int x), (2, .int w)] []
    refine g_aload_n h dX5_firm_17 rfl ?_
    refine g_iconst (v := nI 1) h dX5_firm_18 (by decide) ?_
    refine g_callVW0 h hE (m5_error _ _ _ o a s S 1 (by first | assumption | omega)) 0 rfl rfl (lw_V q1446 q1448 qs35 q95 q1449) gy_X5_error ⟨Nat.le_of_ble_eq_true rfl, Nat.le_of_ble_eq_true rfl⟩ ⟨Nat.le_of_ble_eq_true rfl, Nat.le_of_ble_eq_true rfl⟩ rfl rfl (Nat.le_of_ble_eq_true rfl) dX5_firm_19 (st' := [.int (LOW - nI 1)]) rfl (fun _ e19 => ?_)
    subst e19
    exact g_iretWv h hE dX5_firm_22 (by first | (simp [o_firm, er, LOW, sU_self, nI_pred, nv_nI, c5]; done) | (simp_all [o_firm, er, LOW, sU_self, nI_pred, nv_nI, c5]; done)) (mW_eq (by first | (simp [o_firm, er, LOW, sU_self, nI_pred, nv_nI, c5]; done) | (simp_all [o_firm, er, LOW, sU_self, nI_pred, nv_nI, c5]; done)) (by first | (simp [o_firm, er, LOW, sU_self, nI_pred, nv_nI, c5]; done) | (simp_all [o_firm, er, LOW, sU_self, nI_pred, nv_nI, c5]; done)))
  · skip
    show G X 0 0 (mW (xT X) o a s S) 8 [(0, .ref o), (1, .int x), (2, .int w)] []
    obtain ⟨xn, hx, rfl⟩ := isP_of h0 c5
    have vx : nv (nI xn) = xn := nv_nI (by omega)
    refine g_iload_n h dX5_firm_8 rfl ?_
    refine g_iconst (v := nI 0) h dX5_firm_9 (by decide) ?_
    refine g_iconst (v := nI 2) h dX5_firm_10 (by decide) ?_
    refine g_callSR h (m5_in _ _ _ w 0 2 ) (fun _ q => nomatch q) (lw_S q1439 q1440 q95 q1441) gy_X5_in ⟨Nat.le_of_ble_eq_true rfl, Nat.le_of_ble_eq_true rfl⟩ ⟨Nat.le_of_ble_eq_true rfl, Nat.le_of_ble_eq_true rfl⟩ rfl rfl (Nat.le_of_ble_eq_true rfl) dX5_firm_11 ?_
    refine g_if_neB h 23 dX5_firm_14 (by decide) (fun c14 => ?_) (fun c14 => ?_)
    · skip
      show G X 0 0 (mW (xT X) o a s S) 23 [(0, .ref o), (1, .int (nI xn)), (2, .int w)] []
      refine g_aload_n h dX5_firm_23 rfl ?_
      refine g_iload_n h dX5_firm_24 rfl ?_
      refine g_iconst (v := nI 1) h dX5_firm_25 (by decide) ?_
      refine g_callVR h (m5_who _ _ _ o a s S xn 1 (by first | assumption | omega)) (fun _ q => q) 0 rfl rfl (lw_V q1459 q1461 qs37 q95 q1462) gy_X5_who ⟨Nat.le_of_ble_eq_true rfl, Nat.le_of_ble_eq_true rfl⟩ ⟨Nat.le_of_ble_eq_true rfl, Nat.le_of_ble_eq_true rfl⟩ rfl rfl (Nat.le_of_ble_eq_true rfl) dX5_firm_26 ?_
      refine g_istore_n (lv' := [(0, .ref o), (1, .int (nI xn)), (2, .int w), (3, .int (s (20 + 4 * xn + 1)))]) h dX5_firm_29 (by decide) rfl ?_
      refine g_iconst (v := nI 0) h dX5_firm_30 (by decide) ?_
      refine g_istore (lv' := [(0, .ref o), (1, .int (nI xn)), (2, .int w), (3, .int (s (20 + 4 * xn + 1))), (4, .int (nI 0))]) h dX5_firm_31 (by decide) rfl ?_
      refine g_iconst (v := nI 0) h dX5_firm_33 (by decide) ?_
      refine g_istore (lv' := [(0, .ref o), (1, .int (nI xn)), (2, .int w), (3, .int (s (20 + 4 * xn + 1))), (4, .int (nI 0)), (5, .int (nI 0))]) h dX5_firm_34 (by decide) rfl ?_
      refine g_iconst (v := nI 0) h dX5_firm_36 (by decide) ?_
      refine g_istore (lv' := [(0, .ref o), (1, .int (nI xn)), (2, .int w), (3, .int (s (20 + 4 * xn + 1))), (4, .int (nI 0)), (5, .int (nI 0)), (6, .int (nI 0))]) h dX5_firm_37 (by decide) rfl ?_
      refine g_iconst (v := nI 0) h dX5_firm_39 (by decide) ?_
      refine g_istore (lv' := [(0, .ref o), (1, .int (nI xn)), (2, .int w), (3, .int (s (20 + 4 * xn + 1))), (4, .int (nI 0)), (5, .int (nI 0)), (6, .int (nI 0)), (7, .int (nI 0))]) h dX5_firm_40 (by decide) rfl ?_
      have lp : ∀ i, i ≤ nT s → ∀ (_u : Unit) (l : Int32) (n : Int32) (m : Int32) (z : Int32), ((l, n, m, z) = fo i (firmF s xn) (s (20 + 4 * xn + 1), 0, 0, 0)) → G X 0 0 (mW (xT X) o a s S) 42 [(0, .ref o), (1, .int (nI xn)), (2, .int w), (3, .int l), (4, .int n), (5, .int m), (6, .int z), (7, .int (nI i))] [] := by
        refine g_ind (N := nT s) (fun i hi_i ih_lp => ?_)
        intro _u l n m z e0_lp
        refine g_iload h dX5_firm_42 rfl ?_
        refine g_aload_n h dX5_firm_44 rfl ?_
        refine g_get h in_X5 0 rfl rfl 0 rfl q1374 rfl rfl dX5_firm_45 ?_
        refine g_iconst (v := nI 1) h dX5_firm_48 (by decide) ?_
        refine g_iald h 1 rfl (by first | assumption | omega) (by decide) dX5_firm_49 ?_
        refine g_toN (a := nT s) (Inv.nt h0) ?_
        refine g_icmp_geN h 184 dX5_firm_50 (by decide) (by first | omega | decide) (by first | omega | decide) (fun c50 => ?_) (fun c50 => ?_)
        · skip
          show G X 0 0 (mW (xT X) o a s S) 184 [(0, .ref o), (1, .int (nI xn)), (2, .int w), (3, .int l), (4, .int n), (5, .int m), (6, .int z), (7, .int (nI i))] []
          have ef : firmV s xn = (l, n, m, z) := by rw [e0_lp, show i = nT s by omega]; rfl
          refine g_iload_n h dX5_firm_184 rfl ?_
          refine g_if_ne h 193 dX5_firm_185 (by decide) (fun c185 => ?_) (fun c185 => ?_)
          · skip
            show G X 0 0 (mW (xT X) o a s S) 193 [(0, .ref o), (1, .int (nI xn)), (2, .int w), (3, .int l), (4, .int n), (5, .int m), (6, .int z), (7, .int (nI i))] []
            refine g_iload_n h dX5_firm_193 rfl ?_
            refine g_iconst (v := nI 1) h dX5_firm_194 (by decide) ?_
            refine g_toI (y := 1) rfl ?_
            refine g_icmp_ne h 203 dX5_firm_195 (by decide) (fun c195 => ?_) (fun c195 => ?_)
            · skip
              show G X 0 0 (mW (xT X) o a s S) 203 [(0, .ref o), (1, .int (nI xn)), (2, .int w), (3, .int l), (4, .int n), (5, .int m), (6, .int z), (7, .int (nI i))] []
              refine g_iload h dX5_firm_203 rfl ?_
              exact g_iretWv h hE dX5_firm_205 (by first | (simp only [o_firm, c5, c14, Bool.and_self, if_true, vx, ef]; done) | (simp only [o_firm, c5, c14, Bool.and_self, if_true, vx, ef]; simp [sU_self, c185, *]; done)) (mW_eq (by first | (simp only [o_firm, c5, c14, Bool.and_self, if_true, vx, ef]; done) | (simp only [o_firm, c5, c14, Bool.and_self, if_true, vx, ef]; simp [sU_self, c185, *]; done)) (by first | (simp only [o_firm, c5, c14, Bool.and_self, if_true, vx, ef]; done) | (simp only [o_firm, c5, c14, Bool.and_self, if_true, vx, ef]; simp [sU_self, c185, *]; done)))
            · skip
              show G X 0 0 (mW (xT X) o a s S) 198 [(0, .ref o), (1, .int (nI xn)), (2, .int w), (3, .int l), (4, .int n), (5, .int m), (6, .int z), (7, .int (nI i))] []
              refine g_iload h dX5_firm_198 rfl ?_
              refine g_goto h 205 dX5_firm_200 (by decide) ?_
              exact g_iretWv h hE dX5_firm_205 (by first | (simp only [o_firm, c5, c14, Bool.and_self, if_true, vx, ef]; done) | (simp only [o_firm, c5, c14, Bool.and_self, if_true, vx, ef]; simp [sU_self, c185, *]; done)) (mW_eq (by first | (simp only [o_firm, c5, c14, Bool.and_self, if_true, vx, ef]; done) | (simp only [o_firm, c5, c14, Bool.and_self, if_true, vx, ef]; simp [sU_self, c185, *]; done)) (by first | (simp only [o_firm, c5, c14, Bool.and_self, if_true, vx, ef]; done) | (simp only [o_firm, c5, c14, Bool.and_self, if_true, vx, ef]; simp [sU_self, c185, *]; done)))
          · skip
            show G X 0 0 (mW (xT X) o a s S) 188 [(0, .ref o), (1, .int (nI xn)), (2, .int w), (3, .int l), (4, .int n), (5, .int m), (6, .int z), (7, .int (nI i))] []
            refine g_iload h dX5_firm_188 rfl ?_
            refine g_goto h 205 dX5_firm_190 (by decide) ?_
            exact g_iretWv h hE dX5_firm_205 (by first | (simp only [o_firm, c5, c14, Bool.and_self, if_true, vx, ef]; done) | (simp only [o_firm, c5, c14, Bool.and_self, if_true, vx, ef]; simp [sU_self, c185, *]; done)) (mW_eq (by first | (simp only [o_firm, c5, c14, Bool.and_self, if_true, vx, ef]; done) | (simp only [o_firm, c5, c14, Bool.and_self, if_true, vx, ef]; simp [sU_self, c185, *]; done)) (by first | (simp only [o_firm, c5, c14, Bool.and_self, if_true, vx, ef]; done) | (simp only [o_firm, c5, c14, Bool.and_self, if_true, vx, ef]; simp [sU_self, c185, *]; done)))
        · skip
          show G X 0 0 (mW (xT X) o a s S) 53 [(0, .ref o), (1, .int (nI xn)), (2, .int w), (3, .int l), (4, .int n), (5, .int m), (6, .int z), (7, .int (nI i))] []
          refine g_aload_n h dX5_firm_53 rfl ?_
          refine g_iload h dX5_firm_54 rfl ?_
          refine g_iconst (v := nI 1) h dX5_firm_56 (by decide) ?_
          refine g_callVR h (m5_its _ _ _ o a s S i 1 (by first | assumption | omega)) (fun _ q => q) 0 rfl rfl (lw_V q1479 q1481 qs42 q95 q1482) gy_X5_its ⟨Nat.le_of_ble_eq_true rfl, Nat.le_of_ble_eq_true rfl⟩ ⟨Nat.le_of_ble_eq_true rfl, Nat.le_of_ble_eq_true rfl⟩ rfl rfl (Nat.le_of_ble_eq_true rfl) dX5_firm_57 ?_
          refine g_istore (lv' := [(0, .ref o), (1, .int (nI xn)), (2, .int w), (3, .int l), (4, .int n), (5, .int m), (6, .int z), (7, .int (nI i)), (8, .int (s (44 + 4 * i + 1)))]) h dX5_firm_60 (by decide) rfl ?_
          refine g_aload_n h dX5_firm_62 rfl ?_
          refine g_iload h dX5_firm_63 rfl ?_
          refine g_callVR h (m5_owner _ _ _ o a s S i (by first | assumption | omega)) (fun _ q => q) 0 rfl rfl (lw_V q1475 q1477 qs41 q95 q1478) gy_X5_owner ⟨Nat.le_of_ble_eq_true rfl, Nat.le_of_ble_eq_true rfl⟩ ⟨Nat.le_of_ble_eq_true rfl, Nat.le_of_ble_eq_true rfl⟩ rfl rfl (Nat.le_of_ble_eq_true rfl) dX5_firm_65 ?_
          refine g_iload_n h dX5_firm_68 rfl ?_
          refine g_icmp_eq h 104 dX5_firm_69 (by decide) (fun c69 => ?_) (fun c69 => ?_)
          · skip
            show G X 0 0 (mW (xT X) o a s S) 104 [(0, .ref o), (1, .int (nI xn)), (2, .int w), (3, .int l), (4, .int n), (5, .int m), (6, .int z), (7, .int (nI i)), (8, .int (s (44 + 4 * i + 1)))] []
            refine g_iconst (v := nI 0) h dX5_firm_104 (by decide) ?_
            refine g_istore (lv' := [(0, .ref o), (1, .int (nI xn)), (2, .int w), (3, .int l), (4, .int n), (5, .int m), (6, .int z), (7, .int (nI i)), (8, .int (s (44 + 4 * i + 1))), (9, .int (nI 0))]) h dX5_firm_105 (by decide) rfl ?_
            refine g_iload_n h dX5_firm_107 rfl ?_
            refine g_iload h dX5_firm_108 rfl ?_
            refine g_if_eqN h 118 dX5_firm_110 (by decide) (by first | omega | decide) (fun c110 => ?_) (fun c110 => ?_)
            · skip
              show G X 0 0 (mW (xT X) o a s S) 118 [(0, .ref o), (1, .int (nI xn)), (2, .int w), (3, .int l), (4, .int n), (5, .int m), (6, .int z), (7, .int (nI i)), (8, .int (s (44 + 4 * i + 1))), (9, .int (nI 0))] [.int l]
              refine g_iconst (v := nI 0) h dX5_firm_118 (by decide) ?_
              refine g_toI (y := 0) rfl ?_
              refine g_isub h dX5_firm_119 ?_
              refine g_istore_n (lv' := [(0, .ref o), (1, .int (nI xn)), (2, .int w), (3, .int (l - 0)), (4, .int n), (5, .int m), (6, .int z), (7, .int (nI i)), (8, .int (s (44 + 4 * i + 1))), (9, .int (nI 0))]) h dX5_firm_120 (by decide) rfl ?_
              refine g_iload h dX5_firm_121 rfl ?_
              refine g_iload h dX5_firm_123 rfl ?_
              refine g_if_eqN h 132 dX5_firm_125 (by decide) (by first | omega | decide) (fun c125 => ?_) (fun c125 => ?_)
              · skip
                show G X 0 0 (mW (xT X) o a s S) 132 [(0, .ref o), (1, .int (nI xn)), (2, .int w), (3, .int (l - 0)), (4, .int n), (5, .int m), (6, .int z), (7, .int (nI i)), (8, .int (s (44 + 4 * i + 1))), (9, .int (nI 0))] [.int n]
                refine g_iconst (v := nI 0) h dX5_firm_132 (by decide) ?_
                refine g_toI (y := 0) rfl ?_
                refine g_iadd h dX5_firm_133 ?_
                refine g_istore (lv' := [(0, .ref o), (1, .int (nI xn)), (2, .int w), (3, .int (l - 0)), (4, .int (n + 0)), (5, .int m), (6, .int z), (7, .int (nI i)), (8, .int (s (44 + 4 * i + 1))), (9, .int (nI 0))]) h dX5_firm_134 (by decide) rfl ?_
                refine g_iload h dX5_firm_136 rfl ?_
                refine g_iload h dX5_firm_138 rfl ?_
                refine g_if_eqN h 156 dX5_firm_140 (by decide) (by first | omega | decide) (fun c140 => ?_) (fun c140 => ?_)
                · skip
                  show G X 0 0 (mW (xT X) o a s S) 156 [(0, .ref o), (1, .int (nI xn)), (2, .int w), (3, .int (l - 0)), (4, .int (n + 0)), (5, .int m), (6, .int z), (7, .int (nI i)), (8, .int (s (44 + 4 * i + 1))), (9, .int (nI 0))] [.int m]
                  refine g_iconst (v := nI 0) h dX5_firm_156 (by decide) ?_
                  refine g_toI (y := 0) rfl ?_
                  refine g_iadd h dX5_firm_157 ?_
                  refine g_istore (lv' := [(0, .ref o), (1, .int (nI xn)), (2, .int w), (3, .int (l - 0)), (4, .int (n + 0)), (5, .int (m + 0)), (6, .int z), (7, .int (nI i)), (8, .int (s (44 + 4 * i + 1))), (9, .int (nI 0))]) h dX5_firm_158 (by decide) rfl ?_
                  refine g_iload h dX5_firm_160 rfl ?_
                  refine g_iload h dX5_firm_162 rfl ?_
                  refine g_if_eqN h 174 dX5_firm_164 (by decide) (by first | omega | decide) (fun c164 => ?_) (fun c164 => ?_)
                  · skip
                    show G X 0 0 (mW (xT X) o a s S) 174 [(0, .ref o), (1, .int (nI xn)), (2, .int w), (3, .int (l - 0)), (4, .int (n + 0)), (5, .int (m + 0)), (6, .int z), (7, .int (nI i)), (8, .int (s (44 + 4 * i + 1))), (9, .int (nI 0))] [.int z]
                    refine g_iconst (v := nI 0) h dX5_firm_174 (by decide) ?_
                    refine g_toI (y := 0) rfl ?_
                    refine g_ior h dX5_firm_175 ?_
                    refine g_istore (lv' := [(0, .ref o), (1, .int (nI xn)), (2, .int w), (3, .int (l - 0)), (4, .int (n + 0)), (5, .int (m + 0)), (6, .int (z ||| 0)), (7, .int (nI i)), (8, .int (s (44 + 4 * i + 1))), (9, .int (nI 0))]) h dX5_firm_176 (by decide) rfl ?_
                    refine g_iincN (b := 1) (lv' := [(0, .ref o), (1, .int (nI xn)), (2, .int w), (3, .int (l - 0)), (4, .int (n + 0)), (5, .int (m + 0)), (6, .int (z ||| 0)), (7, .int (nI (i + 1))), (8, .int (s (44 + 4 * i + 1))), (9, .int (nI 0))]) h dX5_firm_178 rfl rfl (by decide) rfl ?_
                    refine g_goto h 42 dX5_firm_181 (by decide) ?_
                    refine g_lv (lv' := [(0, .ref o), (1, .int (nI xn)), (2, .int w), (3, .int (l - 0)), (4, .int (n + 0)), (5, .int (m + 0)), (6, .int (z ||| 0)), (7, .int (nI (i + 1)))]) (lvle_cons rfl (lvle_cons rfl (lvle_cons rfl (lvle_cons rfl (lvle_cons rfl (lvle_cons rfl (lvle_cons rfl (lvle_cons rfl (lvle_nil))))))))) ?_
                    exact ih_lp (i + 1) (by omega) (by omega) () (l - 0) (n + 0) (m + 0) (z ||| 0) (by rw [fo_s, ← e0_lp]; simp [firmF, mayB, o_firm, er, LOW, sU_self, nI_pred, nv_nI, c5, vx, c14, c50, c69, c110, c125, c140, c164])
                  · skip
                    show G X 0 0 (mW (xT X) o a s S) 167 [(0, .ref o), (1, .int (nI xn)), (2, .int w), (3, .int (l - 0)), (4, .int (n + 0)), (5, .int (m + 0)), (6, .int z), (7, .int (nI i)), (8, .int (s (44 + 4 * i + 1))), (9, .int (nI 0))] [.int z]
                    exact absurd c164 (by decide)
                · skip
                  show G X 0 0 (mW (xT X) o a s S) 143 [(0, .ref o), (1, .int (nI xn)), (2, .int w), (3, .int (l - 0)), (4, .int (n + 0)), (5, .int m), (6, .int z), (7, .int (nI i)), (8, .int (s (44 + 4 * i + 1))), (9, .int (nI 0))] [.int m]
                  exact absurd c140 (by decide)
              · skip
                show G X 0 0 (mW (xT X) o a s S) 128 [(0, .ref o), (1, .int (nI xn)), (2, .int w), (3, .int (l - 0)), (4, .int n), (5, .int m), (6, .int z), (7, .int (nI i)), (8, .int (s (44 + 4 * i + 1))), (9, .int (nI 0))] [.int n]
                exact absurd c125 (by decide)
            · skip
              show G X 0 0 (mW (xT X) o a s S) 113 [(0, .ref o), (1, .int (nI xn)), (2, .int w), (3, .int l), (4, .int n), (5, .int m), (6, .int z), (7, .int (nI i)), (8, .int (s (44 + 4 * i + 1))), (9, .int (nI 0))] [.int l]
              exact absurd c110 (by decide)
          · skip
            show G X 0 0 (mW (xT X) o a s S) 72 [(0, .ref o), (1, .int (nI xn)), (2, .int w), (3, .int l), (4, .int n), (5, .int m), (6, .int z), (7, .int (nI i)), (8, .int (s (44 + 4 * i + 1)))] []
            refine g_aload_n h dX5_firm_72 rfl ?_
            refine g_iload h dX5_firm_73 rfl ?_
            refine g_iconst (v := nI 3) h dX5_firm_75 (by decide) ?_
            refine g_callVR h (m5_its _ _ _ o a s S i 3 (by first | assumption | omega)) (fun _ q => q) 0 rfl rfl (lw_V q1479 q1481 qs42 q95 q1482) gy_X5_its ⟨Nat.le_of_ble_eq_true rfl, Nat.le_of_ble_eq_true rfl⟩ ⟨Nat.le_of_ble_eq_true rfl, Nat.le_of_ble_eq_true rfl⟩ rfl rfl (Nat.le_of_ble_eq_true rfl) dX5_firm_76 ?_
            refine g_if_ne h 104 dX5_firm_79 (by decide) (fun c79 => ?_) (fun c79 => ?_)
            · skip
              show G X 0 0 (mW (xT X) o a s S) 104 [(0, .ref o), (1, .int (nI xn)), (2, .int w), (3, .int l), (4, .int n), (5, .int m), (6, .int z), (7, .int (nI i)), (8, .int (s (44 + 4 * i + 1)))] []
              refine g_iconst (v := nI 0) h dX5_firm_104 (by decide) ?_
              refine g_istore (lv' := [(0, .ref o), (1, .int (nI xn)), (2, .int w), (3, .int l), (4, .int n), (5, .int m), (6, .int z), (7, .int (nI i)), (8, .int (s (44 + 4 * i + 1))), (9, .int (nI 0))]) h dX5_firm_105 (by decide) rfl ?_
              refine g_iload_n h dX5_firm_107 rfl ?_
              refine g_iload h dX5_firm_108 rfl ?_
              refine g_if_eqN h 118 dX5_firm_110 (by decide) (by first | omega | decide) (fun c110 => ?_) (fun c110 => ?_)
              · skip
                show G X 0 0 (mW (xT X) o a s S) 118 [(0, .ref o), (1, .int (nI xn)), (2, .int w), (3, .int l), (4, .int n), (5, .int m), (6, .int z), (7, .int (nI i)), (8, .int (s (44 + 4 * i + 1))), (9, .int (nI 0))] [.int l]
                refine g_iconst (v := nI 0) h dX5_firm_118 (by decide) ?_
                refine g_toI (y := 0) rfl ?_
                refine g_isub h dX5_firm_119 ?_
                refine g_istore_n (lv' := [(0, .ref o), (1, .int (nI xn)), (2, .int w), (3, .int (l - 0)), (4, .int n), (5, .int m), (6, .int z), (7, .int (nI i)), (8, .int (s (44 + 4 * i + 1))), (9, .int (nI 0))]) h dX5_firm_120 (by decide) rfl ?_
                refine g_iload h dX5_firm_121 rfl ?_
                refine g_iload h dX5_firm_123 rfl ?_
                refine g_if_eqN h 132 dX5_firm_125 (by decide) (by first | omega | decide) (fun c125 => ?_) (fun c125 => ?_)
                · skip
                  show G X 0 0 (mW (xT X) o a s S) 132 [(0, .ref o), (1, .int (nI xn)), (2, .int w), (3, .int (l - 0)), (4, .int n), (5, .int m), (6, .int z), (7, .int (nI i)), (8, .int (s (44 + 4 * i + 1))), (9, .int (nI 0))] [.int n]
                  refine g_iconst (v := nI 0) h dX5_firm_132 (by decide) ?_
                  refine g_toI (y := 0) rfl ?_
                  refine g_iadd h dX5_firm_133 ?_
                  refine g_istore (lv' := [(0, .ref o), (1, .int (nI xn)), (2, .int w), (3, .int (l - 0)), (4, .int (n + 0)), (5, .int m), (6, .int z), (7, .int (nI i)), (8, .int (s (44 + 4 * i + 1))), (9, .int (nI 0))]) h dX5_firm_134 (by decide) rfl ?_
                  refine g_iload h dX5_firm_136 rfl ?_
                  refine g_iload h dX5_firm_138 rfl ?_
                  refine g_if_eqN h 156 dX5_firm_140 (by decide) (by first | omega | decide) (fun c140 => ?_) (fun c140 => ?_)
                  · skip
                    show G X 0 0 (mW (xT X) o a s S) 156 [(0, .ref o), (1, .int (nI xn)), (2, .int w), (3, .int (l - 0)), (4, .int (n + 0)), (5, .int m), (6, .int z), (7, .int (nI i)), (8, .int (s (44 + 4 * i + 1))), (9, .int (nI 0))] [.int m]
                    refine g_iconst (v := nI 0) h dX5_firm_156 (by decide) ?_
                    refine g_toI (y := 0) rfl ?_
                    refine g_iadd h dX5_firm_157 ?_
                    refine g_istore (lv' := [(0, .ref o), (1, .int (nI xn)), (2, .int w), (3, .int (l - 0)), (4, .int (n + 0)), (5, .int (m + 0)), (6, .int z), (7, .int (nI i)), (8, .int (s (44 + 4 * i + 1))), (9, .int (nI 0))]) h dX5_firm_158 (by decide) rfl ?_
                    refine g_iload h dX5_firm_160 rfl ?_
                    refine g_iload h dX5_firm_162 rfl ?_
                    refine g_if_eqN h 174 dX5_firm_164 (by decide) (by first | omega | decide) (fun c164 => ?_) (fun c164 => ?_)
                    · skip
                      show G X 0 0 (mW (xT X) o a s S) 174 [(0, .ref o), (1, .int (nI xn)), (2, .int w), (3, .int (l - 0)), (4, .int (n + 0)), (5, .int (m + 0)), (6, .int z), (7, .int (nI i)), (8, .int (s (44 + 4 * i + 1))), (9, .int (nI 0))] [.int z]
                      refine g_iconst (v := nI 0) h dX5_firm_174 (by decide) ?_
                      refine g_toI (y := 0) rfl ?_
                      refine g_ior h dX5_firm_175 ?_
                      refine g_istore (lv' := [(0, .ref o), (1, .int (nI xn)), (2, .int w), (3, .int (l - 0)), (4, .int (n + 0)), (5, .int (m + 0)), (6, .int (z ||| 0)), (7, .int (nI i)), (8, .int (s (44 + 4 * i + 1))), (9, .int (nI 0))]) h dX5_firm_176 (by decide) rfl ?_
                      refine g_iincN (b := 1) (lv' := [(0, .ref o), (1, .int (nI xn)), (2, .int w), (3, .int (l - 0)), (4, .int (n + 0)), (5, .int (m + 0)), (6, .int (z ||| 0)), (7, .int (nI (i + 1))), (8, .int (s (44 + 4 * i + 1))), (9, .int (nI 0))]) h dX5_firm_178 rfl rfl (by decide) rfl ?_
                      refine g_goto h 42 dX5_firm_181 (by decide) ?_
                      refine g_lv (lv' := [(0, .ref o), (1, .int (nI xn)), (2, .int w), (3, .int (l - 0)), (4, .int (n + 0)), (5, .int (m + 0)), (6, .int (z ||| 0)), (7, .int (nI (i + 1)))]) (lvle_cons rfl (lvle_cons rfl (lvle_cons rfl (lvle_cons rfl (lvle_cons rfl (lvle_cons rfl (lvle_cons rfl (lvle_cons rfl (lvle_nil))))))))) ?_
                      exact ih_lp (i + 1) (by omega) (by omega) () (l - 0) (n + 0) (m + 0) (z ||| 0) (by rw [fo_s, ← e0_lp]; simp [firmF, mayB, o_firm, er, LOW, sU_self, nI_pred, nv_nI, c5, vx, c14, c50, c69, c79, c110, c125, c140, c164])
                    · skip
                      show G X 0 0 (mW (xT X) o a s S) 167 [(0, .ref o), (1, .int (nI xn)), (2, .int w), (3, .int (l - 0)), (4, .int (n + 0)), (5, .int (m + 0)), (6, .int z), (7, .int (nI i)), (8, .int (s (44 + 4 * i + 1))), (9, .int (nI 0))] [.int z]
                      exact absurd c164 (by decide)
                  · skip
                    show G X 0 0 (mW (xT X) o a s S) 143 [(0, .ref o), (1, .int (nI xn)), (2, .int w), (3, .int (l - 0)), (4, .int (n + 0)), (5, .int m), (6, .int z), (7, .int (nI i)), (8, .int (s (44 + 4 * i + 1))), (9, .int (nI 0))] [.int m]
                    exact absurd c140 (by decide)
                · skip
                  show G X 0 0 (mW (xT X) o a s S) 128 [(0, .ref o), (1, .int (nI xn)), (2, .int w), (3, .int (l - 0)), (4, .int n), (5, .int m), (6, .int z), (7, .int (nI i)), (8, .int (s (44 + 4 * i + 1))), (9, .int (nI 0))] [.int n]
                  exact absurd c125 (by decide)
              · skip
                show G X 0 0 (mW (xT X) o a s S) 113 [(0, .ref o), (1, .int (nI xn)), (2, .int w), (3, .int l), (4, .int n), (5, .int m), (6, .int z), (7, .int (nI i)), (8, .int (s (44 + 4 * i + 1))), (9, .int (nI 0))] [.int l]
                exact absurd c110 (by decide)
            · skip
              show G X 0 0 (mW (xT X) o a s S) 82 [(0, .ref o), (1, .int (nI xn)), (2, .int w), (3, .int l), (4, .int n), (5, .int m), (6, .int z), (7, .int (nI i)), (8, .int (s (44 + 4 * i + 1)))] []
              refine g_aload_n h dX5_firm_82 rfl ?_
              refine g_iload_n h dX5_firm_83 rfl ?_
              refine g_iload h dX5_firm_84 rfl ?_
              refine g_callVR h (m5_valueTo _ _ _ o a s S xn i (by first | assumption | omega) (by first | assumption | omega)) (fun _ q => q) 0 rfl rfl (lw_V q1487 q1489 qs44 q95 q1490) gy_X5_valueTo ⟨Nat.le_of_ble_eq_true rfl, Nat.le_of_ble_eq_true rfl⟩ ⟨Nat.le_of_ble_eq_true rfl, Nat.le_of_ble_eq_true rfl⟩ rfl rfl (Nat.le_of_ble_eq_true rfl) dX5_firm_86 ?_
              refine g_iload h dX5_firm_89 rfl ?_
              refine g_icmp_leC h 104 dX5_firm_91 (by decide) (fun c91 => ?_) (fun c91 => ?_)
              · skip
                show G X 0 0 (mW (xT X) o a s S) 104 [(0, .ref o), (1, .int (nI xn)), (2, .int w), (3, .int l), (4, .int n), (5, .int m), (6, .int z), (7, .int (nI i)), (8, .int (s (44 + 4 * i + 1)))] []
                refine g_iconst (v := nI 0) h dX5_firm_104 (by decide) ?_
                refine g_istore (lv' := [(0, .ref o), (1, .int (nI xn)), (2, .int w), (3, .int l), (4, .int n), (5, .int m), (6, .int z), (7, .int (nI i)), (8, .int (s (44 + 4 * i + 1))), (9, .int (nI 0))]) h dX5_firm_105 (by decide) rfl ?_
                refine g_iload_n h dX5_firm_107 rfl ?_
                refine g_iload h dX5_firm_108 rfl ?_
                refine g_if_eqN h 118 dX5_firm_110 (by decide) (by first | omega | decide) (fun c110 => ?_) (fun c110 => ?_)
                · skip
                  show G X 0 0 (mW (xT X) o a s S) 118 [(0, .ref o), (1, .int (nI xn)), (2, .int w), (3, .int l), (4, .int n), (5, .int m), (6, .int z), (7, .int (nI i)), (8, .int (s (44 + 4 * i + 1))), (9, .int (nI 0))] [.int l]
                  refine g_iconst (v := nI 0) h dX5_firm_118 (by decide) ?_
                  refine g_toI (y := 0) rfl ?_
                  refine g_isub h dX5_firm_119 ?_
                  refine g_istore_n (lv' := [(0, .ref o), (1, .int (nI xn)), (2, .int w), (3, .int (l - 0)), (4, .int n), (5, .int m), (6, .int z), (7, .int (nI i)), (8, .int (s (44 + 4 * i + 1))), (9, .int (nI 0))]) h dX5_firm_120 (by decide) rfl ?_
                  refine g_iload h dX5_firm_121 rfl ?_
                  refine g_iload h dX5_firm_123 rfl ?_
                  refine g_if_eqN h 132 dX5_firm_125 (by decide) (by first | omega | decide) (fun c125 => ?_) (fun c125 => ?_)
                  · skip
                    show G X 0 0 (mW (xT X) o a s S) 132 [(0, .ref o), (1, .int (nI xn)), (2, .int w), (3, .int (l - 0)), (4, .int n), (5, .int m), (6, .int z), (7, .int (nI i)), (8, .int (s (44 + 4 * i + 1))), (9, .int (nI 0))] [.int n]
                    refine g_iconst (v := nI 0) h dX5_firm_132 (by decide) ?_
                    refine g_toI (y := 0) rfl ?_
                    refine g_iadd h dX5_firm_133 ?_
                    refine g_istore (lv' := [(0, .ref o), (1, .int (nI xn)), (2, .int w), (3, .int (l - 0)), (4, .int (n + 0)), (5, .int m), (6, .int z), (7, .int (nI i)), (8, .int (s (44 + 4 * i + 1))), (9, .int (nI 0))]) h dX5_firm_134 (by decide) rfl ?_
                    refine g_iload h dX5_firm_136 rfl ?_
                    refine g_iload h dX5_firm_138 rfl ?_
                    refine g_if_eqN h 156 dX5_firm_140 (by decide) (by first | omega | decide) (fun c140 => ?_) (fun c140 => ?_)
                    · skip
                      show G X 0 0 (mW (xT X) o a s S) 156 [(0, .ref o), (1, .int (nI xn)), (2, .int w), (3, .int (l - 0)), (4, .int (n + 0)), (5, .int m), (6, .int z), (7, .int (nI i)), (8, .int (s (44 + 4 * i + 1))), (9, .int (nI 0))] [.int m]
                      refine g_iconst (v := nI 0) h dX5_firm_156 (by decide) ?_
                      refine g_toI (y := 0) rfl ?_
                      refine g_iadd h dX5_firm_157 ?_
                      refine g_istore (lv' := [(0, .ref o), (1, .int (nI xn)), (2, .int w), (3, .int (l - 0)), (4, .int (n + 0)), (5, .int (m + 0)), (6, .int z), (7, .int (nI i)), (8, .int (s (44 + 4 * i + 1))), (9, .int (nI 0))]) h dX5_firm_158 (by decide) rfl ?_
                      refine g_iload h dX5_firm_160 rfl ?_
                      refine g_iload h dX5_firm_162 rfl ?_
                      refine g_if_eqN h 174 dX5_firm_164 (by decide) (by first | omega | decide) (fun c164 => ?_) (fun c164 => ?_)
                      · skip
                        show G X 0 0 (mW (xT X) o a s S) 174 [(0, .ref o), (1, .int (nI xn)), (2, .int w), (3, .int (l - 0)), (4, .int (n + 0)), (5, .int (m + 0)), (6, .int z), (7, .int (nI i)), (8, .int (s (44 + 4 * i + 1))), (9, .int (nI 0))] [.int z]
                        refine g_iconst (v := nI 0) h dX5_firm_174 (by decide) ?_
                        refine g_toI (y := 0) rfl ?_
                        refine g_ior h dX5_firm_175 ?_
                        refine g_istore (lv' := [(0, .ref o), (1, .int (nI xn)), (2, .int w), (3, .int (l - 0)), (4, .int (n + 0)), (5, .int (m + 0)), (6, .int (z ||| 0)), (7, .int (nI i)), (8, .int (s (44 + 4 * i + 1))), (9, .int (nI 0))]) h dX5_firm_176 (by decide) rfl ?_
                        refine g_iincN (b := 1) (lv' := [(0, .ref o), (1, .int (nI xn)), (2, .int w), (3, .int (l - 0)), (4, .int (n + 0)), (5, .int (m + 0)), (6, .int (z ||| 0)), (7, .int (nI (i + 1))), (8, .int (s (44 + 4 * i + 1))), (9, .int (nI 0))]) h dX5_firm_178 rfl rfl (by decide) rfl ?_
                        refine g_goto h 42 dX5_firm_181 (by decide) ?_
                        refine g_lv (lv' := [(0, .ref o), (1, .int (nI xn)), (2, .int w), (3, .int (l - 0)), (4, .int (n + 0)), (5, .int (m + 0)), (6, .int (z ||| 0)), (7, .int (nI (i + 1)))]) (lvle_cons rfl (lvle_cons rfl (lvle_cons rfl (lvle_cons rfl (lvle_cons rfl (lvle_cons rfl (lvle_cons rfl (lvle_cons rfl (lvle_nil))))))))) ?_
                        exact ih_lp (i + 1) (by omega) (by omega) () (l - 0) (n + 0) (m + 0) (z ||| 0) (by rw [fo_s, ← e0_lp]; simp [firmF, mayB, o_firm, er, LOW, sU_self, nI_pred, nv_nI, c5, vx, c14, c50, c69, c79, c91, c110, c125, c140, c164])
                      · skip
                        show G X 0 0 (mW (xT X) o a s S) 167 [(0, .ref o), (1, .int (nI xn)), (2, .int w), (3, .int (l - 0)), (4, .int (n + 0)), (5, .int (m + 0)), (6, .int z), (7, .int (nI i)), (8, .int (s (44 + 4 * i + 1))), (9, .int (nI 0))] [.int z]
                        exact absurd c164 (by decide)
                    · skip
                      show G X 0 0 (mW (xT X) o a s S) 143 [(0, .ref o), (1, .int (nI xn)), (2, .int w), (3, .int (l - 0)), (4, .int (n + 0)), (5, .int m), (6, .int z), (7, .int (nI i)), (8, .int (s (44 + 4 * i + 1))), (9, .int (nI 0))] [.int m]
                      exact absurd c140 (by decide)
                  · skip
                    show G X 0 0 (mW (xT X) o a s S) 128 [(0, .ref o), (1, .int (nI xn)), (2, .int w), (3, .int (l - 0)), (4, .int n), (5, .int m), (6, .int z), (7, .int (nI i)), (8, .int (s (44 + 4 * i + 1))), (9, .int (nI 0))] [.int n]
                    exact absurd c125 (by decide)
                · skip
                  show G X 0 0 (mW (xT X) o a s S) 113 [(0, .ref o), (1, .int (nI xn)), (2, .int w), (3, .int l), (4, .int n), (5, .int m), (6, .int z), (7, .int (nI i)), (8, .int (s (44 + 4 * i + 1))), (9, .int (nI 0))] [.int l]
                  exact absurd c110 (by decide)
              · skip
                show G X 0 0 (mW (xT X) o a s S) 94 [(0, .ref o), (1, .int (nI xn)), (2, .int w), (3, .int l), (4, .int n), (5, .int m), (6, .int z), (7, .int (nI i)), (8, .int (s (44 + 4 * i + 1)))] []
                refine g_iload_n h dX5_firm_94 rfl ?_
                refine g_iload h dX5_firm_95 rfl ?_
                refine g_icmp_lt h 104 dX5_firm_97 (by decide) (fun c97 => ?_) (fun c97 => ?_)
                · skip
                  show G X 0 0 (mW (xT X) o a s S) 104 [(0, .ref o), (1, .int (nI xn)), (2, .int w), (3, .int l), (4, .int n), (5, .int m), (6, .int z), (7, .int (nI i)), (8, .int (s (44 + 4 * i + 1)))] []
                  refine g_iconst (v := nI 0) h dX5_firm_104 (by decide) ?_
                  refine g_istore (lv' := [(0, .ref o), (1, .int (nI xn)), (2, .int w), (3, .int l), (4, .int n), (5, .int m), (6, .int z), (7, .int (nI i)), (8, .int (s (44 + 4 * i + 1))), (9, .int (nI 0))]) h dX5_firm_105 (by decide) rfl ?_
                  refine g_iload_n h dX5_firm_107 rfl ?_
                  refine g_iload h dX5_firm_108 rfl ?_
                  refine g_if_eqN h 118 dX5_firm_110 (by decide) (by first | omega | decide) (fun c110 => ?_) (fun c110 => ?_)
                  · skip
                    show G X 0 0 (mW (xT X) o a s S) 118 [(0, .ref o), (1, .int (nI xn)), (2, .int w), (3, .int l), (4, .int n), (5, .int m), (6, .int z), (7, .int (nI i)), (8, .int (s (44 + 4 * i + 1))), (9, .int (nI 0))] [.int l]
                    refine g_iconst (v := nI 0) h dX5_firm_118 (by decide) ?_
                    refine g_toI (y := 0) rfl ?_
                    refine g_isub h dX5_firm_119 ?_
                    refine g_istore_n (lv' := [(0, .ref o), (1, .int (nI xn)), (2, .int w), (3, .int (l - 0)), (4, .int n), (5, .int m), (6, .int z), (7, .int (nI i)), (8, .int (s (44 + 4 * i + 1))), (9, .int (nI 0))]) h dX5_firm_120 (by decide) rfl ?_
                    refine g_iload h dX5_firm_121 rfl ?_
                    refine g_iload h dX5_firm_123 rfl ?_
                    refine g_if_eqN h 132 dX5_firm_125 (by decide) (by first | omega | decide) (fun c125 => ?_) (fun c125 => ?_)
                    · skip
                      show G X 0 0 (mW (xT X) o a s S) 132 [(0, .ref o), (1, .int (nI xn)), (2, .int w), (3, .int (l - 0)), (4, .int n), (5, .int m), (6, .int z), (7, .int (nI i)), (8, .int (s (44 + 4 * i + 1))), (9, .int (nI 0))] [.int n]
                      refine g_iconst (v := nI 0) h dX5_firm_132 (by decide) ?_
                      refine g_toI (y := 0) rfl ?_
                      refine g_iadd h dX5_firm_133 ?_
                      refine g_istore (lv' := [(0, .ref o), (1, .int (nI xn)), (2, .int w), (3, .int (l - 0)), (4, .int (n + 0)), (5, .int m), (6, .int z), (7, .int (nI i)), (8, .int (s (44 + 4 * i + 1))), (9, .int (nI 0))]) h dX5_firm_134 (by decide) rfl ?_
                      refine g_iload h dX5_firm_136 rfl ?_
                      refine g_iload h dX5_firm_138 rfl ?_
                      refine g_if_eqN h 156 dX5_firm_140 (by decide) (by first | omega | decide) (fun c140 => ?_) (fun c140 => ?_)
                      · skip
                        show G X 0 0 (mW (xT X) o a s S) 156 [(0, .ref o), (1, .int (nI xn)), (2, .int w), (3, .int (l - 0)), (4, .int (n + 0)), (5, .int m), (6, .int z), (7, .int (nI i)), (8, .int (s (44 + 4 * i + 1))), (9, .int (nI 0))] [.int m]
                        refine g_iconst (v := nI 0) h dX5_firm_156 (by decide) ?_
                        refine g_toI (y := 0) rfl ?_
                        refine g_iadd h dX5_firm_157 ?_
                        refine g_istore (lv' := [(0, .ref o), (1, .int (nI xn)), (2, .int w), (3, .int (l - 0)), (4, .int (n + 0)), (5, .int (m + 0)), (6, .int z), (7, .int (nI i)), (8, .int (s (44 + 4 * i + 1))), (9, .int (nI 0))]) h dX5_firm_158 (by decide) rfl ?_
                        refine g_iload h dX5_firm_160 rfl ?_
                        refine g_iload h dX5_firm_162 rfl ?_
                        refine g_if_eqN h 174 dX5_firm_164 (by decide) (by first | omega | decide) (fun c164 => ?_) (fun c164 => ?_)
                        · skip
                          show G X 0 0 (mW (xT X) o a s S) 174 [(0, .ref o), (1, .int (nI xn)), (2, .int w), (3, .int (l - 0)), (4, .int (n + 0)), (5, .int (m + 0)), (6, .int z), (7, .int (nI i)), (8, .int (s (44 + 4 * i + 1))), (9, .int (nI 0))] [.int z]
                          refine g_iconst (v := nI 0) h dX5_firm_174 (by decide) ?_
                          refine g_toI (y := 0) rfl ?_
                          refine g_ior h dX5_firm_175 ?_
                          refine g_istore (lv' := [(0, .ref o), (1, .int (nI xn)), (2, .int w), (3, .int (l - 0)), (4, .int (n + 0)), (5, .int (m + 0)), (6, .int (z ||| 0)), (7, .int (nI i)), (8, .int (s (44 + 4 * i + 1))), (9, .int (nI 0))]) h dX5_firm_176 (by decide) rfl ?_
                          refine g_iincN (b := 1) (lv' := [(0, .ref o), (1, .int (nI xn)), (2, .int w), (3, .int (l - 0)), (4, .int (n + 0)), (5, .int (m + 0)), (6, .int (z ||| 0)), (7, .int (nI (i + 1))), (8, .int (s (44 + 4 * i + 1))), (9, .int (nI 0))]) h dX5_firm_178 rfl rfl (by decide) rfl ?_
                          refine g_goto h 42 dX5_firm_181 (by decide) ?_
                          refine g_lv (lv' := [(0, .ref o), (1, .int (nI xn)), (2, .int w), (3, .int (l - 0)), (4, .int (n + 0)), (5, .int (m + 0)), (6, .int (z ||| 0)), (7, .int (nI (i + 1)))]) (lvle_cons rfl (lvle_cons rfl (lvle_cons rfl (lvle_cons rfl (lvle_cons rfl (lvle_cons rfl (lvle_cons rfl (lvle_cons rfl (lvle_nil))))))))) ?_
                          exact ih_lp (i + 1) (by omega) (by omega) () (l - 0) (n + 0) (m + 0) (z ||| 0) (by rw [fo_s, ← e0_lp]; simp [firmF, mayB, o_firm, er, LOW, sU_self, nI_pred, nv_nI, c5, vx, c14, c50, c69, c79, c91, c97, c110, c125, c140, c164])
                        · skip
                          show G X 0 0 (mW (xT X) o a s S) 167 [(0, .ref o), (1, .int (nI xn)), (2, .int w), (3, .int (l - 0)), (4, .int (n + 0)), (5, .int (m + 0)), (6, .int z), (7, .int (nI i)), (8, .int (s (44 + 4 * i + 1))), (9, .int (nI 0))] [.int z]
                          exact absurd c164 (by decide)
                      · skip
                        show G X 0 0 (mW (xT X) o a s S) 143 [(0, .ref o), (1, .int (nI xn)), (2, .int w), (3, .int (l - 0)), (4, .int (n + 0)), (5, .int m), (6, .int z), (7, .int (nI i)), (8, .int (s (44 + 4 * i + 1))), (9, .int (nI 0))] [.int m]
                        exact absurd c140 (by decide)
                    · skip
                      show G X 0 0 (mW (xT X) o a s S) 128 [(0, .ref o), (1, .int (nI xn)), (2, .int w), (3, .int (l - 0)), (4, .int n), (5, .int m), (6, .int z), (7, .int (nI i)), (8, .int (s (44 + 4 * i + 1))), (9, .int (nI 0))] [.int n]
                      exact absurd c125 (by decide)
                  · skip
                    show G X 0 0 (mW (xT X) o a s S) 113 [(0, .ref o), (1, .int (nI xn)), (2, .int w), (3, .int l), (4, .int n), (5, .int m), (6, .int z), (7, .int (nI i)), (8, .int (s (44 + 4 * i + 1))), (9, .int (nI 0))] [.int l]
                    exact absurd c110 (by decide)
                · skip
                  show G X 0 0 (mW (xT X) o a s S) 100 [(0, .ref o), (1, .int (nI xn)), (2, .int w), (3, .int l), (4, .int n), (5, .int m), (6, .int z), (7, .int (nI i)), (8, .int (s (44 + 4 * i + 1)))] []
                  refine g_iconst (v := nI 1) h dX5_firm_100 (by decide) ?_
                  refine g_goto h 105 dX5_firm_101 (by decide) ?_
                  refine g_istore (lv' := [(0, .ref o), (1, .int (nI xn)), (2, .int w), (3, .int l), (4, .int n), (5, .int m), (6, .int z), (7, .int (nI i)), (8, .int (s (44 + 4 * i + 1))), (9, .int (nI 1))]) h dX5_firm_105 (by decide) rfl ?_
                  refine g_iload_n h dX5_firm_107 rfl ?_
                  refine g_iload h dX5_firm_108 rfl ?_
                  refine g_if_eqN h 118 dX5_firm_110 (by decide) (by first | omega | decide) (fun c110 => ?_) (fun c110 => ?_)
                  · skip
                    show G X 0 0 (mW (xT X) o a s S) 118 [(0, .ref o), (1, .int (nI xn)), (2, .int w), (3, .int l), (4, .int n), (5, .int m), (6, .int z), (7, .int (nI i)), (8, .int (s (44 + 4 * i + 1))), (9, .int (nI 1))] [.int l]
                    exact absurd c110 (by decide)
                  · skip
                    show G X 0 0 (mW (xT X) o a s S) 113 [(0, .ref o), (1, .int (nI xn)), (2, .int w), (3, .int l), (4, .int n), (5, .int m), (6, .int z), (7, .int (nI i)), (8, .int (s (44 + 4 * i + 1))), (9, .int (nI 1))] [.int l]
                    refine g_iload h dX5_firm_113 rfl ?_
                    refine g_goto h 119 dX5_firm_115 (by decide) ?_
                    refine g_isub h dX5_firm_119 ?_
                    refine g_istore_n (lv' := [(0, .ref o), (1, .int (nI xn)), (2, .int w), (3, .int (l - (s (44 + 4 * i + 1)))), (4, .int n), (5, .int m), (6, .int z), (7, .int (nI i)), (8, .int (s (44 + 4 * i + 1))), (9, .int (nI 1))]) h dX5_firm_120 (by decide) rfl ?_
                    refine g_iload h dX5_firm_121 rfl ?_
                    refine g_iload h dX5_firm_123 rfl ?_
                    refine g_if_eqN h 132 dX5_firm_125 (by decide) (by first | omega | decide) (fun c125 => ?_) (fun c125 => ?_)
                    · skip
                      show G X 0 0 (mW (xT X) o a s S) 132 [(0, .ref o), (1, .int (nI xn)), (2, .int w), (3, .int (l - (s (44 + 4 * i + 1)))), (4, .int n), (5, .int m), (6, .int z), (7, .int (nI i)), (8, .int (s (44 + 4 * i + 1))), (9, .int (nI 1))] [.int n]
                      exact absurd c125 (by decide)
                    · skip
                      show G X 0 0 (mW (xT X) o a s S) 128 [(0, .ref o), (1, .int (nI xn)), (2, .int w), (3, .int (l - (s (44 + 4 * i + 1)))), (4, .int n), (5, .int m), (6, .int z), (7, .int (nI i)), (8, .int (s (44 + 4 * i + 1))), (9, .int (nI 1))] [.int n]
                      refine g_iconst (v := nI 1) h dX5_firm_128 (by decide) ?_
                      refine g_goto h 133 dX5_firm_129 (by decide) ?_
                      refine g_toI (y := 1) rfl ?_
                      refine g_iadd h dX5_firm_133 ?_
                      refine g_istore (lv' := [(0, .ref o), (1, .int (nI xn)), (2, .int w), (3, .int (l - (s (44 + 4 * i + 1)))), (4, .int (n + 1)), (5, .int m), (6, .int z), (7, .int (nI i)), (8, .int (s (44 + 4 * i + 1))), (9, .int (nI 1))]) h dX5_firm_134 (by decide) rfl ?_
                      refine g_iload h dX5_firm_136 rfl ?_
                      refine g_iload h dX5_firm_138 rfl ?_
                      refine g_if_eqN h 156 dX5_firm_140 (by decide) (by first | omega | decide) (fun c140 => ?_) (fun c140 => ?_)
                      · skip
                        show G X 0 0 (mW (xT X) o a s S) 156 [(0, .ref o), (1, .int (nI xn)), (2, .int w), (3, .int (l - (s (44 + 4 * i + 1)))), (4, .int (n + 1)), (5, .int m), (6, .int z), (7, .int (nI i)), (8, .int (s (44 + 4 * i + 1))), (9, .int (nI 1))] [.int m]
                        exact absurd c140 (by decide)
                      · skip
                        show G X 0 0 (mW (xT X) o a s S) 143 [(0, .ref o), (1, .int (nI xn)), (2, .int w), (3, .int (l - (s (44 + 4 * i + 1)))), (4, .int (n + 1)), (5, .int m), (6, .int z), (7, .int (nI i)), (8, .int (s (44 + 4 * i + 1))), (9, .int (nI 1))] [.int m]
                        refine g_aload_n h dX5_firm_143 rfl ?_
                        refine g_iload_n h dX5_firm_144 rfl ?_
                        refine g_iload h dX5_firm_145 rfl ?_
                        refine g_callVR h (m5_valueTo _ _ _ o a s S xn i (by first | assumption | omega) (by first | assumption | omega)) (fun _ q => q) 0 rfl rfl (lw_V q1487 q1489 qs44 q95 q1490) gy_X5_valueTo ⟨Nat.le_of_ble_eq_true rfl, Nat.le_of_ble_eq_true rfl⟩ ⟨Nat.le_of_ble_eq_true rfl, Nat.le_of_ble_eq_true rfl⟩ rfl rfl (Nat.le_of_ble_eq_true rfl) dX5_firm_147 ?_
                        refine g_iload h dX5_firm_150 rfl ?_
                        refine g_isub h dX5_firm_152 ?_
                        refine g_goto h 157 dX5_firm_153 (by decide) ?_
                        refine g_iadd h dX5_firm_157 ?_
                        refine g_istore (lv' := [(0, .ref o), (1, .int (nI xn)), (2, .int w), (3, .int (l - (s (44 + 4 * i + 1)))), (4, .int (n + 1)), (5, .int (m + ((val s xn i) - (s (44 + 4 * i + 1))))), (6, .int z), (7, .int (nI i)), (8, .int (s (44 + 4 * i + 1))), (9, .int (nI 1))]) h dX5_firm_158 (by decide) rfl ?_
                        refine g_iload h dX5_firm_160 rfl ?_
                        refine g_iload h dX5_firm_162 rfl ?_
                        refine g_if_eqN h 174 dX5_firm_164 (by decide) (by first | omega | decide) (fun c164 => ?_) (fun c164 => ?_)
                        · skip
                          show G X 0 0 (mW (xT X) o a s S) 174 [(0, .ref o), (1, .int (nI xn)), (2, .int w), (3, .int (l - (s (44 + 4 * i + 1)))), (4, .int (n + 1)), (5, .int (m + ((val s xn i) - (s (44 + 4 * i + 1))))), (6, .int z), (7, .int (nI i)), (8, .int (s (44 + 4 * i + 1))), (9, .int (nI 1))] [.int z]
                          exact absurd c164 (by decide)
                        · skip
                          show G X 0 0 (mW (xT X) o a s S) 167 [(0, .ref o), (1, .int (nI xn)), (2, .int w), (3, .int (l - (s (44 + 4 * i + 1)))), (4, .int (n + 1)), (5, .int (m + ((val s xn i) - (s (44 + 4 * i + 1))))), (6, .int z), (7, .int (nI i)), (8, .int (s (44 + 4 * i + 1))), (9, .int (nI 1))] [.int z]
                          refine g_iconst (v := nI 1) h dX5_firm_167 (by decide) ?_
                          refine g_iload h dX5_firm_168 rfl ?_
                          refine g_toI2 (y := 1) rfl ?_
                          refine g_ishl h dX5_firm_170 ?_
                          refine g_goto h 175 dX5_firm_171 (by decide) ?_
                          refine g_ior h dX5_firm_175 ?_
                          refine g_istore (lv' := [(0, .ref o), (1, .int (nI xn)), (2, .int w), (3, .int (l - (s (44 + 4 * i + 1)))), (4, .int (n + 1)), (5, .int (m + ((val s xn i) - (s (44 + 4 * i + 1))))), (6, .int (z ||| (1 <<< ((nI i) &&& 31)))), (7, .int (nI i)), (8, .int (s (44 + 4 * i + 1))), (9, .int (nI 1))]) h dX5_firm_176 (by decide) rfl ?_
                          refine g_iincN (b := 1) (lv' := [(0, .ref o), (1, .int (nI xn)), (2, .int w), (3, .int (l - (s (44 + 4 * i + 1)))), (4, .int (n + 1)), (5, .int (m + ((val s xn i) - (s (44 + 4 * i + 1))))), (6, .int (z ||| (1 <<< ((nI i) &&& 31)))), (7, .int (nI (i + 1))), (8, .int (s (44 + 4 * i + 1))), (9, .int (nI 1))]) h dX5_firm_178 rfl rfl (by decide) rfl ?_
                          refine g_goto h 42 dX5_firm_181 (by decide) ?_
                          refine g_lv (lv' := [(0, .ref o), (1, .int (nI xn)), (2, .int w), (3, .int (l - (s (44 + 4 * i + 1)))), (4, .int (n + 1)), (5, .int (m + ((val s xn i) - (s (44 + 4 * i + 1))))), (6, .int (z ||| (1 <<< ((nI i) &&& 31)))), (7, .int (nI (i + 1)))]) (lvle_cons rfl (lvle_cons rfl (lvle_cons rfl (lvle_cons rfl (lvle_cons rfl (lvle_cons rfl (lvle_cons rfl (lvle_cons rfl (lvle_nil))))))))) ?_
                          exact ih_lp (i + 1) (by omega) (by omega) () (l - (s (44 + 4 * i + 1))) (n + 1) (m + ((val s xn i) - (s (44 + 4 * i + 1)))) (z ||| (1 <<< ((nI i) &&& 31))) (by rw [fo_s, ← e0_lp]; simp [firmF, mayB, o_firm, er, LOW, sU_self, nI_pred, nv_nI, c5, vx, c14, c50, c69, c79, c91, c97, c110, c125, c140, c164])
      exact lp (0) (by omega) () (s (20 + 4 * xn + 1)) 0 0 0 rfl
    · skip
      show G X 0 0 (mW (xT X) o a s S) 17 [(0, .ref o), (1, .int (nI xn)), (2, .int w)] []
      refine g_aload_n h dX5_firm_17 rfl ?_
      refine g_iconst (v := nI 1) h dX5_firm_18 (by decide) ?_
      refine g_callVW0 h hE (m5_error _ _ _ o a s S 1 (by first | assumption | omega)) 0 rfl rfl (lw_V q1446 q1448 qs35 q95 q1449) gy_X5_error ⟨Nat.le_of_ble_eq_true rfl, Nat.le_of_ble_eq_true rfl⟩ ⟨Nat.le_of_ble_eq_true rfl, Nat.le_of_ble_eq_true rfl⟩ rfl rfl (Nat.le_of_ble_eq_true rfl) dX5_firm_19 (st' := [.int (LOW - nI 1)]) rfl (fun _ e19 => ?_)
      subst e19
      exact g_iretWv h hE dX5_firm_22 (by first | (simp [o_firm, er, LOW, sU_self, nI_pred, nv_nI, c5, vx, c14]; done) | (simp_all [o_firm, er, LOW, sU_self, nI_pred, nv_nI, c5, vx, c14]; done)) (mW_eq (by first | (simp [o_firm, er, LOW, sU_self, nI_pred, nv_nI, c5, vx, c14]; done) | (simp_all [o_firm, er, LOW, sU_self, nI_pred, nv_nI, c5, vx, c14]; done)) (by first | (simp [o_firm, er, LOW, sU_self, nI_pred, nv_nI, c5, vx, c14]; done) | (simp_all [o_firm, er, LOW, sU_self, nI_pred, nv_nI, c5, vx, c14]; done)))
set_option maxHeartbeats 4000000 in
set_option maxRecDepth 100000 in
theorem m5_lay_02 (l : Launch) (D : va_G) (T : Nat → ClassId) (o : Nat) (a : Nat → Nat) (s : Nat → Int32) (S : Nat → Nat → Int32) : MetW l D T yX5_lay cX5_lay 3 (none) 0 0 0 0 [.ref (a 0), .ref (a 2)] (mW T o a s S) (fun r_ w_ => r_ = none ∧ (w_ = mW T o a s (sU S 2 s))) := by
  refine metW (own := RX5) rfl (by decide) rfl (fun X h hl hDx hTx hnm hE => ?_)
  subst hl; subst hDx; subst hTx
  show G X 0 0 (mW (xT X) o a s S) 0 [(0, .ref (a 0)), (1, .ref (a 2))] []
  refine g_iconst (v := nI 0) h dX5_lay_0 (by decide) ?_
  refine g_istore_n (lv' := [(0, .ref (a 0)), (1, .ref (a 2)), (2, .int (nI 0))]) h dX5_lay_1 (by decide) rfl ?_
  have lp : ∀ i, i ≤ 516 → ∀ (_u : Unit) (Q : Nat → Int32), (∀ j, j < i → Q j = s j) → G X 0 0 (mW (xT X) o a s (sU S 2 Q)) 2 [(0, .ref (a 0)), (1, .ref (a 2)), (2, .int (nI i))] [] := by
    refine g_ind (N := 516) (fun i hi_i ih_lp => ?_)
    intro _u Q e0_lp
    refine g_iload_n h dX5_lay_2 rfl ?_
    refine g_sipush (v := nI 516) h dX5_lay_3 (by decide) ?_
    refine g_icmp_geN h 21 dX5_lay_6 (by decide) (by first | omega | decide) (by first | omega | decide) (fun c6 => ?_) (fun c6 => ?_)
    · skip
      show G X 0 0 (mW (xT X) o a s (sU S 2 Q)) 21 [(0, .ref (a 0)), (1, .ref (a 2)), (2, .int (nI i))] []
      refine g_mW (s' := s) (S' := sU S 2 s) (fun _ _ => rfl) (sU_row (n := 516) rfl (fun k hk => e0_lp k (by omega))) ?_
      exact g_vretWv h hE dX5_lay_21 (mW_eq rfl rfl)
    · skip
      show G X 0 0 (mW (xT X) o a s (sU S 2 Q)) 9 [(0, .ref (a 0)), (1, .ref (a 2)), (2, .int (nI i))] []
      refine g_aload_n h dX5_lay_9 rfl ?_
      refine g_iload_n h dX5_lay_10 rfl ?_
      refine g_aload_n h dX5_lay_11 rfl ?_
      refine g_iload_n h dX5_lay_12 rfl ?_
      refine g_iald h 1 rfl (by first | assumption | omega) (by decide) dX5_lay_13 ?_
      refine g_iast (ws' := mW (xT X) o a s (sU S 2 (upd Q i (s i)))) h hE.1 3 rfl (by first | assumption | omega) (by decide) dX5_lay_14 rfl ?_
      refine g_iincN (b := 1) (lv' := [(0, .ref (a 0)), (1, .ref (a 2)), (2, .int (nI (i + 1)))]) h dX5_lay_15 rfl rfl (by decide) rfl ?_
      refine g_goto h 2 dX5_lay_18 (by decide) ?_
      exact ih_lp (i + 1) (by omega) (by omega) () (upd Q i (s i)) (fun j hj => by unfold upd; by_cases e : j = i; rw [if_pos e, e]; rw [if_neg e]; exact e0_lp j (by omega))
  exact lp (0) (by omega) () (S 2) (fun j hj => absurd hj (by omega))
set_option maxHeartbeats 4000000 in
set_option maxRecDepth 100000 in
theorem m5_lay_20 (l : Launch) (D : va_G) (T : Nat → ClassId) (o : Nat) (a : Nat → Nat) (s : Nat → Int32) (S : Nat → Nat → Int32) : MetW l D T yX5_lay cX5_lay 3 (none) 0 0 0 0 [.ref (a 2), .ref (a 0)] (mW T o a s S) (fun r_ w_ => r_ = none ∧ (w_ = mW T o a (S 2) S)) := by
  refine metW (own := RX5) rfl (by decide) rfl (fun X h hl hDx hTx hnm hE => ?_)
  subst hl; subst hDx; subst hTx
  show G X 0 0 (mW (xT X) o a s S) 0 [(0, .ref (a 2)), (1, .ref (a 0))] []
  refine g_iconst (v := nI 0) h dX5_lay_0 (by decide) ?_
  refine g_istore_n (lv' := [(0, .ref (a 2)), (1, .ref (a 0)), (2, .int (nI 0))]) h dX5_lay_1 (by decide) rfl ?_
  have lp : ∀ i, i ≤ 516 → ∀ (_u : Unit) (Q : Nat → Int32), (∀ j, j < i → Q j = S 2 j) → G X 0 0 (mW (xT X) o a Q S) 2 [(0, .ref (a 2)), (1, .ref (a 0)), (2, .int (nI i))] [] := by
    refine g_ind (N := 516) (fun i hi_i ih_lp => ?_)
    intro _u Q e0_lp
    refine g_iload_n h dX5_lay_2 rfl ?_
    refine g_sipush (v := nI 516) h dX5_lay_3 (by decide) ?_
    refine g_icmp_geN h 21 dX5_lay_6 (by decide) (by first | omega | decide) (by first | omega | decide) (fun c6 => ?_) (fun c6 => ?_)
    · skip
      show G X 0 0 (mW (xT X) o a Q S) 21 [(0, .ref (a 2)), (1, .ref (a 0)), (2, .int (nI i))] []
      refine g_mW (s' := S 2) (S' := S) (fun k hk => e0_lp k (by omega)) (fun _ _ _ _ => rfl) ?_
      exact g_vretWv h hE dX5_lay_21 (mW_eq rfl rfl)
    · skip
      show G X 0 0 (mW (xT X) o a Q S) 9 [(0, .ref (a 2)), (1, .ref (a 0)), (2, .int (nI i))] []
      refine g_aload_n h dX5_lay_9 rfl ?_
      refine g_iload_n h dX5_lay_10 rfl ?_
      refine g_aload_n h dX5_lay_11 rfl ?_
      refine g_iload_n h dX5_lay_12 rfl ?_
      refine g_iald h 3 rfl (by first | assumption | omega) (by decide) dX5_lay_13 ?_
      refine g_toI (y := S 2 i) (show S 2 i = _ from rfl) ?_
      refine g_iast (ws' := mW (xT X) o a (upd Q i (S 2 i)) S) h hE.1 1 rfl (by first | assumption | omega) (by decide) dX5_lay_14 rfl ?_
      refine g_iincN (b := 1) (lv' := [(0, .ref (a 2)), (1, .ref (a 0)), (2, .int (nI (i + 1)))]) h dX5_lay_15 rfl rfl (by decide) rfl ?_
      refine g_goto h 2 dX5_lay_18 (by decide) ?_
      exact ih_lp (i + 1) (by omega) (by omega) () (upd Q i (S 2 i)) (fun j hj => by unfold upd; by_cases e : j = i; rw [if_pos e, e]; rw [if_neg e]; exact e0_lp j (by omega))
  exact lp (0) (by omega) () s (fun j hj => absurd hj (by omega))
set_option maxHeartbeats 4000000 in
set_option maxRecDepth 100000 in
theorem m5_lay_01 (l : Launch) (D : va_G) (T : Nat → ClassId) (o : Nat) (a : Nat → Nat) (s : Nat → Int32) (S : Nat → Nat → Int32) : MetW l D T yX5_lay cX5_lay 3 (none) 0 0 0 0 [.ref (a 0), .ref (a 1)] (mW T o a s S) (fun r_ w_ => r_ = none ∧ (w_ = mW T o a s (sU S 1 s))) := by
  refine metW (own := RX5) rfl (by decide) rfl (fun X h hl hDx hTx hnm hE => ?_)
  subst hl; subst hDx; subst hTx
  show G X 0 0 (mW (xT X) o a s S) 0 [(0, .ref (a 0)), (1, .ref (a 1))] []
  refine g_iconst (v := nI 0) h dX5_lay_0 (by decide) ?_
  refine g_istore_n (lv' := [(0, .ref (a 0)), (1, .ref (a 1)), (2, .int (nI 0))]) h dX5_lay_1 (by decide) rfl ?_
  have lp : ∀ i, i ≤ 516 → ∀ (_u : Unit) (Q : Nat → Int32), (∀ j, j < i → Q j = s j) → G X 0 0 (mW (xT X) o a s (sU S 1 Q)) 2 [(0, .ref (a 0)), (1, .ref (a 1)), (2, .int (nI i))] [] := by
    refine g_ind (N := 516) (fun i hi_i ih_lp => ?_)
    intro _u Q e0_lp
    refine g_iload_n h dX5_lay_2 rfl ?_
    refine g_sipush (v := nI 516) h dX5_lay_3 (by decide) ?_
    refine g_icmp_geN h 21 dX5_lay_6 (by decide) (by first | omega | decide) (by first | omega | decide) (fun c6 => ?_) (fun c6 => ?_)
    · skip
      show G X 0 0 (mW (xT X) o a s (sU S 1 Q)) 21 [(0, .ref (a 0)), (1, .ref (a 1)), (2, .int (nI i))] []
      refine g_mW (s' := s) (S' := sU S 1 s) (fun _ _ => rfl) (sU_row (n := 516) rfl (fun k hk => e0_lp k (by omega))) ?_
      exact g_vretWv h hE dX5_lay_21 (mW_eq rfl rfl)
    · skip
      show G X 0 0 (mW (xT X) o a s (sU S 1 Q)) 9 [(0, .ref (a 0)), (1, .ref (a 1)), (2, .int (nI i))] []
      refine g_aload_n h dX5_lay_9 rfl ?_
      refine g_iload_n h dX5_lay_10 rfl ?_
      refine g_aload_n h dX5_lay_11 rfl ?_
      refine g_iload_n h dX5_lay_12 rfl ?_
      refine g_iald h 1 rfl (by first | assumption | omega) (by decide) dX5_lay_13 ?_
      refine g_iast (ws' := mW (xT X) o a s (sU S 1 (upd Q i (s i)))) h hE.1 2 rfl (by first | assumption | omega) (by decide) dX5_lay_14 rfl ?_
      refine g_iincN (b := 1) (lv' := [(0, .ref (a 0)), (1, .ref (a 1)), (2, .int (nI (i + 1)))]) h dX5_lay_15 rfl rfl (by decide) rfl ?_
      refine g_goto h 2 dX5_lay_18 (by decide) ?_
      exact ih_lp (i + 1) (by omega) (by omega) () (upd Q i (s i)) (fun j hj => by unfold upd; by_cases e : j = i; rw [if_pos e, e]; rw [if_neg e]; exact e0_lp j (by omega))
  exact lp (0) (by omega) () (S 1) (fun j hj => absurd hj (by omega))
set_option maxHeartbeats 4000000 in
set_option maxRecDepth 100000 in
theorem m5_lay_10 (l : Launch) (D : va_G) (T : Nat → ClassId) (o : Nat) (a : Nat → Nat) (s : Nat → Int32) (S : Nat → Nat → Int32) : MetW l D T yX5_lay cX5_lay 3 (none) 0 0 0 0 [.ref (a 1), .ref (a 0)] (mW T o a s S) (fun r_ w_ => r_ = none ∧ (w_ = mW T o a (S 1) S)) := by
  refine metW (own := RX5) rfl (by decide) rfl (fun X h hl hDx hTx hnm hE => ?_)
  subst hl; subst hDx; subst hTx
  show G X 0 0 (mW (xT X) o a s S) 0 [(0, .ref (a 1)), (1, .ref (a 0))] []
  refine g_iconst (v := nI 0) h dX5_lay_0 (by decide) ?_
  refine g_istore_n (lv' := [(0, .ref (a 1)), (1, .ref (a 0)), (2, .int (nI 0))]) h dX5_lay_1 (by decide) rfl ?_
  have lp : ∀ i, i ≤ 516 → ∀ (_u : Unit) (Q : Nat → Int32), (∀ j, j < i → Q j = S 1 j) → G X 0 0 (mW (xT X) o a Q S) 2 [(0, .ref (a 1)), (1, .ref (a 0)), (2, .int (nI i))] [] := by
    refine g_ind (N := 516) (fun i hi_i ih_lp => ?_)
    intro _u Q e0_lp
    refine g_iload_n h dX5_lay_2 rfl ?_
    refine g_sipush (v := nI 516) h dX5_lay_3 (by decide) ?_
    refine g_icmp_geN h 21 dX5_lay_6 (by decide) (by first | omega | decide) (by first | omega | decide) (fun c6 => ?_) (fun c6 => ?_)
    · skip
      show G X 0 0 (mW (xT X) o a Q S) 21 [(0, .ref (a 1)), (1, .ref (a 0)), (2, .int (nI i))] []
      refine g_mW (s' := S 1) (S' := S) (fun k hk => e0_lp k (by omega)) (fun _ _ _ _ => rfl) ?_
      exact g_vretWv h hE dX5_lay_21 (mW_eq rfl rfl)
    · skip
      show G X 0 0 (mW (xT X) o a Q S) 9 [(0, .ref (a 1)), (1, .ref (a 0)), (2, .int (nI i))] []
      refine g_aload_n h dX5_lay_9 rfl ?_
      refine g_iload_n h dX5_lay_10 rfl ?_
      refine g_aload_n h dX5_lay_11 rfl ?_
      refine g_iload_n h dX5_lay_12 rfl ?_
      refine g_iald h 2 rfl (by first | assumption | omega) (by decide) dX5_lay_13 ?_
      refine g_toI (y := S 1 i) (show S 1 i = _ from rfl) ?_
      refine g_iast (ws' := mW (xT X) o a (upd Q i (S 1 i)) S) h hE.1 1 rfl (by first | assumption | omega) (by decide) dX5_lay_14 rfl ?_
      refine g_iincN (b := 1) (lv' := [(0, .ref (a 1)), (1, .ref (a 0)), (2, .int (nI (i + 1)))]) h dX5_lay_15 rfl rfl (by decide) rfl ?_
      refine g_goto h 2 dX5_lay_18 (by decide) ?_
      exact ih_lp (i + 1) (by omega) (by omega) () (upd Q i (S 1 i)) (fun j hj => by unfold upd; by_cases e : j = i; rw [if_pos e, e]; rw [if_neg e]; exact e0_lp j (by omega))
  exact lp (0) (by omega) () s (fun j hj => absurd hj (by omega))
set_option maxHeartbeats 4000000 in
set_option maxRecDepth 100000 in
theorem m5_then (l : Launch) (D : va_G) (T : Nat → ClassId) (o : Nat) (a : Nat → Nat) (s : Nat → Int32) (S : Nat → Nat → Int32) (n : Int32) (w : Int32) (h0 : Inv s) : MetW l D T yX5_then cX5_then 4 (some .int) 11 259 0 0 [.ref o, .int n, .int w] (mW T o a s S) (fun r_ w_ => r_ = some (.int ((o_then s (S 3) n w).1)) ∧ (∃ (M : Nat → Int32) (N : Nat → Int32) (P : Nat → Int32), w_ = mW T o a ((o_then s (S 3) n w).2.1) (sU (scr (sU S 2 M) N P) 3 (o_then s (S 3) n w).2.2))) := by
  refine metW (own := RX5) rfl (by decide) rfl (fun X h hl hDx hTx hnm hE => ?_)
  subst hl; subst hDx; subst hTx
  have hnp := h0.npl; have hnt := h0.ntl; have hnq := h0.nql
  show G X 0 0 (mW (xT X) o a s S) 0 [(0, .ref o), (1, .int n), (2, .int w)] []
  refine g_iload_n h dX5_then_0 rfl ?_
  refine g_iconst (v := nI 0) h dX5_then_1 (by decide) ?_
  refine g_bipush (v := nI 40) h dX5_then_2 (by decide) ?_
  refine g_callSR h (m5_in _ _ _ n 0 40 ) (fun _ q => nomatch q) (lw_S q1439 q1440 q95 q1441) gy_X5_in ⟨Nat.le_of_ble_eq_true rfl, Nat.le_of_ble_eq_true rfl⟩ ⟨Nat.le_of_ble_eq_true rfl, Nat.le_of_ble_eq_true rfl⟩ rfl rfl (Nat.le_of_ble_eq_true rfl) dX5_then_4 ?_
  refine g_if_eqB h 20 dX5_then_7 (by decide) (fun c7 => ?_) (fun c7 => ?_)
  · skip
    show G X 0 0 (mW (xT X) o a s S) 20 [(0, .ref o), (1, .int n), (2, .int w)] []
    refine g_aload_n h dX5_then_20 rfl ?_
    refine g_iconst (v := nI 1) h dX5_then_21 (by decide) ?_
    refine g_callVW0 h hE (m5_error _ _ _ o a s S 1 (by first | assumption | omega)) 0 rfl rfl (lw_V q1446 q1448 qs35 q95 q1449) gy_X5_error ⟨Nat.le_of_ble_eq_true rfl, Nat.le_of_ble_eq_true rfl⟩ ⟨Nat.le_of_ble_eq_true rfl, Nat.le_of_ble_eq_true rfl⟩ rfl rfl (Nat.le_of_ble_eq_true rfl) dX5_then_22 (st' := [.int (LOW - nI 1)]) rfl (fun _ e22 => ?_)
    subst e22
    exact g_iretWv h hE dX5_then_25 (by first | (simp [o_then, er, LOW, sU_self, nI_pred, nv_nI, c7]; done) | (simp_all [o_then, er, LOW, sU_self, nI_pred, nv_nI, c7]; done)) (⟨S 2, S 5, S 6, mW_eq (by first | (simp [o_then, er, LOW, sU_self, nI_pred, nv_nI, c7]; done) | (simp_all [o_then, er, LOW, sU_self, nI_pred, nv_nI, c7]; done)) (by first | (simp [o_then, er, LOW, sU_self, nI_pred, nv_nI, c7, scr3, scr_self, sU_self, scr32, scr2self]; done) | (simp_all [o_then, er, LOW, sU_self, nI_pred, nv_nI, c7, scr3, scr_self, sU_self, scr32, scr2self]; done))⟩)
  · skip
    show G X 0 0 (mW (xT X) o a s S) 10 [(0, .ref o), (1, .int n), (2, .int w)] []
    obtain ⟨nn, hn, rfl⟩ := inB_of (n := 40) (by decide) c7
    have vn : nv (nI nn) = nn := nv_nI (by omega)
    refine g_iload_n h dX5_then_10 rfl ?_
    refine g_iconst (v := nI 0) h dX5_then_11 (by decide) ?_
    refine g_bipush (v := nI 6) h dX5_then_12 (by decide) ?_
    refine g_callSR h (m5_in _ _ _ w 0 6 ) (fun _ q => nomatch q) (lw_S q1439 q1440 q95 q1441) gy_X5_in ⟨Nat.le_of_ble_eq_true rfl, Nat.le_of_ble_eq_true rfl⟩ ⟨Nat.le_of_ble_eq_true rfl, Nat.le_of_ble_eq_true rfl⟩ rfl rfl (Nat.le_of_ble_eq_true rfl) dX5_then_14 ?_
    refine g_if_neB h 26 dX5_then_17 (by decide) (fun c17 => ?_) (fun c17 => ?_)
    · skip
      show G X 0 0 (mW (xT X) o a s S) 26 [(0, .ref o), (1, .int (nI nn)), (2, .int w)] []
      have ky := yearN_kp h0 nn; have hyi := ky.1; have hyt := ky.2.2.1
      refine g_aload_n h dX5_then_26 rfl ?_
      refine g_get h in_X5 0 rfl rfl 0 rfl q1374 rfl rfl dX5_then_27 ?_
      refine g_aload_n h dX5_then_30 rfl ?_
      refine g_get h in_X5 0 rfl rfl 2 rfl q1376 rfl rfl dX5_then_31 ?_
      refine g_callSW0 h hE (m5_lay_02 _ _ _ o a s S ) (lw_S q1754 q1755 q95 q1756) gy_X5_lay ⟨Nat.le_of_ble_eq_true rfl, Nat.le_of_ble_eq_true rfl⟩ ⟨Nat.le_of_ble_eq_true rfl, Nat.le_of_ble_eq_true rfl⟩ rfl rfl (Nat.le_of_ble_eq_true rfl) dX5_then_34 (st' := []) rfl (fun _ e34 => ?_)
      subst e34
      refine g_aload_n h dX5_then_37 rfl ?_
      refine g_iload_n h dX5_then_38 rfl ?_
      refine g_callVW0 h hE (m5_go _ _ _ o a s (sU S 2 s) nn h0 (by first | assumption | omega)) 0 rfl rfl (lw_V q1673 q1675 qs70 q95 q1676) gy_X5_go ⟨Nat.le_of_ble_eq_true rfl, Nat.le_of_ble_eq_true rfl⟩ ⟨Nat.le_of_ble_eq_true rfl, Nat.le_of_ble_eq_true rfl⟩ rfl rfl (Nat.le_of_ble_eq_true rfl) dX5_then_39 (st' := []) rfl (fun _ e39 => ?_)
      obtain ⟨N_39, P_39, rfl⟩ := e39
      refine g_aload_n h dX5_then_42 rfl ?_
      refine g_iload_n h dX5_then_43 rfl ?_
      refine g_callVR h (m5_townOf _ _ _ o a (yearN nn s) (scr (sU S 2 s) N_39 P_39) w hyi) (fun _ q => q) 0 rfl rfl (lw_V q1738 q1740 qs79 q95 q1741) gy_X5_townOf ⟨Nat.le_of_ble_eq_true rfl, Nat.le_of_ble_eq_true rfl⟩ ⟨Nat.le_of_ble_eq_true rfl, Nat.le_of_ble_eq_true rfl⟩ rfl rfl (Nat.le_of_ble_eq_true rfl) dX5_then_44 ?_
      refine g_istore_n (lv' := [(0, .ref o), (1, .int (nI nn)), (2, .int w), (3, .int (townV (yearN nn s) w))]) h dX5_then_47 (by decide) rfl ?_
      refine g_aload_n h dX5_then_48 rfl ?_
      refine g_get h in_X5 0 rfl rfl 2 rfl q1376 rfl rfl dX5_then_49 ?_
      refine g_aload_n h dX5_then_52 rfl ?_
      refine g_get h in_X5 0 rfl rfl 0 rfl q1374 rfl rfl dX5_then_53 ?_
      refine g_callSW0 h hE (m5_lay_20 _ _ _ o a (yearN nn s) (scr (sU S 2 s) N_39 P_39) ) (lw_S q1754 q1755 q95 q1756) gy_X5_lay ⟨Nat.le_of_ble_eq_true rfl, Nat.le_of_ble_eq_true rfl⟩ ⟨Nat.le_of_ble_eq_true rfl, Nat.le_of_ble_eq_true rfl⟩ rfl rfl (Nat.le_of_ble_eq_true rfl) dX5_then_56 (st' := []) rfl (fun _ e56 => ?_)
      subst e56
      show G X 0 0 (mW (xT X) o a s (scr (sU S 2 s) N_39 P_39)) 59 [(0, .ref o), (1, .int (nI nn)), (2, .int w), (3, .int (townV (yearN nn s) w))] []
      refine g_iload_n h dX5_then_59 rfl ?_
      exact g_iretWv h hE dX5_then_60 (by simp [o_then, er, LOW, sU_self, nI_pred, nv_nI, c7, vn, c17]) (⟨s, N_39, P_39, mW_eq (by first | (simp [o_then, er, LOW, sU_self, nI_pred, nv_nI, c7, vn, c17]; done) | (simp_all [o_then, er, LOW, sU_self, nI_pred, nv_nI, c7, vn, c17]; done)) (by first | (simp [o_then, er, LOW, sU_self, nI_pred, nv_nI, c7, vn, c17, scr3, scr_self, sU_self, scr32, scr2self]; done) | (simp_all [o_then, er, LOW, sU_self, nI_pred, nv_nI, c7, vn, c17, scr3, scr_self, sU_self, scr32, scr2self]; done))⟩)
    · skip
      show G X 0 0 (mW (xT X) o a s S) 20 [(0, .ref o), (1, .int (nI nn)), (2, .int w)] []
      refine g_aload_n h dX5_then_20 rfl ?_
      refine g_iconst (v := nI 1) h dX5_then_21 (by decide) ?_
      refine g_callVW0 h hE (m5_error _ _ _ o a s S 1 (by first | assumption | omega)) 0 rfl rfl (lw_V q1446 q1448 qs35 q95 q1449) gy_X5_error ⟨Nat.le_of_ble_eq_true rfl, Nat.le_of_ble_eq_true rfl⟩ ⟨Nat.le_of_ble_eq_true rfl, Nat.le_of_ble_eq_true rfl⟩ rfl rfl (Nat.le_of_ble_eq_true rfl) dX5_then_22 (st' := [.int (LOW - nI 1)]) rfl (fun _ e22 => ?_)
      subst e22
      exact g_iretWv h hE dX5_then_25 (by first | (simp [o_then, er, LOW, sU_self, nI_pred, nv_nI, c7, vn, c17]; done) | (simp_all [o_then, er, LOW, sU_self, nI_pred, nv_nI, c7, vn, c17]; done)) (⟨S 2, S 5, S 6, mW_eq (by first | (simp [o_then, er, LOW, sU_self, nI_pred, nv_nI, c7, vn, c17]; done) | (simp_all [o_then, er, LOW, sU_self, nI_pred, nv_nI, c7, vn, c17]; done)) (by first | (simp [o_then, er, LOW, sU_self, nI_pred, nv_nI, c7, vn, c17, scr3, scr_self, sU_self, scr32, scr2self]; done) | (simp_all [o_then, er, LOW, sU_self, nI_pred, nv_nI, c7, vn, c17, scr3, scr_self, sU_self, scr32, scr2self]; done))⟩)
set_option maxHeartbeats 4000000 in
set_option maxRecDepth 100000 in
theorem m5_whose (l : Launch) (D : va_G) (T : Nat → ClassId) (o : Nat) (a : Nat → Nat) (s : Nat → Int32) (S : Nat → Nat → Int32) (n : Int32) (x : Int32) (h0 : Inv s) : MetW l D T yX5_whose cX5_whose 4 (some .int) 11 259 0 0 [.ref o, .int n, .int x] (mW T o a s S) (fun r_ w_ => r_ = some (.int ((o_whose s (S 3) n x).1)) ∧ (∃ (M : Nat → Int32) (N : Nat → Int32) (P : Nat → Int32), w_ = mW T o a ((o_whose s (S 3) n x).2.1) (sU (scr (sU S 2 M) N P) 3 (o_whose s (S 3) n x).2.2))) := by
  refine metW (own := RX5) rfl (by decide) rfl (fun X h hl hDx hTx hnm hE => ?_)
  subst hl; subst hDx; subst hTx
  have hnp := h0.npl; have hnt := h0.ntl; have hnq := h0.nql
  show G X 0 0 (mW (xT X) o a s S) 0 [(0, .ref o), (1, .int n), (2, .int x)] []
  refine g_iload_n h dX5_whose_0 rfl ?_
  refine g_iconst (v := nI 0) h dX5_whose_1 (by decide) ?_
  refine g_bipush (v := nI 40) h dX5_whose_2 (by decide) ?_
  refine g_callSR h (m5_in _ _ _ n 0 40 ) (fun _ q => nomatch q) (lw_S q1439 q1440 q95 q1441) gy_X5_in ⟨Nat.le_of_ble_eq_true rfl, Nat.le_of_ble_eq_true rfl⟩ ⟨Nat.le_of_ble_eq_true rfl, Nat.le_of_ble_eq_true rfl⟩ rfl rfl (Nat.le_of_ble_eq_true rfl) dX5_whose_4 ?_
  refine g_if_eqB h 18 dX5_whose_7 (by decide) (fun c7 => ?_) (fun c7 => ?_)
  · skip
    show G X 0 0 (mW (xT X) o a s S) 18 [(0, .ref o), (1, .int n), (2, .int x)] []
    refine g_aload_n h dX5_whose_18 rfl ?_
    refine g_iconst (v := nI 1) h dX5_whose_19 (by decide) ?_
    refine g_callVW0 h hE (m5_error _ _ _ o a s S 1 (by first | assumption | omega)) 0 rfl rfl (lw_V q1446 q1448 qs35 q95 q1449) gy_X5_error ⟨Nat.le_of_ble_eq_true rfl, Nat.le_of_ble_eq_true rfl⟩ ⟨Nat.le_of_ble_eq_true rfl, Nat.le_of_ble_eq_true rfl⟩ rfl rfl (Nat.le_of_ble_eq_true rfl) dX5_whose_20 (st' := [.int (LOW - nI 1)]) rfl (fun _ e20 => ?_)
    subst e20
    exact g_iretWv h hE dX5_whose_23 (by first | (simp [o_whose, er, LOW, sU_self, nI_pred, nv_nI, c7]; done) | (simp_all [o_whose, er, LOW, sU_self, nI_pred, nv_nI, c7]; done)) (⟨S 2, S 5, S 6, mW_eq (by first | (simp [o_whose, er, LOW, sU_self, nI_pred, nv_nI, c7]; done) | (simp_all [o_whose, er, LOW, sU_self, nI_pred, nv_nI, c7]; done)) (by first | (simp [o_whose, er, LOW, sU_self, nI_pred, nv_nI, c7, scr3, scr_self, sU_self, scr32, scr2self]; done) | (simp_all [o_whose, er, LOW, sU_self, nI_pred, nv_nI, c7, scr3, scr_self, sU_self, scr32, scr2self]; done))⟩)
  · skip
    show G X 0 0 (mW (xT X) o a s S) 10 [(0, .ref o), (1, .int n), (2, .int x)] []
    obtain ⟨nn, hn, rfl⟩ := inB_of (n := 40) (by decide) c7
    have vn : nv (nI nn) = nn := nv_nI (by omega)
    refine g_aload_n h dX5_whose_10 rfl ?_
    refine g_iload_n h dX5_whose_11 rfl ?_
    refine g_callVR h (m5_isThing _ _ _ o a s S x ) (fun _ q => q) 0 rfl rfl (lw_V q1514 q1516 qs45 q95 q1517) gy_X5_isThing ⟨Nat.le_of_ble_eq_true rfl, Nat.le_of_ble_eq_true rfl⟩ ⟨Nat.le_of_ble_eq_true rfl, Nat.le_of_ble_eq_true rfl⟩ rfl rfl (Nat.le_of_ble_eq_true rfl) dX5_whose_12 ?_
    refine g_if_neB h 24 dX5_whose_15 (by decide) (fun c15 => ?_) (fun c15 => ?_)
    · skip
      show G X 0 0 (mW (xT X) o a s S) 24 [(0, .ref o), (1, .int (nI nn)), (2, .int x)] []
      obtain ⟨xn, hx, rfl⟩ := isT_of h0 c15
      have vx : nv (nI xn) = xn := nv_nI (by omega)
      have ky := yearN_kp h0 nn; have hyi := ky.1; have hyt := ky.2.2.1
      refine g_aload_n h dX5_whose_24 rfl ?_
      refine g_get h in_X5 0 rfl rfl 0 rfl q1374 rfl rfl dX5_whose_25 ?_
      refine g_aload_n h dX5_whose_28 rfl ?_
      refine g_get h in_X5 0 rfl rfl 2 rfl q1376 rfl rfl dX5_whose_29 ?_
      refine g_callSW0 h hE (m5_lay_02 _ _ _ o a s S ) (lw_S q1754 q1755 q95 q1756) gy_X5_lay ⟨Nat.le_of_ble_eq_true rfl, Nat.le_of_ble_eq_true rfl⟩ ⟨Nat.le_of_ble_eq_true rfl, Nat.le_of_ble_eq_true rfl⟩ rfl rfl (Nat.le_of_ble_eq_true rfl) dX5_whose_32 (st' := []) rfl (fun _ e32 => ?_)
      subst e32
      refine g_aload_n h dX5_whose_35 rfl ?_
      refine g_iload_n h dX5_whose_36 rfl ?_
      refine g_callVW0 h hE (m5_go _ _ _ o a s (sU S 2 s) nn h0 (by first | assumption | omega)) 0 rfl rfl (lw_V q1673 q1675 qs70 q95 q1676) gy_X5_go ⟨Nat.le_of_ble_eq_true rfl, Nat.le_of_ble_eq_true rfl⟩ ⟨Nat.le_of_ble_eq_true rfl, Nat.le_of_ble_eq_true rfl⟩ rfl rfl (Nat.le_of_ble_eq_true rfl) dX5_whose_37 (st' := []) rfl (fun _ e37 => ?_)
      obtain ⟨N_37, P_37, rfl⟩ := e37
      refine g_aload_n h dX5_whose_40 rfl ?_
      refine g_iload_n h dX5_whose_41 rfl ?_
      refine g_callVR h (m5_owner _ _ _ o a (yearN nn s) (scr (sU S 2 s) N_37 P_37) xn (by first | assumption | omega)) (fun _ q => q) 0 rfl rfl (lw_V q1475 q1477 qs41 q95 q1478) gy_X5_owner ⟨Nat.le_of_ble_eq_true rfl, Nat.le_of_ble_eq_true rfl⟩ ⟨Nat.le_of_ble_eq_true rfl, Nat.le_of_ble_eq_true rfl⟩ rfl rfl (Nat.le_of_ble_eq_true rfl) dX5_whose_42 ?_
      refine g_istore_n (lv' := [(0, .ref o), (1, .int (nI nn)), (2, .int (nI xn)), (3, .int ((yearN nn s) (44 + 4 * xn)))]) h dX5_whose_45 (by decide) rfl ?_
      refine g_aload_n h dX5_whose_46 rfl ?_
      refine g_get h in_X5 0 rfl rfl 2 rfl q1376 rfl rfl dX5_whose_47 ?_
      refine g_aload_n h dX5_whose_50 rfl ?_
      refine g_get h in_X5 0 rfl rfl 0 rfl q1374 rfl rfl dX5_whose_51 ?_
      refine g_callSW0 h hE (m5_lay_20 _ _ _ o a (yearN nn s) (scr (sU S 2 s) N_37 P_37) ) (lw_S q1754 q1755 q95 q1756) gy_X5_lay ⟨Nat.le_of_ble_eq_true rfl, Nat.le_of_ble_eq_true rfl⟩ ⟨Nat.le_of_ble_eq_true rfl, Nat.le_of_ble_eq_true rfl⟩ rfl rfl (Nat.le_of_ble_eq_true rfl) dX5_whose_54 (st' := []) rfl (fun _ e54 => ?_)
      subst e54
      show G X 0 0 (mW (xT X) o a s (scr (sU S 2 s) N_37 P_37)) 57 [(0, .ref o), (1, .int (nI nn)), (2, .int (nI xn)), (3, .int ((yearN nn s) (44 + 4 * xn)))] []
      refine g_iload_n h dX5_whose_57 rfl ?_
      exact g_iretWv h hE dX5_whose_58 (by first | (simp [o_whose, er, LOW, sU_self, nI_pred, nv_nI, c7, vn, c15, vx]; done) | (simp_all [o_whose, er, LOW, sU_self, nI_pred, nv_nI, c7, vn, c15, vx]; done)) (⟨s, N_37, P_37, mW_eq (by first | (simp [o_whose, er, LOW, sU_self, nI_pred, nv_nI, c7, vn, c15, vx]; done) | (simp_all [o_whose, er, LOW, sU_self, nI_pred, nv_nI, c7, vn, c15, vx]; done)) (by first | (simp [o_whose, er, LOW, sU_self, nI_pred, nv_nI, c7, vn, c15, vx, scr3, scr_self, sU_self, scr32, scr2self]; done) | (simp_all [o_whose, er, LOW, sU_self, nI_pred, nv_nI, c7, vn, c15, vx, scr3, scr_self, sU_self, scr32, scr2self]; done))⟩)
    · skip
      show G X 0 0 (mW (xT X) o a s S) 18 [(0, .ref o), (1, .int (nI nn)), (2, .int x)] []
      refine g_aload_n h dX5_whose_18 rfl ?_
      refine g_iconst (v := nI 1) h dX5_whose_19 (by decide) ?_
      refine g_callVW0 h hE (m5_error _ _ _ o a s S 1 (by first | assumption | omega)) 0 rfl rfl (lw_V q1446 q1448 qs35 q95 q1449) gy_X5_error ⟨Nat.le_of_ble_eq_true rfl, Nat.le_of_ble_eq_true rfl⟩ ⟨Nat.le_of_ble_eq_true rfl, Nat.le_of_ble_eq_true rfl⟩ rfl rfl (Nat.le_of_ble_eq_true rfl) dX5_whose_20 (st' := [.int (LOW - nI 1)]) rfl (fun _ e20 => ?_)
      subst e20
      exact g_iretWv h hE dX5_whose_23 (by first | (simp [o_whose, er, LOW, sU_self, nI_pred, nv_nI, c7, vn, c15]; done) | (simp_all [o_whose, er, LOW, sU_self, nI_pred, nv_nI, c7, vn, c15]; done)) (⟨S 2, S 5, S 6, mW_eq (by first | (simp [o_whose, er, LOW, sU_self, nI_pred, nv_nI, c7, vn, c15]; done) | (simp_all [o_whose, er, LOW, sU_self, nI_pred, nv_nI, c7, vn, c15]; done)) (by first | (simp [o_whose, er, LOW, sU_self, nI_pred, nv_nI, c7, vn, c15, scr3, scr_self, sU_self, scr32, scr2self]; done) | (simp_all [o_whose, er, LOW, sU_self, nI_pred, nv_nI, c7, vn, c15, scr3, scr_self, sU_self, scr32, scr2self]; done))⟩)
set_option maxHeartbeats 4000000 in
set_option maxRecDepth 100000 in
theorem m5_part (l : Launch) (D : va_G) (T : Nat → ClassId) (o : Nat) (a : Nat → Nat) (s : Nat → Int32) (S : Nat → Nat → Int32) (n : Int32) (h0 : Inv s) : MetW l D T yX5_part cX5_part 6 (some .int) 11 259 0 0 [.ref o, .int n] (mW T o a s S) (fun r_ w_ => r_ = some (.int ((o_part s (S 3) n).1)) ∧ (∃ (M : Nat → Int32) (N : Nat → Int32) (P : Nat → Int32), w_ = mW T o a ((o_part s (S 3) n).2.1) (sU (scr (sU S 2 M) N P) 3 (o_part s (S 3) n).2.2))) := by
  refine metW (own := RX5) rfl (by decide) rfl (fun X h hl hDx hTx hnm hE => ?_)
  subst hl; subst hDx; subst hTx
  have hnp := h0.npl; have hnt := h0.ntl; have hnq := h0.nql
  show G X 0 0 (mW (xT X) o a s S) 0 [(0, .ref o), (1, .int n)] []
  refine g_iload_n h dX5_part_0 rfl ?_
  refine g_iconst (v := nI 0) h dX5_part_1 (by decide) ?_
  refine g_bipush (v := nI 40) h dX5_part_2 (by decide) ?_
  refine g_callSR h (m5_in _ _ _ n 0 40 ) (fun _ q => nomatch q) (lw_S q1439 q1440 q95 q1441) gy_X5_in ⟨Nat.le_of_ble_eq_true rfl, Nat.le_of_ble_eq_true rfl⟩ ⟨Nat.le_of_ble_eq_true rfl, Nat.le_of_ble_eq_true rfl⟩ rfl rfl (Nat.le_of_ble_eq_true rfl) dX5_part_4 ?_
  refine g_if_neB h 16 dX5_part_7 (by decide) (fun c7 => ?_) (fun c7 => ?_)
  · skip
    show G X 0 0 (mW (xT X) o a s S) 16 [(0, .ref o), (1, .int n)] []
    obtain ⟨nn, hn, rfl⟩ := inB_of (n := 40) (by decide) c7
    have vn : nv (nI nn) = nn := nv_nI (by omega)
    refine g_aload_n h dX5_part_16 rfl ?_
    refine g_get h in_X5 0 rfl rfl 0 rfl q1374 rfl rfl dX5_part_17 ?_
    refine g_aload_n h dX5_part_20 rfl ?_
    refine g_get h in_X5 0 rfl rfl 2 rfl q1376 rfl rfl dX5_part_21 ?_
    refine g_callSW0 h hE (m5_lay_02 _ _ _ o a s S ) (lw_S q1754 q1755 q95 q1756) gy_X5_lay ⟨Nat.le_of_ble_eq_true rfl, Nat.le_of_ble_eq_true rfl⟩ ⟨Nat.le_of_ble_eq_true rfl, Nat.le_of_ble_eq_true rfl⟩ rfl rfl (Nat.le_of_ble_eq_true rfl) dX5_part_24 (st' := []) rfl (fun _ e24 => ?_)
    subst e24
    refine g_iconst (v := -1) h dX5_part_27 (by decide) ?_
    refine g_istore_n (lv' := [(0, .ref o), (1, .int (nI nn)), (2, .int (-1))]) h dX5_part_28 (by decide) rfl ?_
    refine g_iconst (v := nI 0) h dX5_part_29 (by decide) ?_
    refine g_istore_n (lv' := [(0, .ref o), (1, .int (nI nn)), (2, .int (-1)), (3, .int (nI 0))]) h dX5_part_30 (by decide) rfl ?_
    refine g_iconst (v := nI 0) h dX5_part_31 (by decide) ?_
    refine g_istore (lv' := [(0, .ref o), (1, .int (nI nn)), (2, .int (-1)), (3, .int (nI 0)), (4, .int (nI 0))]) h dX5_part_32 (by decide) rfl ?_
    have lp : ∀ i, i ≤ 31 → ∀ (_u : Unit) (b : Int32) (m : Int32) (N1 : Nat → Int32) (P1 : Nat → Int32), ((b, m) = fo i (partF s nn) (-1, 0)) → G X 0 0 (mW (xT X) o a s (scr (sU S 2 s) N1 P1)) 34 [(0, .ref o), (1, .int (nI nn)), (2, .int b), (3, .int m), (4, .int (nI i))] [] := by
      refine g_ind (N := 31) (fun i hi_i ih_lp => ?_)
      intro _u b m N1 P1 e0_lp
      refine g_iload h dX5_part_34 rfl ?_
      refine g_bipush (v := nI 30) h dX5_part_36 (by decide) ?_
      refine g_icmp_gtN h 109 dX5_part_38 (by decide) (by first | omega | decide) (by first | omega | decide) (fun c38 => ?_) (fun c38 => ?_)
      · skip
        show G X 0 0 (mW (xT X) o a s (scr (sU S 2 s) N1 P1)) 109 [(0, .ref o), (1, .int (nI nn)), (2, .int b), (3, .int m), (4, .int (nI i))] []
        refine g_iload_n h dX5_part_109 rfl ?_
        exact g_iretWv h hE dX5_part_110 (by have e : (b, m) = fo 31 (partF s nn) (-1, 0) := (by rw [e0_lp, show i = 31 by omega]); simp [o_part, c7, vn, ← e]) (⟨s, N1, P1, mW_eq (by first | (simp [o_part, er, LOW, sU_self, nI_pred, nv_nI, c7, vn, c38]; done) | (simp_all [o_part, er, LOW, sU_self, nI_pred, nv_nI, c7, vn, c38]; done)) (by first | (simp [o_part, er, LOW, sU_self, nI_pred, nv_nI, c7, vn, c38, scr3, scr_self, sU_self, scr32, scr2self]; done) | (simp_all [o_part, er, LOW, sU_self, nI_pred, nv_nI, c7, vn, c38, scr3, scr_self, sU_self, scr32, scr2self]; done))⟩)
      · skip
        show G X 0 0 (mW (xT X) o a s (scr (sU S 2 s) N1 P1)) 41 [(0, .ref o), (1, .int (nI nn)), (2, .int b), (3, .int m), (4, .int (nI i))] []
        have kr : Kp s (upd s 10 (nI i)) := h0.rule (i0 := 0) (fun _ => rg_nI (by omega) (by decide)) (fun z => absurd z (by decide)) (fun z => absurd z (by decide)) (fun z => absurd z (by decide)) (fun z => absurd z (by decide)) (by decide)
        have hkr := kr.1; have ky := yearN_kp hkr nn; have hky := ky.1
        refine g_aload_n h dX5_part_41 rfl ?_
        refine g_get h in_X5 0 rfl rfl 0 rfl q1374 rfl rfl dX5_part_42 ?_
        refine g_bipush (v := nI 10) h dX5_part_45 (by decide) ?_
        refine g_iload h dX5_part_47 rfl ?_
        refine g_iast (ws' := mW (xT X) o a (upd s 10 (nI i)) (scr (sU S 2 s) N1 P1)) h hE.1 1 rfl (by first | assumption | omega) (by decide) dX5_part_49 rfl ?_
        refine g_aload_n h dX5_part_50 rfl ?_
        refine g_iload_n h dX5_part_51 rfl ?_
        refine g_callVW0 h hE (m5_go _ _ _ o a (upd s 10 (nI i)) (scr (sU S 2 s) N1 P1) nn hkr (by first | assumption | omega)) 0 rfl rfl (lw_V q1673 q1675 qs70 q95 q1676) gy_X5_go ⟨Nat.le_of_ble_eq_true rfl, Nat.le_of_ble_eq_true rfl⟩ ⟨Nat.le_of_ble_eq_true rfl, Nat.le_of_ble_eq_true rfl⟩ rfl rfl (Nat.le_of_ble_eq_true rfl) dX5_part_52 (st' := []) rfl (fun _ e52 => ?_)
        obtain ⟨N_52, P_52, rfl⟩ := e52
        rw [scr_scr]
        refine g_aload_n h dX5_part_55 rfl ?_
        refine g_iconst (v := nI 0) h dX5_part_56 (by decide) ?_
        refine g_callVR h (m5_townOf _ _ _ o a (yearN nn (upd s 10 (nI i))) (scr (sU S 2 s) N_52 P_52) 0 hky) (fun _ q => q) 0 rfl rfl (lw_V q1738 q1740 qs79 q95 q1741) gy_X5_townOf ⟨Nat.le_of_ble_eq_true rfl, Nat.le_of_ble_eq_true rfl⟩ ⟨Nat.le_of_ble_eq_true rfl, Nat.le_of_ble_eq_true rfl⟩ rfl rfl (Nat.le_of_ble_eq_true rfl) dX5_part_57 ?_
        refine g_istore (lv' := [(0, .ref o), (1, .int (nI nn)), (2, .int b), (3, .int m), (4, .int (nI i)), (5, .int (townV (yearN nn (upd s 10 (nI i))) 0))]) h dX5_part_60 (by decide) rfl ?_
        refine g_aload_n h dX5_part_62 rfl ?_
        refine g_get h in_X5 0 rfl rfl 2 rfl q1376 rfl rfl dX5_part_63 ?_
        refine g_aload_n h dX5_part_66 rfl ?_
        refine g_get h in_X5 0 rfl rfl 0 rfl q1374 rfl rfl dX5_part_67 ?_
        refine g_callSW0 h hE (m5_lay_20 _ _ _ o a (yearN nn (upd s 10 (nI i))) (scr (sU S 2 s) N_52 P_52) ) (lw_S q1754 q1755 q95 q1756) gy_X5_lay ⟨Nat.le_of_ble_eq_true rfl, Nat.le_of_ble_eq_true rfl⟩ ⟨Nat.le_of_ble_eq_true rfl, Nat.le_of_ble_eq_true rfl⟩ rfl rfl (Nat.le_of_ble_eq_true rfl) dX5_part_70 (st' := []) rfl (fun _ e70 => ?_)
        subst e70
        show G X 0 0 (mW (xT X) o a s (scr (sU S 2 s) N_52 P_52)) 73 [(0, .ref o), (1, .int (nI nn)), (2, .int b), (3, .int m), (4, .int (nI i)), (5, .int (townV (yearN nn (upd s 10 (nI i))) 0))] []
        refine g_iload_n h dX5_part_73 rfl ?_
        refine g_if_lt h 83 dX5_part_74 (by decide) (fun c74 => ?_) (fun c74 => ?_)
        · skip
          show G X 0 0 (mW (xT X) o a s (scr (sU S 2 s) N_52 P_52)) 83 [(0, .ref o), (1, .int (nI nn)), (2, .int b), (3, .int m), (4, .int (nI i)), (5, .int (townV (yearN nn (upd s 10 (nI i))) 0))] []
          refine g_iload h dX5_part_83 rfl ?_
          refine g_goto h 89 dX5_part_85 (by decide) ?_
          refine g_istore_n (lv' := [(0, .ref o), (1, .int (nI nn)), (2, .int (nI i)), (3, .int m), (4, .int (nI i)), (5, .int (townV (yearN nn (upd s 10 (nI i))) 0))]) h dX5_part_89 (by decide) rfl ?_
          refine g_iload_n h dX5_part_90 rfl ?_
          refine g_iload h dX5_part_91 rfl ?_
          refine g_icmp_neN h 101 dX5_part_93 (by decide) (by first | omega | decide) (by first | omega | decide) (fun c93 => ?_) (fun c93 => ?_)
          · skip
            show G X 0 0 (mW (xT X) o a s (scr (sU S 2 s) N_52 P_52)) 101 [(0, .ref o), (1, .int (nI nn)), (2, .int (nI i)), (3, .int m), (4, .int (nI i)), (5, .int (townV (yearN nn (upd s 10 (nI i))) 0))] []
            exact absurd rfl c93
          · skip
            show G X 0 0 (mW (xT X) o a s (scr (sU S 2 s) N_52 P_52)) 96 [(0, .ref o), (1, .int (nI nn)), (2, .int (nI i)), (3, .int m), (4, .int (nI i)), (5, .int (townV (yearN nn (upd s 10 (nI i))) 0))] []
            refine g_iload h dX5_part_96 rfl ?_
            refine g_goto h 102 dX5_part_98 (by decide) ?_
            refine g_istore_n (lv' := [(0, .ref o), (1, .int (nI nn)), (2, .int (nI i)), (3, .int (townV (yearN nn (upd s 10 (nI i))) 0)), (4, .int (nI i)), (5, .int (townV (yearN nn (upd s 10 (nI i))) 0))]) h dX5_part_102 (by decide) rfl ?_
            refine g_iincN (b := 1) (lv' := [(0, .ref o), (1, .int (nI nn)), (2, .int (nI i)), (3, .int (townV (yearN nn (upd s 10 (nI i))) 0)), (4, .int (nI (i + 1))), (5, .int (townV (yearN nn (upd s 10 (nI i))) 0))]) h dX5_part_103 rfl rfl (by decide) rfl ?_
            refine g_goto h 34 dX5_part_106 (by decide) ?_
            refine g_lv (lv' := [(0, .ref o), (1, .int (nI nn)), (2, .int (nI i)), (3, .int (townV (yearN nn (upd s 10 (nI i))) 0)), (4, .int (nI (i + 1)))]) (lvle_cons rfl (lvle_cons rfl (lvle_cons rfl (lvle_cons rfl (lvle_cons rfl (lvle_nil)))))) ?_
            exact ih_lp (i + 1) (by omega) (by omega) () (nI i) (townV (yearN nn (upd s 10 (nI i))) 0) N_52 P_52 (by rw [fo_s, ← e0_lp]; simp [partF, o_part, er, LOW, sU_self, nI_pred, nv_nI, c7, vn, c38, c74, c93])
        · skip
          show G X 0 0 (mW (xT X) o a s (scr (sU S 2 s) N_52 P_52)) 77 [(0, .ref o), (1, .int (nI nn)), (2, .int b), (3, .int m), (4, .int (nI i)), (5, .int (townV (yearN nn (upd s 10 (nI i))) 0))] []
          refine g_iload h dX5_part_77 rfl ?_
          refine g_iload_n h dX5_part_79 rfl ?_
          refine g_icmp_leC h 88 dX5_part_80 (by decide) (fun c80 => ?_) (fun c80 => ?_)
          · skip
            show G X 0 0 (mW (xT X) o a s (scr (sU S 2 s) N_52 P_52)) 88 [(0, .ref o), (1, .int (nI nn)), (2, .int b), (3, .int m), (4, .int (nI i)), (5, .int (townV (yearN nn (upd s 10 (nI i))) 0))] []
            refine g_iload_n h dX5_part_88 rfl ?_
            refine g_istore_n (lv' := [(0, .ref o), (1, .int (nI nn)), (2, .int b), (3, .int m), (4, .int (nI i)), (5, .int (townV (yearN nn (upd s 10 (nI i))) 0))]) h dX5_part_89 (by decide) rfl ?_
            refine g_iload_n h dX5_part_90 rfl ?_
            refine g_iload h dX5_part_91 rfl ?_
            refine g_icmp_ne h 101 dX5_part_93 (by decide) (fun c93 => ?_) (fun c93 => ?_)
            · skip
              show G X 0 0 (mW (xT X) o a s (scr (sU S 2 s) N_52 P_52)) 101 [(0, .ref o), (1, .int (nI nn)), (2, .int b), (3, .int m), (4, .int (nI i)), (5, .int (townV (yearN nn (upd s 10 (nI i))) 0))] []
              refine g_iload_n h dX5_part_101 rfl ?_
              refine g_istore_n (lv' := [(0, .ref o), (1, .int (nI nn)), (2, .int b), (3, .int m), (4, .int (nI i)), (5, .int (townV (yearN nn (upd s 10 (nI i))) 0))]) h dX5_part_102 (by decide) rfl ?_
              refine g_iincN (b := 1) (lv' := [(0, .ref o), (1, .int (nI nn)), (2, .int b), (3, .int m), (4, .int (nI (i + 1))), (5, .int (townV (yearN nn (upd s 10 (nI i))) 0))]) h dX5_part_103 rfl rfl (by decide) rfl ?_
              refine g_goto h 34 dX5_part_106 (by decide) ?_
              refine g_lv (lv' := [(0, .ref o), (1, .int (nI nn)), (2, .int b), (3, .int m), (4, .int (nI (i + 1)))]) (lvle_cons rfl (lvle_cons rfl (lvle_cons rfl (lvle_cons rfl (lvle_cons rfl (lvle_nil)))))) ?_
              exact ih_lp (i + 1) (by omega) (by omega) () b m N_52 P_52 (by rw [fo_s, ← e0_lp]; simp [partF, o_part, er, LOW, sU_self, nI_pred, nv_nI, c7, vn, c38, c74, c80, c93])
            · skip
              show G X 0 0 (mW (xT X) o a s (scr (sU S 2 s) N_52 P_52)) 96 [(0, .ref o), (1, .int (nI nn)), (2, .int b), (3, .int m), (4, .int (nI i)), (5, .int (townV (yearN nn (upd s 10 (nI i))) 0))] []
              refine g_iload h dX5_part_96 rfl ?_
              refine g_goto h 102 dX5_part_98 (by decide) ?_
              refine g_istore_n (lv' := [(0, .ref o), (1, .int (nI nn)), (2, .int b), (3, .int (townV (yearN nn (upd s 10 (nI i))) 0)), (4, .int (nI i)), (5, .int (townV (yearN nn (upd s 10 (nI i))) 0))]) h dX5_part_102 (by decide) rfl ?_
              refine g_iincN (b := 1) (lv' := [(0, .ref o), (1, .int (nI nn)), (2, .int b), (3, .int (townV (yearN nn (upd s 10 (nI i))) 0)), (4, .int (nI (i + 1))), (5, .int (townV (yearN nn (upd s 10 (nI i))) 0))]) h dX5_part_103 rfl rfl (by decide) rfl ?_
              refine g_goto h 34 dX5_part_106 (by decide) ?_
              refine g_lv (lv' := [(0, .ref o), (1, .int (nI nn)), (2, .int b), (3, .int (townV (yearN nn (upd s 10 (nI i))) 0)), (4, .int (nI (i + 1)))]) (lvle_cons rfl (lvle_cons rfl (lvle_cons rfl (lvle_cons rfl (lvle_cons rfl (lvle_nil)))))) ?_
              exact ih_lp (i + 1) (by omega) (by omega) () b (townV (yearN nn (upd s 10 (nI i))) 0) N_52 P_52 (by rw [fo_s, ← e0_lp]; simp [partF, o_part, er, LOW, sU_self, nI_pred, nv_nI, c7, vn, c38, c74, c80, c93])
          · skip
            show G X 0 0 (mW (xT X) o a s (scr (sU S 2 s) N_52 P_52)) 83 [(0, .ref o), (1, .int (nI nn)), (2, .int b), (3, .int m), (4, .int (nI i)), (5, .int (townV (yearN nn (upd s 10 (nI i))) 0))] []
            refine g_iload h dX5_part_83 rfl ?_
            refine g_goto h 89 dX5_part_85 (by decide) ?_
            refine g_istore_n (lv' := [(0, .ref o), (1, .int (nI nn)), (2, .int (nI i)), (3, .int m), (4, .int (nI i)), (5, .int (townV (yearN nn (upd s 10 (nI i))) 0))]) h dX5_part_89 (by decide) rfl ?_
            refine g_iload_n h dX5_part_90 rfl ?_
            refine g_iload h dX5_part_91 rfl ?_
            refine g_icmp_neN h 101 dX5_part_93 (by decide) (by first | omega | decide) (by first | omega | decide) (fun c93 => ?_) (fun c93 => ?_)
            · skip
              show G X 0 0 (mW (xT X) o a s (scr (sU S 2 s) N_52 P_52)) 101 [(0, .ref o), (1, .int (nI nn)), (2, .int (nI i)), (3, .int m), (4, .int (nI i)), (5, .int (townV (yearN nn (upd s 10 (nI i))) 0))] []
              exact absurd rfl c93
            · skip
              show G X 0 0 (mW (xT X) o a s (scr (sU S 2 s) N_52 P_52)) 96 [(0, .ref o), (1, .int (nI nn)), (2, .int (nI i)), (3, .int m), (4, .int (nI i)), (5, .int (townV (yearN nn (upd s 10 (nI i))) 0))] []
              refine g_iload h dX5_part_96 rfl ?_
              refine g_goto h 102 dX5_part_98 (by decide) ?_
              refine g_istore_n (lv' := [(0, .ref o), (1, .int (nI nn)), (2, .int (nI i)), (3, .int (townV (yearN nn (upd s 10 (nI i))) 0)), (4, .int (nI i)), (5, .int (townV (yearN nn (upd s 10 (nI i))) 0))]) h dX5_part_102 (by decide) rfl ?_
              refine g_iincN (b := 1) (lv' := [(0, .ref o), (1, .int (nI nn)), (2, .int (nI i)), (3, .int (townV (yearN nn (upd s 10 (nI i))) 0)), (4, .int (nI (i + 1))), (5, .int (townV (yearN nn (upd s 10 (nI i))) 0))]) h dX5_part_103 rfl rfl (by decide) rfl ?_
              refine g_goto h 34 dX5_part_106 (by decide) ?_
              refine g_lv (lv' := [(0, .ref o), (1, .int (nI nn)), (2, .int (nI i)), (3, .int (townV (yearN nn (upd s 10 (nI i))) 0)), (4, .int (nI (i + 1)))]) (lvle_cons rfl (lvle_cons rfl (lvle_cons rfl (lvle_cons rfl (lvle_cons rfl (lvle_nil)))))) ?_
              exact ih_lp (i + 1) (by omega) (by omega) () (nI i) (townV (yearN nn (upd s 10 (nI i))) 0) N_52 P_52 (by rw [fo_s, ← e0_lp]; simp [partF, o_part, er, LOW, sU_self, nI_pred, nv_nI, c7, vn, c38, c74, c80, c93])
    exact lp (0) (by omega) () (-1) 0 (S 5) (S 6) rfl
  · skip
    show G X 0 0 (mW (xT X) o a s S) 10 [(0, .ref o), (1, .int n)] []
    refine g_aload_n h dX5_part_10 rfl ?_
    refine g_iconst (v := nI 1) h dX5_part_11 (by decide) ?_
    refine g_callVW0 h hE (m5_error _ _ _ o a s S 1 (by first | assumption | omega)) 0 rfl rfl (lw_V q1446 q1448 qs35 q95 q1449) gy_X5_error ⟨Nat.le_of_ble_eq_true rfl, Nat.le_of_ble_eq_true rfl⟩ ⟨Nat.le_of_ble_eq_true rfl, Nat.le_of_ble_eq_true rfl⟩ rfl rfl (Nat.le_of_ble_eq_true rfl) dX5_part_12 (st' := [.int (LOW - nI 1)]) rfl (fun _ e12 => ?_)
    subst e12
    exact g_iretWv h hE dX5_part_15 (by first | (simp [o_part, er, LOW, sU_self, nI_pred, nv_nI, c7]; done) | (simp_all [o_part, er, LOW, sU_self, nI_pred, nv_nI, c7]; done)) (⟨S 2, S 5, S 6, mW_eq (by first | (simp [o_part, er, LOW, sU_self, nI_pred, nv_nI, c7]; done) | (simp_all [o_part, er, LOW, sU_self, nI_pred, nv_nI, c7]; done)) (by first | (simp [o_part, er, LOW, sU_self, nI_pred, nv_nI, c7, scr3, scr_self, sU_self, scr32, scr2self]; done) | (simp_all [o_part, er, LOW, sU_self, nI_pred, nv_nI, c7, scr3, scr_self, sU_self, scr32, scr2self]; done))⟩)
