
theorem gy_X5_namedBy : gY yX5_namedBy RX5 1 := ⟨rfl, by decide +kernel, by decide +kernel, by decide +kernel⟩
set_option maxHeartbeats 4000000 in
set_option maxRecDepth 100000 in
theorem m5_namedBy (l : Launch) (D : va_G) (T : Nat → ClassId) (o : Nat) (a : Nat → Nat) (s : Nat → Int32) (S : Nat → Nat → Int32) (t : Nat) (h0 : Inv s) (h1 : t < nT s) : MetW l D T yX5_namedBy cX5_namedBy 4 (some .int) 7 172 0 0 [.ref o, .int (nI t)] (mW T o a s S) (fun r_ w_ => r_ = some (.int (nameB s t)) ∧ (∃ (N : Nat → Int32) (P : Nat → Int32), w_ = mW T o a s (scr S N P))) := by
  refine metW (own := RX5) rfl (by decide) rfl (fun X h hl hDx hTx hnm hE => ?_)
  subst hl; subst hDx; subst hTx
  have hnp := h0.npl; have hnt := h0.ntl; have hnq := h0.nql
  have how := h0.owlE h1
  show G X 0 0 (mW (xT X) o a s S) 0 [(0, .ref o), (1, .int (nI t))] []
  refine g_aload_n h dX5_namedBy_0 rfl ?_
  refine g_iload_n h dX5_namedBy_1 rfl ?_
  refine g_callVR h (m5_owner _ _ _ o a s S t (by first | assumption | omega)) (fun _ q => q) 0 rfl rfl (lw_V q1475 q1477 qs41 q95 q1478) gy_X5_owner ⟨Nat.le_of_ble_eq_true rfl, Nat.le_of_ble_eq_true rfl⟩ ⟨Nat.le_of_ble_eq_true rfl, Nat.le_of_ble_eq_true rfl⟩ rfl rfl (Nat.le_of_ble_eq_true rfl) dX5_namedBy_2 ?_
  refine g_toN (a := owr s t) (h0.owE h1) ?_
  refine g_istore_n (lv' := [(0, .ref o), (1, .int (nI t)), (2, .int (nI (owr s t)))]) h dX5_namedBy_5 (by decide) rfl ?_
  refine g_aload_n h dX5_namedBy_6 rfl ?_
  refine g_iload_n h dX5_namedBy_7 rfl ?_
  refine g_iload_n h dX5_namedBy_8 rfl ?_
  refine g_callVR h (m5_valueTo _ _ _ o a s S (owr s t) t (by first | assumption | omega) (by first | assumption | omega)) (fun _ q => q) 0 rfl rfl (lw_V q1487 q1489 qs44 q95 q1490) gy_X5_valueTo ⟨Nat.le_of_ble_eq_true rfl, Nat.le_of_ble_eq_true rfl⟩ ⟨Nat.le_of_ble_eq_true rfl, Nat.le_of_ble_eq_true rfl⟩ rfl rfl (Nat.le_of_ble_eq_true rfl) dX5_namedBy_9 ?_
  refine g_istore_n (lv' := [(0, .ref o), (1, .int (nI t)), (2, .int (nI (owr s t))), (3, .int (val s (owr s t) t))]) h dX5_namedBy_12 (by decide) rfl ?_
  refine g_aload_n h dX5_namedBy_13 rfl ?_
  refine g_iload_n h dX5_namedBy_14 rfl ?_
  refine g_iconst (v := nI 0) h dX5_namedBy_15 (by decide) ?_
  refine g_callVR h (m5_who _ _ _ o a s S (owr s t) 0 (by first | assumption | omega)) (fun _ q => q) 0 rfl rfl (lw_V q1459 q1461 qs37 q95 q1462) gy_X5_who ⟨Nat.le_of_ble_eq_true rfl, Nat.le_of_ble_eq_true rfl⟩ ⟨Nat.le_of_ble_eq_true rfl, Nat.le_of_ble_eq_true rfl⟩ rfl rfl (Nat.le_of_ble_eq_true rfl) dX5_namedBy_16 ?_
  show G X 0 0 (mW (xT X) o a s S) 19 [(0, .ref o), (1, .int (nI t)), (2, .int (nI (owr s t))), (3, .int (val s (owr s t) t))] [.int (s (20 + 4 * (owr s t)))]
  rcases g_sw (s (20 + 4 * (owr s t))) 1 6 with c19 | ⟨j19, hj19, e19⟩
  · skip
    have d19_1 : ¬ (s (20 + 4 * (owr s t))) = 1 := fun z => absurd c19 (by rw [z]; decide)
    have d19_2 : ¬ (s (20 + 4 * (owr s t))) = 2 := fun z => absurd c19 (by rw [z]; decide)
    have d19_3 : ¬ (s (20 + 4 * (owr s t))) = 3 := fun z => absurd c19 (by rw [z]; decide)
    have d19_4 : ¬ (s (20 + 4 * (owr s t))) = 4 := fun z => absurd c19 (by rw [z]; decide)
    have d19_5 : ¬ (s (20 + 4 * (owr s t))) = 5 := fun z => absurd c19 (by rw [z]; decide)
    have d19_6 : ¬ (s (20 + 4 * (owr s t))) = 6 := fun z => absurd c19 (by rw [z]; decide)
    refine g_tableOut h 156 dX5_namedBy_19 (by omega) (by decide) ?_
    show G X 0 0 (mW (xT X) o a s S) 156 [(0, .ref o), (1, .int (nI t)), (2, .int (nI (owr s t))), (3, .int (val s (owr s t) t))] []
    refine g_aload_n h dX5_namedBy_156 rfl ?_
    refine g_iload_n h dX5_namedBy_157 rfl ?_
    refine g_iconst (v := nI 1) h dX5_namedBy_158 (by decide) ?_
    refine g_callVR h (m5_its _ _ _ o a s S t 1 (by first | assumption | omega)) (fun _ q => q) 0 rfl rfl (lw_V q1479 q1481 qs42 q95 q1482) gy_X5_its ⟨Nat.le_of_ble_eq_true rfl, Nat.le_of_ble_eq_true rfl⟩ ⟨Nat.le_of_ble_eq_true rfl, Nat.le_of_ble_eq_true rfl⟩ rfl rfl (Nat.le_of_ble_eq_true rfl) dX5_namedBy_159 ?_
    exact g_iretWv h hE dX5_namedBy_162 (by first | (simp [nameB, d19_1, d19_2, d19_3, d19_4, d19_5, d19_6]; done) | (simp_all [nameB, d19_1, d19_2, d19_3, d19_4, d19_5, d19_6]; done)) (mW_scr rfl)
  · skip
    rcases (show j19 = 0 ∨ j19 = 1 ∨ j19 = 2 ∨ j19 = 3 ∨ j19 = 4 ∨ j19 = 5 by omega) with rfl | rfl | rfl | rfl | rfl | rfl
    · skip
      have e19 : (s (20 + 4 * (owr s t))) = 1 := i32_of e19 (by decide)
      refine g_tableIn h 56 dX5_namedBy_19 1 (by rw [e19]; decide) (by decide) (by decide) rfl (by decide) ?_
      show G X 0 0 (mW (xT X) o a s S) 56 [(0, .ref o), (1, .int (nI t)), (2, .int (nI (owr s t))), (3, .int (val s (owr s t) t))] []
      refine g_iload_n h dX5_namedBy_56 rfl ?_
      exact g_iretWv h hE dX5_namedBy_57 (by first | (simp [nameB, e19]; done) | (simp_all [nameB, e19]; done)) (mW_scr rfl)
    · skip
      have e19 : (s (20 + 4 * (owr s t))) = 2 := i32_of e19 (by decide)
      refine g_tableIn h 58 dX5_namedBy_19 2 (by rw [e19]; decide) (by decide) (by decide) rfl (by decide) ?_
      show G X 0 0 (mW (xT X) o a s S) 58 [(0, .ref o), (1, .int (nI t)), (2, .int (nI (owr s t))), (3, .int (val s (owr s t) t))] []
      refine g_iconst (v := nI 2) h dX5_namedBy_58 (by decide) ?_
      refine g_iload_n h dX5_namedBy_59 rfl ?_
      refine g_toI2 (y := 2) rfl ?_
      refine g_imul h dX5_namedBy_60 ?_
      exact g_iretWv h hE dX5_namedBy_61 (by first | (simp [nameB, e19]; done) | (simp_all [nameB, e19]; done)) (mW_scr rfl)
    · skip
      have e19 : (s (20 + 4 * (owr s t))) = 3 := i32_of e19 (by decide)
      refine g_tableIn h 62 dX5_namedBy_19 3 (by rw [e19]; decide) (by decide) (by decide) rfl (by decide) ?_
      show G X 0 0 (mW (xT X) o a s S) 62 [(0, .ref o), (1, .int (nI t)), (2, .int (nI (owr s t))), (3, .int (val s (owr s t) t))] []
      refine g_iload_n h dX5_namedBy_62 rfl ?_
      refine g_iconst (v := nI 2) h dX5_namedBy_63 (by decide) ?_
      refine g_toI (y := 2) rfl ?_
      refine g_idiv h dX5_namedBy_64 (by decide) ?_
      exact g_iretWv h hE dX5_namedBy_65 (by first | (simp [nameB, e19]; done) | (simp_all [nameB, e19]; done)) (mW_scr rfl)
    · skip
      have e19 : (s (20 + 4 * (owr s t))) = 4 := i32_of e19 (by decide)
      refine g_tableIn h 66 dX5_namedBy_19 4 (by rw [e19]; decide) (by decide) (by decide) rfl (by decide) ?_
      show G X 0 0 (mW (xT X) o a s S) 66 [(0, .ref o), (1, .int (nI t)), (2, .int (nI (owr s t))), (3, .int (val s (owr s t) t))] []
      refine g_aload_n h dX5_namedBy_66 rfl ?_
      refine g_iload_n h dX5_namedBy_67 rfl ?_
      refine g_callVR h (m5_greatestElse _ _ _ o a s S t h0 (by first | assumption | omega)) (fun _ q => q) 0 rfl rfl (lw_V q1622 q1624 qs61 q95 q1625) gy_X5_greatestElse ⟨Nat.le_of_ble_eq_true rfl, Nat.le_of_ble_eq_true rfl⟩ ⟨Nat.le_of_ble_eq_true rfl, Nat.le_of_ble_eq_true rfl⟩ rfl rfl (Nat.le_of_ble_eq_true rfl) dX5_namedBy_68 ?_
      refine g_iconst (v := nI 1) h dX5_namedBy_71 (by decide) ?_
      refine g_toI (y := 1) rfl ?_
      refine g_isub h dX5_namedBy_72 ?_
      exact g_iretWv h hE dX5_namedBy_73 (by first | (simp [nameB, e19]; done) | (simp_all [nameB, e19]; done)) (mW_scr rfl)
    · skip
      have e19 : (s (20 + 4 * (owr s t))) = 5 := i32_of e19 (by decide)
      refine g_tableIn h 74 dX5_namedBy_19 5 (by rw [e19]; decide) (by decide) (by decide) rfl (by decide) ?_
      show G X 0 0 (mW (xT X) o a s S) 74 [(0, .ref o), (1, .int (nI t)), (2, .int (nI (owr s t))), (3, .int (val s (owr s t) t))] []
      refine g_aload_n h dX5_namedBy_74 rfl ?_
      refine g_iconst (v := nI 0) h dX5_namedBy_75 (by decide) ?_
      refine g_callVR h (m5_hasText _ _ _ o a s S 0 (by first | assumption | omega)) (fun _ q => q) 0 rfl rfl (lw_V q1606 q1608 qs58 q95 q1609) gy_X5_hasText ⟨Nat.le_of_ble_eq_true rfl, Nat.le_of_ble_eq_true rfl⟩ ⟨Nat.le_of_ble_eq_true rfl, Nat.le_of_ble_eq_true rfl⟩ rfl rfl (Nat.le_of_ble_eq_true rfl) dX5_namedBy_76 ?_
      refine g_if_neB h 84 dX5_namedBy_79 (by decide) (fun c79 => ?_) (fun c79 => ?_)
      · skip
        show G X 0 0 (mW (xT X) o a s S) 84 [(0, .ref o), (1, .int (nI t)), (2, .int (nI (owr s t))), (3, .int (val s (owr s t) t))] []
        have ht := hasT_of (u := 0) c79
        refine g_aload_n h dX5_namedBy_84 rfl ?_
        refine g_get h in_X5 0 rfl rfl 10 rfl q1384 rfl rfl dX5_namedBy_85 ?_
        refine g_bipush (v := nI 118) h dX5_namedBy_88 (by decide) ?_
        refine g_iload_n h dX5_namedBy_90 rfl ?_
        refine g_iast (ws' := mW (xT X) o a s (sU S 5 (upd (S 5) 118 (val s (owr s t) t)))) h hE.1 6 rfl (by first | assumption | omega) (by decide) dX5_namedBy_91 rfl ?_
        refine g_aload_n h dX5_namedBy_92 rfl ?_
        refine g_get h in_X5 0 rfl rfl 10 rfl q1384 rfl rfl dX5_namedBy_93 ?_
        refine g_bipush (v := nI 109) h dX5_namedBy_96 (by decide) ?_
        refine g_aload_n h dX5_namedBy_98 rfl ?_
        refine g_iload_n h dX5_namedBy_99 rfl ?_
        refine g_callVR h (m5_greatestElse _ _ _ o a s (sU S 5 (upd (S 5) 118 (val s (owr s t) t))) t h0 (by first | assumption | omega)) (fun _ q => q) 0 rfl rfl (lw_V q1622 q1624 qs61 q95 q1625) gy_X5_greatestElse ⟨Nat.le_of_ble_eq_true rfl, Nat.le_of_ble_eq_true rfl⟩ ⟨Nat.le_of_ble_eq_true rfl, Nat.le_of_ble_eq_true rfl⟩ rfl rfl (Nat.le_of_ble_eq_true rfl) dX5_namedBy_100 ?_
        refine g_iast (ws' := mW (xT X) o a s (sU S 5 (upd (upd (S 5) 118 (val s (owr s t) t)) 109 (els s t)))) h hE.1 6 rfl (by first | assumption | omega) (by decide) dX5_namedBy_103 rfl ?_
        refine g_aload_n h dX5_namedBy_104 rfl ?_
        refine g_get h in_X5 0 rfl rfl 10 rfl q1384 rfl rfl dX5_namedBy_105 ?_
        refine g_bipush (v := nI 112) h dX5_namedBy_108 (by decide) ?_
        refine g_aload_n h dX5_namedBy_110 rfl ?_
        refine g_iload_n h dX5_namedBy_111 rfl ?_
        refine g_iconst (v := nI 1) h dX5_namedBy_112 (by decide) ?_
        refine g_callVR h (m5_its _ _ _ o a s (sU S 5 (upd (upd (S 5) 118 (val s (owr s t) t)) 109 (els s t))) t 1 (by first | assumption | omega)) (fun _ q => q) 0 rfl rfl (lw_V q1479 q1481 qs42 q95 q1482) gy_X5_its ⟨Nat.le_of_ble_eq_true rfl, Nat.le_of_ble_eq_true rfl⟩ ⟨Nat.le_of_ble_eq_true rfl, Nat.le_of_ble_eq_true rfl⟩ rfl rfl (Nat.le_of_ble_eq_true rfl) dX5_namedBy_113 ?_
        refine g_iast (ws' := mW (xT X) o a s (sU S 5 (upd (upd (upd (S 5) 118 (val s (owr s t) t)) 109 (els s t)) 112 (s (44 + 4 * t + 1))))) h hE.1 6 rfl (by first | assumption | omega) (by decide) dX5_namedBy_116 rfl ?_
        refine g_aload_n h dX5_namedBy_117 rfl ?_
        refine g_get h in_X5 0 rfl rfl 10 rfl q1384 rfl rfl dX5_namedBy_118 ?_
        refine g_bipush (v := nI 114) h dX5_namedBy_121 (by decide) ?_
        refine g_aload_n h dX5_namedBy_123 rfl ?_
        refine g_get h in_X5 0 rfl rfl 0 rfl q1374 rfl rfl dX5_namedBy_124 ?_
        refine g_bipush (v := nI 10) h dX5_namedBy_127 (by decide) ?_
        refine g_iald h 1 rfl (by first | assumption | omega) (by decide) dX5_namedBy_129 ?_
        refine g_iast (ws' := mW (xT X) o a s (sU S 5 (upd (upd (upd (upd (S 5) 118 (val s (owr s t) t)) 109 (els s t)) 112 (s (44 + 4 * t + 1))) 114 (s 10)))) h hE.1 6 rfl (by first | assumption | omega) (by decide) dX5_namedBy_130 rfl ?_
        refine g_aload_n h dX5_namedBy_131 rfl ?_
        refine g_get h in_X5 0 rfl rfl 10 rfl q1384 rfl rfl dX5_namedBy_132 ?_
        refine g_bipush (v := nI 121) h dX5_namedBy_135 (by decide) ?_
        refine g_aload_n h dX5_namedBy_137 rfl ?_
        refine g_get h in_X5 0 rfl rfl 0 rfl q1374 rfl rfl dX5_namedBy_138 ?_
        refine g_iconst (v := nI 3) h dX5_namedBy_141 (by decide) ?_
        refine g_iald h 1 rfl (by first | assumption | omega) (by decide) dX5_namedBy_142 ?_
        refine g_iast (ws' := mW (xT X) o a s (sU S 5 (upd (upd (upd (upd (upd (S 5) 118 (val s (owr s t) t)) 109 (els s t)) 112 (s (44 + 4 * t + 1))) 114 (s 10)) 121 (s 3)))) h hE.1 6 rfl (by first | assumption | omega) (by decide) dX5_namedBy_143 rfl ?_
        refine g_aload_n h dX5_namedBy_144 rfl ?_
        refine g_iconst (v := nI 0) h dX5_namedBy_145 (by decide) ?_
        refine g_callVW0 h hE (m5_worked _ _ _ o a s (sU S 5 (upd (upd (upd (upd (upd (S 5) 118 (val s (owr s t) t)) 109 (els s t)) 112 (s (44 + 4 * t + 1))) 114 (s 10)) 121 (s 3))) 0 (nm0 s t) (by first | assumption | omega) h0.tx0 ht (nm0_ok s t (S 5))) 0 rfl rfl (lw_V q1626 q1628 qs62 q95 q1629) gy_X5_worked ⟨Nat.le_of_ble_eq_true rfl, Nat.le_of_ble_eq_true rfl⟩ ⟨Nat.le_of_ble_eq_true rfl, Nat.le_of_ble_eq_true rfl⟩ rfl rfl (Nat.le_of_ble_eq_true rfl) dX5_namedBy_146 (st' := [.int (wkV (nm0 s t) s (182))]) rfl (fun _ e146 => ?_)
        obtain ⟨P_146, rfl⟩ := e146
        show G X 0 0 (mW (xT X) o a s (sU (sU S 5 (upd (upd (upd (upd (upd (S 5) 118 (val s (owr s t) t)) 109 (els s t)) 112 (s (44 + 4 * t + 1))) 114 (s 10)) 121 (s 3))) 6 P_146)) 149 [(0, .ref o), (1, .int (nI t)), (2, .int (nI (owr s t))), (3, .int (val s (owr s t) t))] [.int (wkV (nm0 s t) s (182))]
        exact g_iretWv h hE dX5_namedBy_149 (by first | (simp [nameB, e19, c79]; done) | (simp_all [nameB, e19, c79]; done)) (⟨upd (upd (upd (upd (upd (S 5) 118 (val s (owr s t) t)) 109 (els s t)) 112 (s (44 + 4 * t + 1))) 114 (s 10)) 121 (s 3), P_146, mW_eq rfl rfl⟩)
      · skip
        show G X 0 0 (mW (xT X) o a s S) 82 [(0, .ref o), (1, .int (nI t)), (2, .int (nI (owr s t))), (3, .int (val s (owr s t) t))] []
        refine g_iload_n h dX5_namedBy_82 rfl ?_
        exact g_iretWv h hE dX5_namedBy_83 (by first | (simp [nameB, e19, c79]; done) | (simp_all [nameB, e19, c79]; done)) (mW_scr rfl)
    · skip
      have e19 : (s (20 + 4 * (owr s t))) = 6 := i32_of e19 (by decide)
      refine g_tableIn h 150 dX5_namedBy_19 6 (by rw [e19]; decide) (by decide) (by decide) rfl (by decide) ?_
      show G X 0 0 (mW (xT X) o a s S) 150 [(0, .ref o), (1, .int (nI t)), (2, .int (nI (owr s t))), (3, .int (val s (owr s t) t))] []
      refine g_aload_n h dX5_namedBy_150 rfl ?_
      refine g_iload_n h dX5_namedBy_151 rfl ?_
      refine g_callVR h (m5_bestOf _ _ _ o a s S t h0 (by first | assumption | omega)) (fun _ q => q) 0 rfl rfl (lw_V q1633 q1635 qs63 q95 q1636) gy_X5_bestOf ⟨Nat.le_of_ble_eq_true rfl, Nat.le_of_ble_eq_true rfl⟩ ⟨Nat.le_of_ble_eq_true rfl, Nat.le_of_ble_eq_true rfl⟩ rfl rfl (Nat.le_of_ble_eq_true rfl) dX5_namedBy_152 ?_
      exact g_iretWv h hE dX5_namedBy_155 (by first | (simp [nameB, e19]; done) | (simp_all [nameB, e19]; done)) (mW_scr rfl)
