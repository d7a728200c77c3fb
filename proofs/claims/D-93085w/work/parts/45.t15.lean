
theorem gy_X5_text : gY yX5_text RX5 1 := ⟨rfl, by decide +kernel, by decide +kernel, by decide +kernel⟩
theorem gy_X5_untell : gY yX5_untell RX5 1 := ⟨rfl, by decide +kernel, by decide +kernel, by decide +kernel⟩
set_option maxHeartbeats 4000000 in
set_option maxRecDepth 100000 in
theorem m5_text (l : Launch) (D : va_G) (T : Nat → ClassId) (o : Nat) (a : Nat → Nat) (s : Nat → Int32) (S : Nat → Nat → Int32) (x : Int32) (h0 : Inv s) : MetW l D T yX5_text cX5_text 5 (some .int) 37 778 0 0 [.ref o, .int x] (mW T o a s S) (fun r_ w_ => r_ = some (.int ((o_text s (S 3) (S 4) x).1)) ∧ (∃ (F : Nat → Int32) (R4 : Nat → Int32), (F 0 = S 0 0) ∧ (F 5 = S 0 5) ∧ w_ = mW T o a ((o_text s (S 3) (S 4) x).2.1) (sU (sU (sU S 4 R4) 0 F) 3 (o_text s (S 3) (S 4) x).2.2))) := by
  refine metW (own := RX5) rfl (by decide) rfl (fun X h hl hDx hTx hnm hE => ?_)
  subst hl; subst hDx; subst hTx
  have hnp := h0.npl; have hnt := h0.ntl; have hnq := h0.nql
  show G X 0 0 (mW (xT X) o a s S) 0 [(0, .ref o), (1, .int x)] []
  refine g_iload_n h dX5_text_0 rfl ?_
  refine g_iconst (v := nI 0) h dX5_text_1 (by decide) ?_
  refine g_iconst (v := nI 1) h dX5_text_2 (by decide) ?_
  refine g_callSR h (m5_in _ _ _ x 0 1 ) (fun _ q => nomatch q) (lw_S q1439 q1440 q95 q1441) gy_X5_in ⟨Nat.le_of_ble_eq_true rfl, Nat.le_of_ble_eq_true rfl⟩ ⟨Nat.le_of_ble_eq_true rfl, Nat.le_of_ble_eq_true rfl⟩ rfl rfl (Nat.le_of_ble_eq_true rfl) dX5_text_3 ?_
  refine g_if_neB h 15 dX5_text_6 (by decide) (fun c6 => ?_) (fun c6 => ?_)
  · skip
    show G X 0 0 (mW (xT X) o a s S) 15 [(0, .ref o), (1, .int x)] []
    obtain ⟨xn, hx, rfl⟩ := inB_of (n := 1) (by decide) c6
    have vx : nv (nI xn) = xn := nv_nI (by omega)
    refine g_aload_n h dX5_text_15 rfl ?_
    refine g_iload_n h dX5_text_16 rfl ?_
    refine g_put (ws' := mW (xT X) o a s (sU S 0 (upd (S 0) 4 (nI xn)))) h hE.1 in_X5 tyX5 tyX5_ok nmX5 0 rfl rfl 8 rfl q1382 rfl rfl rfl rfl rfl rfl dX5_text_17 rfl ?_
    refine g_aload_n h dX5_text_20 rfl ?_
    refine g_iconst (v := nI 0) h dX5_text_21 (by decide) ?_
    refine g_put (ws' := mW (xT X) o a s (sU S 0 (upd (upd (S 0) 4 (nI xn)) 1 0))) h hE.1 in_X5 tyX5 tyX5_ok nmX5 0 rfl rfl 5 rfl q1379 rfl rfl rfl rfl rfl rfl dX5_text_22 rfl ?_
    refine g_aload_n h dX5_text_25 rfl ?_
    refine g_iconst (v := nI 0) h dX5_text_26 (by decide) ?_
    refine g_put (ws' := mW (xT X) o a s (sU S 0 (upd (upd (upd (S 0) 4 (nI xn)) 1 0) 2 0))) h hE.1 in_X5 tyX5 tyX5_ok nmX5 0 rfl rfl 6 rfl q1380 rfl rfl rfl rfl rfl rfl dX5_text_27 rfl ?_
    refine g_aload_n h dX5_text_30 rfl ?_
    refine g_iconst (v := nI 0) h dX5_text_31 (by decide) ?_
    refine g_put (ws' := mW (xT X) o a s (sU S 0 (upd (upd (upd (upd (S 0) 4 (nI xn)) 1 0) 2 0) 3 0))) h hE.1 in_X5 tyX5 tyX5_ok nmX5 0 rfl rfl 7 rfl q1381 rfl rfl rfl rfl rfl rfl dX5_text_32 rfl ?_
    rw [pa0]
    have q0 := At.zero s (S 4); have hnc := h0.ncl
    refine g_aload_n h dX5_text_35 rfl ?_
    refine g_callVW0 h hE (m5_whole_5 _ _ _ o a s S xn (0, 0, 0, S 4) h0 (by first | assumption | omega) (by first | assumption | omega)) 0 rfl rfl (lw_V q1562 q1564 qs48 q95 q1565) gy_X5_whole ⟨Nat.le_of_ble_eq_true rfl, Nat.le_of_ble_eq_true rfl⟩ ⟨Nat.le_of_ble_eq_true rfl, Nat.le_of_ble_eq_true rfl⟩ rfl rfl (Nat.le_of_ble_eq_true rfl) dX5_text_36 (st' := [.int (bI (((pWhole (pOne xn s 5) s) (0, 0, 0, S 4)).1))]) rfl (fun _ e36 => ?_)
    subst e36
    show G X 0 0 (mW (xT X) o a s (paS S xn (((pWhole (pOne xn s 5) s) (0, 0, 0, S 4)).2))) 39 [(0, .ref o), (1, .int (nI xn))] [.int (bI (((pWhole (pOne xn s 5) s) (0, 0, 0, S 4)).1))]
    generalize er36 : (pWhole (pOne xn s 5) s) (0, 0, 0, S 4) = r36
    refine g_if_eqB h 60 dX5_text_39 (by decide) (fun c39 => ?_) (fun c39 => ?_)
    · skip
      show G X 0 0 (mW (xT X) o a s (paS S xn r36.2)) 60 [(0, .ref o), (1, .int (nI xn))] []
      refine g_iconst (v := nI 0) h dX5_text_60 (by decide) ?_
      refine g_istore_n (lv' := [(0, .ref o), (1, .int (nI xn)), (2, .int (nI 0))]) h dX5_text_61 (by decide) rfl ?_
      refine g_aload_n h dX5_text_62 rfl ?_
      refine g_get h in_X5 0 rfl rfl 0 rfl q1374 rfl rfl dX5_text_63 ?_
      refine g_bipush (v := nI 6) h dX5_text_66 (by decide) ?_
      refine g_iconst (v := nI 0) h dX5_text_68 (by decide) ?_
      refine g_iast (ws' := mW (xT X) o a (upd s 6 0) (paS S xn r36.2)) h hE.1 1 rfl (by first | assumption | omega) (by decide) dX5_text_69 rfl ?_
      refine g_iload_n h dX5_text_70 rfl ?_
      refine g_if_neN h 82 dX5_text_71 (by decide) (by first | omega | decide) (fun c71 => ?_) (fun c71 => ?_)
      · skip
        show G X 0 0 (mW (xT X) o a (upd s 6 0) (paS S xn r36.2)) 82 [(0, .ref o), (1, .int (nI xn)), (2, .int (nI 0))] []
        exact absurd c71 (by decide)
      · skip
        show G X 0 0 (mW (xT X) o a (upd s 6 0) (paS S xn r36.2)) 74 [(0, .ref o), (1, .int (nI xn)), (2, .int (nI 0))] []
        have e : o_text s (S 3) (S 4) (nI xn) = (-10 - nI r36.2.1, upd s 6 0, S 3) := (by unfold o_text; rw [if_pos c6, vx]; rw [show prg s (S 4) xn = r36 from er36, if_neg (by simp [c39])])
        refine g_bipush (v := -10) h dX5_text_74 (by decide) ?_
        refine g_aload_n h dX5_text_76 rfl ?_
        refine g_get h in_X5 0 rfl rfl 5 rfl q1379 rfl rfl dX5_text_77 ?_
        refine g_toN (a := r36.2.1) rfl ?_
        refine g_isub h dX5_text_80 ?_
        exact g_iretWv h hE dX5_text_81 (by rw [e]) (⟨paS S xn r36.2 0, r36.2.2.2.2, rfl, rfl, mW_eq (by rw [e]) (by rw [e]; exact pa3 S xn r36.2)⟩)
    · skip
      show G X 0 0 (mW (xT X) o a s (paS S xn r36.2)) 42 [(0, .ref o), (1, .int (nI xn))] []
      have k0 : At s 0 r36.2 := (by subst er36; exact q0.ok prg_ok c39); have k1 := k0.1; have k2 := k0.2.1
      refine g_aload_n h dX5_text_42 rfl ?_
      refine g_get h in_X5 0 rfl rfl 5 rfl q1379 rfl rfl dX5_text_43 ?_
      show G X 0 0 (mW (xT X) o a s (paS S xn r36.2)) 46 [(0, .ref o), (1, .int (nI xn))] [.int (nI r36.2.1)]
      refine g_aload_n h dX5_text_46 rfl ?_
      refine g_get h in_X5 0 rfl rfl 0 rfl q1374 rfl rfl dX5_text_47 ?_
      refine g_bipush (v := nI 6) h dX5_text_50 (by decide) ?_
      refine g_iald h 1 rfl (by first | assumption | omega) (by decide) dX5_text_52 ?_
      refine g_toN (a := nC s) h0.nc ?_
      refine g_icmp_neN h 60 dX5_text_53 (by decide) (by first | omega | decide) (by first | omega | decide) (fun c53 => ?_) (fun c53 => ?_)
      · skip
        show G X 0 0 (mW (xT X) o a s (paS S xn r36.2)) 60 [(0, .ref o), (1, .int (nI xn))] []
        refine g_iconst (v := nI 0) h dX5_text_60 (by decide) ?_
        refine g_istore_n (lv' := [(0, .ref o), (1, .int (nI xn)), (2, .int (nI 0))]) h dX5_text_61 (by decide) rfl ?_
        refine g_aload_n h dX5_text_62 rfl ?_
        refine g_get h in_X5 0 rfl rfl 0 rfl q1374 rfl rfl dX5_text_63 ?_
        refine g_bipush (v := nI 6) h dX5_text_66 (by decide) ?_
        refine g_iconst (v := nI 0) h dX5_text_68 (by decide) ?_
        refine g_iast (ws' := mW (xT X) o a (upd s 6 0) (paS S xn r36.2)) h hE.1 1 rfl (by first | assumption | omega) (by decide) dX5_text_69 rfl ?_
        refine g_iload_n h dX5_text_70 rfl ?_
        refine g_if_neN h 82 dX5_text_71 (by decide) (by first | omega | decide) (fun c71 => ?_) (fun c71 => ?_)
        · skip
          show G X 0 0 (mW (xT X) o a (upd s 6 0) (paS S xn r36.2)) 82 [(0, .ref o), (1, .int (nI xn)), (2, .int (nI 0))] []
          exact absurd c71 (by decide)
        · skip
          show G X 0 0 (mW (xT X) o a (upd s 6 0) (paS S xn r36.2)) 74 [(0, .ref o), (1, .int (nI xn)), (2, .int (nI 0))] []
          have e : o_text s (S 3) (S 4) (nI xn) = (-10 - nI r36.2.1, upd s 6 0, S 3) := (by unfold o_text; rw [if_pos c6, vx]; rw [show prg s (S 4) xn = r36 from er36, if_neg (by simp [c39, c53])])
          refine g_bipush (v := -10) h dX5_text_74 (by decide) ?_
          refine g_aload_n h dX5_text_76 rfl ?_
          refine g_get h in_X5 0 rfl rfl 5 rfl q1379 rfl rfl dX5_text_77 ?_
          refine g_toN (a := r36.2.1) rfl ?_
          refine g_isub h dX5_text_80 ?_
          exact g_iretWv h hE dX5_text_81 (by rw [e]) (⟨paS S xn r36.2 0, r36.2.2.2.2, rfl, rfl, mW_eq (by rw [e]) (by rw [e]; exact pa3 S xn r36.2)⟩)
      · skip
        show G X 0 0 (mW (xT X) o a s (paS S xn r36.2)) 56 [(0, .ref o), (1, .int (nI xn))] []
        refine g_iconst (v := nI 1) h dX5_text_56 (by decide) ?_
        refine g_goto h 61 dX5_text_57 (by decide) ?_
        refine g_istore_n (lv' := [(0, .ref o), (1, .int (nI xn)), (2, .int (nI 1))]) h dX5_text_61 (by decide) rfl ?_
        refine g_aload_n h dX5_text_62 rfl ?_
        refine g_get h in_X5 0 rfl rfl 0 rfl q1374 rfl rfl dX5_text_63 ?_
        refine g_bipush (v := nI 6) h dX5_text_66 (by decide) ?_
        refine g_iconst (v := nI 0) h dX5_text_68 (by decide) ?_
        refine g_iast (ws' := mW (xT X) o a (upd s 6 0) (paS S xn r36.2)) h hE.1 1 rfl (by first | assumption | omega) (by decide) dX5_text_69 rfl ?_
        refine g_iload_n h dX5_text_70 rfl ?_
        refine g_if_neN h 82 dX5_text_71 (by decide) (by first | omega | decide) (fun c71 => ?_) (fun c71 => ?_)
        · skip
          show G X 0 0 (mW (xT X) o a (upd s 6 0) (paS S xn r36.2)) 82 [(0, .ref o), (1, .int (nI xn)), (2, .int (nI 1))] []
          refine g_sipush (v := nI 182) h dX5_text_82 (by decide) ?_
          refine g_bipush (v := nI 125) h dX5_text_85 (by decide) ?_
          refine g_iload_n h dX5_text_87 rfl ?_
          refine g_imulN h dX5_text_88 ?_
          refine g_iaddN h dX5_text_89 ?_
          refine g_istore_n (lv' := [(0, .ref o), (1, .int (nI xn)), (2, .int (nI 1)), (3, .int (nI (182 + 125 * xn)))]) h dX5_text_90 (by decide) rfl ?_
          refine g_aload_n h dX5_text_91 rfl ?_
          refine g_get h in_X5 0 rfl rfl 0 rfl q1374 rfl rfl dX5_text_92 ?_
          refine g_iload_n h dX5_text_95 rfl ?_
          refine g_aload_n h dX5_text_96 rfl ?_
          refine g_get h in_X5 0 rfl rfl 7 rfl q1381 rfl rfl dX5_text_97 ?_
          refine g_toN (a := r36.2.2.2.1) rfl ?_
          refine g_iast (ws' := mW (xT X) o a (upd (upd s 6 0) (182 + 125 * xn) (nI r36.2.2.2.1)) (paS S xn r36.2)) h hE.1 1 rfl (by first | assumption | omega) (by decide) dX5_text_100 rfl ?_
          refine g_iconst (v := nI 0) h dX5_text_101 (by decide) ?_
          refine g_istore (lv' := [(0, .ref o), (1, .int (nI xn)), (2, .int (nI 1)), (3, .int (nI (182 + 125 * xn))), (4, .int (nI 0))]) h dX5_text_102 (by decide) rfl ?_
          have lp : ∀ i, i ≤ 2 * r36.2.2.2.1 → ∀ (_u : Unit) (s1 : Nat → Int32), (s1 = cpy (upd (upd s 6 0) (182 + 125 * xn) (nI r36.2.2.2.1)) r36.2.2.2.2 (182 + 125 * xn) i) → G X 0 0 (mW (xT X) o a s1 (paS S xn r36.2)) 104 [(0, .ref o), (1, .int (nI xn)), (2, .int (nI 1)), (3, .int (nI (182 + 125 * xn))), (4, .int (nI i))] [] := by
            refine g_ind (N := 2 * r36.2.2.2.1) (fun i hi_i ih_lp => ?_)
            intro _u s1 e0_lp
            refine g_iload h dX5_text_104 rfl ?_
            refine g_iconst (v := nI 2) h dX5_text_106 (by decide) ?_
            refine g_aload_n h dX5_text_107 rfl ?_
            refine g_get h in_X5 0 rfl rfl 7 rfl q1381 rfl rfl dX5_text_108 ?_
            refine g_toN (a := r36.2.2.2.1) rfl ?_
            refine g_imulN h dX5_text_111 ?_
            refine g_icmp_geN h 139 dX5_text_112 (by decide) (by first | omega | decide) (by first | omega | decide) (fun c112 => ?_) (fun c112 => ?_)
            · skip
              show G X 0 0 (mW (xT X) o a s1 (paS S xn r36.2)) 139 [(0, .ref o), (1, .int (nI xn)), (2, .int (nI 1)), (3, .int (nI (182 + 125 * xn))), (4, .int (nI i))] []
              have e : o_text s (S 3) (S 4) (nI xn) = (1, s1, S 3) := (by unfold o_text; rw [if_pos c6, vx]; rw [show prg s (S 4) xn = r36 from er36, if_pos (by simp [c39, c53]), e0_lp, show i = 2 * r36.2.2.2.1 by omega])
              refine g_iconst (v := nI 1) h dX5_text_139 (by decide) ?_
              refine g_toI (y := 1) rfl ?_
              exact g_iretWv h hE dX5_text_140 (by rw [e]) (⟨paS S xn r36.2 0, r36.2.2.2.2, rfl, rfl, mW_eq (by rw [e]) (by rw [e]; exact pa3 S xn r36.2)⟩)
            · skip
              show G X 0 0 (mW (xT X) o a s1 (paS S xn r36.2)) 115 [(0, .ref o), (1, .int (nI xn)), (2, .int (nI 1)), (3, .int (nI (182 + 125 * xn))), (4, .int (nI i))] []
              refine g_aload_n h dX5_text_115 rfl ?_
              refine g_get h in_X5 0 rfl rfl 0 rfl q1374 rfl rfl dX5_text_116 ?_
              refine g_iload_n h dX5_text_119 rfl ?_
              refine g_iconst (v := nI 1) h dX5_text_120 (by decide) ?_
              refine g_iaddN h dX5_text_121 ?_
              refine g_iload h dX5_text_122 rfl ?_
              refine g_iaddN h dX5_text_124 ?_
              refine g_aload_n h dX5_text_125 rfl ?_
              refine g_get h in_X5 0 rfl rfl 9 rfl q1383 rfl rfl dX5_text_126 ?_
              refine g_iload h dX5_text_129 rfl ?_
              refine g_iald h 5 rfl (by first | assumption | omega) (by decide) dX5_text_131 ?_
              refine g_toI (y := (paS S xn r36.2) 4 i) (show (paS S xn r36.2) 4 i = _ from rfl) ?_
              refine g_toI (y := r36.2.2.2.2 i) rfl ?_
              refine g_iast (ws' := mW (xT X) o a (upd s1 (182 + 125 * xn + 1 + i) (r36.2.2.2.2 i)) (paS S xn r36.2)) h hE.1 1 rfl (by first | assumption | omega) (by decide) dX5_text_132 rfl ?_
              refine g_iincN (b := 1) (lv' := [(0, .ref o), (1, .int (nI xn)), (2, .int (nI 1)), (3, .int (nI (182 + 125 * xn))), (4, .int (nI (i + 1)))]) h dX5_text_133 rfl rfl (by decide) rfl ?_
              refine g_goto h 104 dX5_text_136 (by decide) ?_
              exact ih_lp (i + 1) (by omega) (by omega) () (upd s1 (182 + 125 * xn + 1 + i) (r36.2.2.2.2 i)) (by rw [e0_lp]; rfl)
          exact lp (0) (by omega) () (upd (upd s 6 0) (182 + 125 * xn) (nI r36.2.2.2.1)) rfl
        · skip
          show G X 0 0 (mW (xT X) o a (upd s 6 0) (paS S xn r36.2)) 74 [(0, .ref o), (1, .int (nI xn)), (2, .int (nI 1))] []
          exact absurd c71 (by decide)
  · skip
    show G X 0 0 (mW (xT X) o a s S) 9 [(0, .ref o), (1, .int x)] []
    refine g_aload_n h dX5_text_9 rfl ?_
    refine g_iconst (v := nI 1) h dX5_text_10 (by decide) ?_
    refine g_callVW0 h hE (m5_error _ _ _ o a s S 1 (by first | assumption | omega)) 0 rfl rfl (lw_V q1446 q1448 qs35 q95 q1449) gy_X5_error ⟨Nat.le_of_ble_eq_true rfl, Nat.le_of_ble_eq_true rfl⟩ ⟨Nat.le_of_ble_eq_true rfl, Nat.le_of_ble_eq_true rfl⟩ rfl rfl (Nat.le_of_ble_eq_true rfl) dX5_text_11 (st' := [.int (LOW - nI 1)]) rfl (fun _ e11 => ?_)
    subst e11
    exact g_iretWv h hE dX5_text_14 (by simp [o_text, c6, er]) (⟨S 0, S 4, rfl, rfl, mW_eq (by simp [o_text, c6, er]) (by rw [sU040]; simp [o_text, c6, er])⟩)
set_option maxHeartbeats 4000000 in
set_option maxRecDepth 100000 in
theorem m5_untell (l : Launch) (D : va_G) (T : Nat → ClassId) (o : Nat) (a : Nat → Nat) (s : Nat → Int32) (S : Nat → Nat → Int32) (x : Int32) (h0 : Inv s) : MetW l D T yX5_untell cX5_untell 3 (some .int) 1 22 0 0 [.ref o, .int x] (mW T o a s S) (fun r_ w_ => r_ = some (.int ((o_untell s (S 3) x).1)) ∧ (w_ = mW T o a ((o_untell s (S 3) x).2.1) (sU S 3 (o_untell s (S 3) x).2.2))) := by
  refine metW (own := RX5) rfl (by decide) rfl (fun X h hl hDx hTx hnm hE => ?_)
  subst hl; subst hDx; subst hTx
  have hnp := h0.npl; have hnt := h0.ntl; have hnq := h0.nql
  show G X 0 0 (mW (xT X) o a s S) 0 [(0, .ref o), (1, .int x)] []
  refine g_iload_n h dX5_untell_0 rfl ?_
  refine g_iconst (v := nI 0) h dX5_untell_1 (by decide) ?_
  refine g_iconst (v := nI 1) h dX5_untell_2 (by decide) ?_
  refine g_callSR h (m5_in _ _ _ x 0 1 ) (fun _ q => nomatch q) (lw_S q1439 q1440 q95 q1441) gy_X5_in ⟨Nat.le_of_ble_eq_true rfl, Nat.le_of_ble_eq_true rfl⟩ ⟨Nat.le_of_ble_eq_true rfl, Nat.le_of_ble_eq_true rfl⟩ rfl rfl (Nat.le_of_ble_eq_true rfl) dX5_untell_3 ?_
  refine g_if_neB h 15 dX5_untell_6 (by decide) (fun c6 => ?_) (fun c6 => ?_)
  · skip
    show G X 0 0 (mW (xT X) o a s S) 15 [(0, .ref o), (1, .int x)] []
    obtain ⟨xn, hx, rfl⟩ := inB_of (n := 1) (by decide) c6
    have vx : nv (nI xn) = xn := nv_nI (by omega)
    refine g_aload_n h dX5_untell_15 rfl ?_
    refine g_iload_n h dX5_untell_16 rfl ?_
    refine g_callVR h (m5_hasText _ _ _ o a s S xn (by first | assumption | omega)) (fun _ q => q) 0 rfl rfl (lw_V q1606 q1608 qs58 q95 q1609) gy_X5_hasText ⟨Nat.le_of_ble_eq_true rfl, Nat.le_of_ble_eq_true rfl⟩ ⟨Nat.le_of_ble_eq_true rfl, Nat.le_of_ble_eq_true rfl⟩ rfl rfl (Nat.le_of_ble_eq_true rfl) dX5_untell_17 ?_
    refine g_if_eqB h 27 dX5_untell_20 (by decide) (fun c20 => ?_) (fun c20 => ?_)
    · skip
      show G X 0 0 (mW (xT X) o a s S) 27 [(0, .ref o), (1, .int (nI xn))] []
      refine g_iconst (v := nI 0) h dX5_untell_27 (by decide) ?_
      refine g_istore_n (lv' := [(0, .ref o), (1, .int (nI xn)), (2, .int (nI 0))]) h dX5_untell_28 (by decide) rfl ?_
      refine g_aload_n h dX5_untell_29 rfl ?_
      refine g_get h in_X5 0 rfl rfl 0 rfl q1374 rfl rfl dX5_untell_30 ?_
      refine g_sipush (v := nI 182) h dX5_untell_33 (by decide) ?_
      refine g_bipush (v := nI 125) h dX5_untell_36 (by decide) ?_
      refine g_iload_n h dX5_untell_38 rfl ?_
      refine g_imulN h dX5_untell_39 ?_
      refine g_iaddN h dX5_untell_40 ?_
      refine g_iconst (v := nI 0) h dX5_untell_41 (by decide) ?_
      refine g_iast (ws' := mW (xT X) o a (upd s (182 + 125 * xn) 0) S) h hE.1 1 rfl (by first | assumption | omega) (by decide) dX5_untell_42 rfl ?_
      refine g_iload_n h dX5_untell_43 rfl ?_
      refine g_toI (y := 0) rfl ?_
      exact g_iretWv h hE dX5_untell_44 (by first | (simp [o_untell, bI, er, LOW, sU_self, nI_pred, nv_nI, c6, vx, c20]; done) | (simp_all [o_untell, bI, er, LOW, sU_self, nI_pred, nv_nI, c6, vx, c20]; done)) (mW_eq (by first | (simp [o_untell, bI, er, LOW, sU_self, nI_pred, nv_nI, c6, vx, c20]; done) | (simp_all [o_untell, bI, er, LOW, sU_self, nI_pred, nv_nI, c6, vx, c20]; done)) (by first | (simp [o_untell, bI, er, LOW, sU_self, nI_pred, nv_nI, c6, vx, c20]; done) | (simp_all [o_untell, bI, er, LOW, sU_self, nI_pred, nv_nI, c6, vx, c20]; done)))
    · skip
      show G X 0 0 (mW (xT X) o a s S) 23 [(0, .ref o), (1, .int (nI xn))] []
      refine g_iconst (v := nI 1) h dX5_untell_23 (by decide) ?_
      refine g_goto h 28 dX5_untell_24 (by decide) ?_
      refine g_istore_n (lv' := [(0, .ref o), (1, .int (nI xn)), (2, .int (nI 1))]) h dX5_untell_28 (by decide) rfl ?_
      refine g_aload_n h dX5_untell_29 rfl ?_
      refine g_get h in_X5 0 rfl rfl 0 rfl q1374 rfl rfl dX5_untell_30 ?_
      refine g_sipush (v := nI 182) h dX5_untell_33 (by decide) ?_
      refine g_bipush (v := nI 125) h dX5_untell_36 (by decide) ?_
      refine g_iload_n h dX5_untell_38 rfl ?_
      refine g_imulN h dX5_untell_39 ?_
      refine g_iaddN h dX5_untell_40 ?_
      refine g_iconst (v := nI 0) h dX5_untell_41 (by decide) ?_
      refine g_iast (ws' := mW (xT X) o a (upd s (182 + 125 * xn) 0) S) h hE.1 1 rfl (by first | assumption | omega) (by decide) dX5_untell_42 rfl ?_
      refine g_iload_n h dX5_untell_43 rfl ?_
      refine g_toI (y := 1) rfl ?_
      exact g_iretWv h hE dX5_untell_44 (by first | (simp [o_untell, bI, er, LOW, sU_self, nI_pred, nv_nI, c6, vx, c20]; done) | (simp_all [o_untell, bI, er, LOW, sU_self, nI_pred, nv_nI, c6, vx, c20]; done)) (mW_eq (by first | (simp [o_untell, bI, er, LOW, sU_self, nI_pred, nv_nI, c6, vx, c20]; done) | (simp_all [o_untell, bI, er, LOW, sU_self, nI_pred, nv_nI, c6, vx, c20]; done)) (by first | (simp [o_untell, bI, er, LOW, sU_self, nI_pred, nv_nI, c6, vx, c20]; done) | (simp_all [o_untell, bI, er, LOW, sU_self, nI_pred, nv_nI, c6, vx, c20]; done)))
  · skip
    show G X 0 0 (mW (xT X) o a s S) 9 [(0, .ref o), (1, .int x)] []
    refine g_aload_n h dX5_untell_9 rfl ?_
    refine g_iconst (v := nI 1) h dX5_untell_10 (by decide) ?_
    refine g_callVW0 h hE (m5_error _ _ _ o a s S 1 (by first | assumption | omega)) 0 rfl rfl (lw_V q1446 q1448 qs35 q95 q1449) gy_X5_error ⟨Nat.le_of_ble_eq_true rfl, Nat.le_of_ble_eq_true rfl⟩ ⟨Nat.le_of_ble_eq_true rfl, Nat.le_of_ble_eq_true rfl⟩ rfl rfl (Nat.le_of_ble_eq_true rfl) dX5_untell_11 (st' := [.int (LOW - nI 1)]) rfl (fun _ e11 => ?_)
    subst e11
    exact g_iretWv h hE dX5_untell_14 (by first | (simp [o_untell, bI, er, LOW, sU_self, nI_pred, nv_nI, c6]; done) | (simp_all [o_untell, bI, er, LOW, sU_self, nI_pred, nv_nI, c6]; done)) (mW_eq (by first | (simp [o_untell, bI, er, LOW, sU_self, nI_pred, nv_nI, c6]; done) | (simp_all [o_untell, bI, er, LOW, sU_self, nI_pred, nv_nI, c6]; done)) (by first | (simp [o_untell, bI, er, LOW, sU_self, nI_pred, nv_nI, c6]; done) | (simp_all [o_untell, bI, er, LOW, sU_self, nI_pred, nv_nI, c6]; done)))
