
theorem gy_X5_feed : gY yX5_feed RX5 2 := ⟨rfl, by decide +kernel, by decide +kernel, by decide +kernel⟩
theorem gy_X5_greatestElse : gY yX5_greatestElse RX5 1 := ⟨rfl, by decide +kernel, by decide +kernel, by decide +kernel⟩
theorem gy_X5_hasText : gY yX5_hasText RX5 1 := ⟨rfl, by decide +kernel, by decide +kernel, by decide +kernel⟩
theorem gy_X5_joined : gY yX5_joined RX5 3 := ⟨rfl, by decide +kernel, by decide +kernel, by decide +kernel⟩
theorem gy_X5_worked : gY yX5_worked RX5 1 := ⟨rfl, by decide +kernel, by decide +kernel, by decide +kernel⟩
set_option maxHeartbeats 4000000 in
set_option maxRecDepth 100000 in
theorem m5_feed (l : Launch) (D : va_G) (T : Nat → ClassId) (o : Nat) (a : Nat → Nat) (s : Nat → Int32) (S : Nat → Nat → Int32) (w : Int64) (n : Int32) (h0 : Inv s) : MetW l D T yX5_feed cX5_feed 5 (some .int) 1 22 0 0 [.ref o, .long w, .int n] (mW T o a s S) (fun r_ w_ => r_ = some (.int ((o_feed s (S 3) w n).1)) ∧ (w_ = mW T o a ((o_feed s (S 3) w n).2.1) (sU S 3 (o_feed s (S 3) w n).2.2))) := by
  refine metW (own := RX5) rfl (by decide) rfl (fun X h hl hDx hTx hnm hE => ?_)
  subst hl; subst hDx; subst hTx
  have hnp := h0.npl; have hnt := h0.ntl; have hnq := h0.nql
  have hnc := h0.ncl
  show G X 0 0 (mW (xT X) o a s S) 0 [(0, .ref o), (1, .long w), (3, .int n)] []
  refine g_iload_n h dX5_feed_0 rfl ?_
  refine g_iconst (v := nI 1) h dX5_feed_1 (by decide) ?_
  refine g_bipush (v := nI 8) h dX5_feed_2 (by decide) ?_
  refine g_callSR h (m5_in _ _ _ n 1 8 ) (fun _ q => nomatch q) (lw_S q1439 q1440 q95 q1441) gy_X5_in ⟨Nat.le_of_ble_eq_true rfl, Nat.le_of_ble_eq_true rfl⟩ ⟨Nat.le_of_ble_eq_true rfl, Nat.le_of_ble_eq_true rfl⟩ rfl rfl (Nat.le_of_ble_eq_true rfl) dX5_feed_4 ?_
  refine g_if_neB h 16 dX5_feed_7 (by decide) (fun c7 => ?_) (fun c7 => ?_)
  · skip
    show G X 0 0 (mW (xT X) o a s S) 16 [(0, .ref o), (1, .long w), (3, .int n)] []
    obtain ⟨nn, hn1, hn8, rfl⟩ := inB1_of (n := 8) (by decide) c7
    have vn : nv (nI nn) = nn := nv_nI (by omega)
    refine g_aload_n h dX5_feed_16 rfl ?_
    refine g_get h in_X5 0 rfl rfl 0 rfl q1374 rfl rfl dX5_feed_17 ?_
    refine g_bipush (v := nI 6) h dX5_feed_20 (by decide) ?_
    refine g_iald h 1 rfl (by first | assumption | omega) (by decide) dX5_feed_22 ?_
    refine g_toN (a := nC s) (Inv.nc h0) ?_
    refine g_iload_n h dX5_feed_23 rfl ?_
    refine g_iaddN h dX5_feed_24 ?_
    refine g_bipush (v := nI 60) h dX5_feed_25 (by decide) ?_
    refine g_icmp_leN h 36 dX5_feed_27 (by decide) (by first | omega | decide) (by first | omega | decide) (fun c27 => ?_) (fun c27 => ?_)
    · skip
      show G X 0 0 (mW (xT X) o a s S) 36 [(0, .ref o), (1, .long w), (3, .int (nI nn))] []
      refine g_iconst (v := nI 0) h dX5_feed_36 (by decide) ?_
      refine g_istore (lv' := [(0, .ref o), (1, .long w), (3, .int (nI nn)), (4, .int (nI 0))]) h dX5_feed_37 (by decide) rfl ?_
      have lp : ∀ i, i ≤ nn → ∀ (_u : Unit) (s1 : Nat → Int32), (s1 = fo i (feedF s w) s) → G X 0 0 (mW (xT X) o a s1 S) 39 [(0, .ref o), (1, .long w), (3, .int (nI nn)), (4, .int (nI i))] [] := by
        refine g_ind (N := nn) (fun i hi_i ih_lp => ?_)
        intro _u s1 e0_lp
        have k6 : s1 6 = nI (nC s + i) := by rw [e0_lp]; exact feed6 h0.nc w i
        refine g_iload h dX5_feed_39 rfl ?_
        refine g_iload_n h dX5_feed_41 rfl ?_
        refine g_icmp_geN h 90 dX5_feed_42 (by decide) (by first | omega | decide) (by first | omega | decide) (fun c42 => ?_) (fun c42 => ?_)
        · skip
          show G X 0 0 (mW (xT X) o a s1 S) 90 [(0, .ref o), (1, .long w), (3, .int (nI nn)), (4, .int (nI i))] []
          refine g_aload_n h dX5_feed_90 rfl ?_
          refine g_get h in_X5 0 rfl rfl 0 rfl q1374 rfl rfl dX5_feed_91 ?_
          refine g_bipush (v := nI 6) h dX5_feed_94 (by decide) ?_
          refine g_iald h 1 rfl (by first | assumption | omega) (by decide) dX5_feed_96 ?_
          refine g_toN (a := nC s + i) k6 ?_
          exact g_iretWv h hE dX5_feed_97 (by rw [show i = nn by omega]; simp [o_feed, er, LOW, sU_self, nI_pred, nv_nI, c7, vn, c27, c42]) (mW_eq (by rw [e0_lp, show i = nn by omega]; simp [o_feed, c7, vn, c27]) (by simp [o_feed, c7, vn, c27, sU_self]))
        · skip
          show G X 0 0 (mW (xT X) o a s1 S) 45 [(0, .ref o), (1, .long w), (3, .int (nI nn)), (4, .int (nI i))] []
          refine g_aload_n h dX5_feed_45 rfl ?_
          refine g_get h in_X5 0 rfl rfl 0 rfl q1374 rfl rfl dX5_feed_46 ?_
          refine g_sipush (v := nI 432) h dX5_feed_49 (by decide) ?_
          refine g_aload_n h dX5_feed_52 rfl ?_
          refine g_get h in_X5 0 rfl rfl 0 rfl q1374 rfl rfl dX5_feed_53 ?_
          refine g_bipush (v := nI 6) h dX5_feed_56 (by decide) ?_
          refine g_iald h 1 rfl (by first | assumption | omega) (by decide) dX5_feed_58 ?_
          refine g_toN (a := nC s + i) k6 ?_
          refine g_iaddN h dX5_feed_59 ?_
          refine g_lload_n h dX5_feed_60 rfl ?_
          refine g_bipush (v := nI 8) h dX5_feed_61 (by decide) ?_
          refine g_iload h dX5_feed_63 rfl ?_
          refine g_imulN h dX5_feed_65 ?_
          refine g_lshr (v := w >>> (Int32.toInt64 (nI (8 * i)) &&& 63)) h dX5_feed_66 rfl ?_
          refine g_ldc2 h q1557 dX5_feed_67 ?_
          refine g_land h dX5_feed_70 ?_
          refine g_l2i h dX5_feed_71 ?_
          refine g_iast (ws' := mW (xT X) o a (upd s1 (432 + (nC s + i)) (Int64.toInt32 ((w >>> (Int32.toInt64 (nI (8 * i)) &&& 63)) &&& 255))) S) h hE.1 1 rfl (by first | assumption | omega) (by decide) dX5_feed_72 rfl ?_
          refine g_aload_n h dX5_feed_73 rfl ?_
          refine g_get h in_X5 0 rfl rfl 0 rfl q1374 rfl rfl dX5_feed_74 ?_
          refine g_bipush (v := nI 6) h dX5_feed_77 (by decide) ?_
          refine g_dup2_11 h dX5_feed_79 rfl rfl ?_
          refine g_iald h 1 rfl (by first | assumption | omega) (by decide) dX5_feed_80 ?_
          refine g_toI (y := s1 6) (show (upd s1 (432 + (nC s + i)) (Int64.toInt32 ((w >>> (Int32.toInt64 (nI (8 * i)) &&& 63)) &&& 255))) 6 = _ from (upd_n (by omega))) ?_
          refine g_toN (a := nC s + i) k6 ?_
          refine g_iconst (v := nI 1) h dX5_feed_81 (by decide) ?_
          refine g_iaddN h dX5_feed_82 ?_
          refine g_iast (ws' := mW (xT X) o a (upd (upd s1 (432 + (nC s + i)) (Int64.toInt32 ((w >>> (Int32.toInt64 (nI (8 * i)) &&& 63)) &&& 255))) 6 (nI (nC s + i + 1))) S) h hE.1 1 rfl (by first | assumption | omega) (by decide) dX5_feed_83 rfl ?_
          refine g_iincN (b := 1) (lv' := [(0, .ref o), (1, .long w), (3, .int (nI nn)), (4, .int (nI (i + 1)))]) h dX5_feed_84 rfl rfl (by decide) rfl ?_
          refine g_goto h 39 dX5_feed_87 (by decide) ?_
          exact ih_lp (i + 1) (by omega) (by omega) () (upd (upd s1 (432 + (nC s + i)) (Int64.toInt32 ((w >>> (Int32.toInt64 (nI (8 * i)) &&& 63)) &&& 255))) 6 (nI (nC s + i + 1))) (by rw [fo_s, ← e0_lp]; rfl)
      exact lp (0) (by omega) () s rfl
    · skip
      show G X 0 0 (mW (xT X) o a s S) 30 [(0, .ref o), (1, .long w), (3, .int (nI nn))] []
      refine g_aload_n h dX5_feed_30 rfl ?_
      refine g_iconst (v := nI 4) h dX5_feed_31 (by decide) ?_
      refine g_callVW0 h hE (m5_error _ _ _ o a s S 4 (by first | assumption | omega)) 0 rfl rfl (lw_V q1446 q1448 qs35 q95 q1449) gy_X5_error ⟨Nat.le_of_ble_eq_true rfl, Nat.le_of_ble_eq_true rfl⟩ ⟨Nat.le_of_ble_eq_true rfl, Nat.le_of_ble_eq_true rfl⟩ rfl rfl (Nat.le_of_ble_eq_true rfl) dX5_feed_32 (st' := [.int (LOW - nI 4)]) rfl (fun _ e32 => ?_)
      subst e32
      exact g_iretWv h hE dX5_feed_35 (by first | (simp [o_feed, er, LOW, sU_self, nI_pred, nv_nI, c7, vn, c27]; done) | (simp_all [o_feed, er, LOW, sU_self, nI_pred, nv_nI, c7, vn, c27]; done)) (mW_eq (by first | (simp [o_feed, er, LOW, sU_self, nI_pred, nv_nI, c7, vn, c27]; done) | (simp_all [o_feed, er, LOW, sU_self, nI_pred, nv_nI, c7, vn, c27]; done)) (by first | (simp [o_feed, er, LOW, sU_self, nI_pred, nv_nI, c7, vn, c27]; done) | (simp_all [o_feed, er, LOW, sU_self, nI_pred, nv_nI, c7, vn, c27]; done)))
  · skip
    show G X 0 0 (mW (xT X) o a s S) 10 [(0, .ref o), (1, .long w), (3, .int n)] []
    refine g_aload_n h dX5_feed_10 rfl ?_
    refine g_iconst (v := nI 1) h dX5_feed_11 (by decide) ?_
    refine g_callVW0 h hE (m5_error _ _ _ o a s S 1 (by first | assumption | omega)) 0 rfl rfl (lw_V q1446 q1448 qs35 q95 q1449) gy_X5_error ⟨Nat.le_of_ble_eq_true rfl, Nat.le_of_ble_eq_true rfl⟩ ⟨Nat.le_of_ble_eq_true rfl, Nat.le_of_ble_eq_true rfl⟩ rfl rfl (Nat.le_of_ble_eq_true rfl) dX5_feed_12 (st' := [.int (LOW - nI 1)]) rfl (fun _ e12 => ?_)
    subst e12
    exact g_iretWv h hE dX5_feed_15 (by first | (simp [o_feed, er, LOW, sU_self, nI_pred, nv_nI, c7]; done) | (simp_all [o_feed, er, LOW, sU_self, nI_pred, nv_nI, c7]; done)) (mW_eq (by first | (simp [o_feed, er, LOW, sU_self, nI_pred, nv_nI, c7]; done) | (simp_all [o_feed, er, LOW, sU_self, nI_pred, nv_nI, c7]; done)) (by first | (simp [o_feed, er, LOW, sU_self, nI_pred, nv_nI, c7]; done) | (simp_all [o_feed, er, LOW, sU_self, nI_pred, nv_nI, c7]; done)))
set_option maxHeartbeats 4000000 in
set_option maxRecDepth 100000 in
theorem m5_greatestElse (l : Launch) (D : va_G) (T : Nat → ClassId) (o : Nat) (a : Nat → Nat) (s : Nat → Int32) (S : Nat → Nat → Int32) (t : Nat) (h0 : Inv s) (h1 : t < 12) : MetR l D T yX5_greatestElse cX5_greatestElse 5 (some .int) 2 44 [.ref o, .int (nI t)] (mW T o a s S) (fun r_ => r_ = some (.int (els s t))) := by
  refine metR (own := RX5) rfl (by decide) rfl (fun X h hl hDx hTx hE => ?_)
  subst hl; subst hDx; subst hTx
  have hnp := h0.npl; have hnt := h0.ntl; have hnq := h0.nql
  show G X 0 0 (mW (xT X) o a s S) 0 [(0, .ref o), (1, .int (nI t))] []
  refine g_iconst (v := nI 0) h dX5_greatestElse_0 (by decide) ?_
  refine g_istore_n (lv' := [(0, .ref o), (1, .int (nI t)), (2, .int (nI 0))]) h dX5_greatestElse_1 (by decide) rfl ?_
  refine g_iconst (v := nI 0) h dX5_greatestElse_2 (by decide) ?_
  refine g_istore_n (lv' := [(0, .ref o), (1, .int (nI t)), (2, .int (nI 0)), (3, .int (nI 0))]) h dX5_greatestElse_3 (by decide) rfl ?_
  have lp : ∀ i, i ≤ nP s → ∀ (_u : Unit) (x : Int32), (x = fo i (elsF s t) 0) → G X 0 0 (mW (xT X) o a s S) 4 [(0, .ref o), (1, .int (nI t)), (2, .int x), (3, .int (nI i))] [] := by
    refine g_ind (N := nP s) (fun i hi_i ih_lp => ?_)
    intro _u x e0_lp
    refine g_iload_n h dX5_greatestElse_4 rfl ?_
    refine g_aload_n h dX5_greatestElse_5 rfl ?_
    refine g_get h in_X5 0 rfl rfl 0 rfl q1374 rfl rfl dX5_greatestElse_6 ?_
    refine g_iconst (v := nI 0) h dX5_greatestElse_9 (by decide) ?_
    refine g_iald h 1 rfl (by first | assumption | omega) (by decide) dX5_greatestElse_10 ?_
    refine g_toN (a := nP s) (Inv.np h0) ?_
    refine g_icmp_geN h 50 dX5_greatestElse_11 (by decide) (by first | omega | decide) (by first | omega | decide) (fun c11 => ?_) (fun c11 => ?_)
    · skip
      show G X 0 0 (mW (xT X) o a s S) 50 [(0, .ref o), (1, .int (nI t)), (2, .int x), (3, .int (nI i))] []
      refine g_iload_n h dX5_greatestElse_50 rfl ?_
      exact g_iretRv h hE dX5_greatestElse_51 (by rw [e0_lp, show i = nP s by omega]; rfl)
    · skip
      show G X 0 0 (mW (xT X) o a s S) 14 [(0, .ref o), (1, .int (nI t)), (2, .int x), (3, .int (nI i))] []
      refine g_aload_n h dX5_greatestElse_14 rfl ?_
      refine g_iload_n h dX5_greatestElse_15 rfl ?_
      refine g_iload_n h dX5_greatestElse_16 rfl ?_
      refine g_callVR h (m5_valueTo _ _ _ o a s S i t (by first | assumption | omega) (by first | assumption | omega)) (fun _ q => q) 0 rfl rfl (lw_V q1487 q1489 qs44 q95 q1490) gy_X5_valueTo ⟨Nat.le_of_ble_eq_true rfl, Nat.le_of_ble_eq_true rfl⟩ ⟨Nat.le_of_ble_eq_true rfl, Nat.le_of_ble_eq_true rfl⟩ rfl rfl (Nat.le_of_ble_eq_true rfl) dX5_greatestElse_17 ?_
      refine g_istore (lv' := [(0, .ref o), (1, .int (nI t)), (2, .int x), (3, .int (nI i)), (4, .int (val s i t))]) h dX5_greatestElse_20 (by decide) rfl ?_
      refine g_iload_n h dX5_greatestElse_22 rfl ?_
      refine g_aload_n h dX5_greatestElse_23 rfl ?_
      refine g_iload_n h dX5_greatestElse_24 rfl ?_
      refine g_callVR h (m5_owner _ _ _ o a s S t (by first | assumption | omega)) (fun _ q => q) 0 rfl rfl (lw_V q1475 q1477 qs41 q95 q1478) gy_X5_owner ⟨Nat.le_of_ble_eq_true rfl, Nat.le_of_ble_eq_true rfl⟩ ⟨Nat.le_of_ble_eq_true rfl, Nat.le_of_ble_eq_true rfl⟩ rfl rfl (Nat.le_of_ble_eq_true rfl) dX5_greatestElse_25 ?_
      refine g_icmp_eq h 42 dX5_greatestElse_28 (by decide) (fun c28 => ?_) (fun c28 => ?_)
      · skip
        show G X 0 0 (mW (xT X) o a s S) 42 [(0, .ref o), (1, .int (nI t)), (2, .int x), (3, .int (nI i)), (4, .int (val s i t))] []
        refine g_iload_n h dX5_greatestElse_42 rfl ?_
        refine g_istore_n (lv' := [(0, .ref o), (1, .int (nI t)), (2, .int x), (3, .int (nI i)), (4, .int (val s i t))]) h dX5_greatestElse_43 (by decide) rfl ?_
        refine g_iincN (b := 1) (lv' := [(0, .ref o), (1, .int (nI t)), (2, .int x), (3, .int (nI (i + 1))), (4, .int (val s i t))]) h dX5_greatestElse_44 rfl rfl (by decide) rfl ?_
        refine g_goto h 4 dX5_greatestElse_47 (by decide) ?_
        refine g_lv (lv' := [(0, .ref o), (1, .int (nI t)), (2, .int x), (3, .int (nI (i + 1)))]) (lvle_cons rfl (lvle_cons rfl (lvle_cons rfl (lvle_cons rfl (lvle_nil))))) ?_
        exact ih_lp (i + 1) (by omega) (by omega) () x (by rw [fo_s, ← e0_lp]; simp [elsF, c11, c28])
      · skip
        show G X 0 0 (mW (xT X) o a s S) 31 [(0, .ref o), (1, .int (nI t)), (2, .int x), (3, .int (nI i)), (4, .int (val s i t))] []
        refine g_iload h dX5_greatestElse_31 rfl ?_
        refine g_iload_n h dX5_greatestElse_33 rfl ?_
        refine g_icmp_leC h 42 dX5_greatestElse_34 (by decide) (fun c34 => ?_) (fun c34 => ?_)
        · skip
          show G X 0 0 (mW (xT X) o a s S) 42 [(0, .ref o), (1, .int (nI t)), (2, .int x), (3, .int (nI i)), (4, .int (val s i t))] []
          refine g_iload_n h dX5_greatestElse_42 rfl ?_
          refine g_istore_n (lv' := [(0, .ref o), (1, .int (nI t)), (2, .int x), (3, .int (nI i)), (4, .int (val s i t))]) h dX5_greatestElse_43 (by decide) rfl ?_
          refine g_iincN (b := 1) (lv' := [(0, .ref o), (1, .int (nI t)), (2, .int x), (3, .int (nI (i + 1))), (4, .int (val s i t))]) h dX5_greatestElse_44 rfl rfl (by decide) rfl ?_
          refine g_goto h 4 dX5_greatestElse_47 (by decide) ?_
          refine g_lv (lv' := [(0, .ref o), (1, .int (nI t)), (2, .int x), (3, .int (nI (i + 1)))]) (lvle_cons rfl (lvle_cons rfl (lvle_cons rfl (lvle_cons rfl (lvle_nil))))) ?_
          exact ih_lp (i + 1) (by omega) (by omega) () x (by rw [fo_s, ← e0_lp]; simp [elsF, c11, c28, c34])
        · skip
          show G X 0 0 (mW (xT X) o a s S) 37 [(0, .ref o), (1, .int (nI t)), (2, .int x), (3, .int (nI i)), (4, .int (val s i t))] []
          refine g_iload h dX5_greatestElse_37 rfl ?_
          refine g_goto h 43 dX5_greatestElse_39 (by decide) ?_
          refine g_istore_n (lv' := [(0, .ref o), (1, .int (nI t)), (2, .int (val s i t)), (3, .int (nI i)), (4, .int (val s i t))]) h dX5_greatestElse_43 (by decide) rfl ?_
          refine g_iincN (b := 1) (lv' := [(0, .ref o), (1, .int (nI t)), (2, .int (val s i t)), (3, .int (nI (i + 1))), (4, .int (val s i t))]) h dX5_greatestElse_44 rfl rfl (by decide) rfl ?_
          refine g_goto h 4 dX5_greatestElse_47 (by decide) ?_
          refine g_lv (lv' := [(0, .ref o), (1, .int (nI t)), (2, .int (val s i t)), (3, .int (nI (i + 1)))]) (lvle_cons rfl (lvle_cons rfl (lvle_cons rfl (lvle_cons rfl (lvle_nil))))) ?_
          exact ih_lp (i + 1) (by omega) (by omega) () (val s i t) (by rw [fo_s, ← e0_lp]; simp [elsF, c11, c28, c34])
  exact lp (0) (by omega) () 0 rfl
set_option maxHeartbeats 4000000 in
set_option maxRecDepth 100000 in
theorem m5_hasText (l : Launch) (D : va_G) (T : Nat → ClassId) (o : Nat) (a : Nat → Nat) (s : Nat → Int32) (S : Nat → Nat → Int32) (u : Nat) (h0 : u < 2) : MetR l D T yX5_hasText cX5_hasText 2 (some .boolean) 0 0 [.ref o, .int (nI u)] (mW T o a s S) (fun r_ => r_ = some (.int (bI (hasT s u)))) := by
  refine metR (own := RX5) rfl (by decide) rfl (fun X h hl hDx hTx hE => ?_)
  subst hl; subst hDx; subst hTx
  show G X 0 0 (mW (xT X) o a s S) 0 [(0, .ref o), (1, .int (nI u))] []
  refine g_aload_n h dX5_hasText_0 rfl ?_
  refine g_get h in_X5 0 rfl rfl 0 rfl q1374 rfl rfl dX5_hasText_1 ?_
  refine g_sipush (v := nI 182) h dX5_hasText_4 (by decide) ?_
  refine g_bipush (v := nI 125) h dX5_hasText_7 (by decide) ?_
  refine g_iload_n h dX5_hasText_9 rfl ?_
  refine g_imulN h dX5_hasText_10 ?_
  refine g_iaddN h dX5_hasText_11 ?_
  refine g_iald h 1 rfl (by first | assumption | omega) (by decide) dX5_hasText_12 ?_
  refine g_if_leC h 20 dX5_hasText_13 (by decide) (fun c13 => ?_) (fun c13 => ?_)
  · skip
    show G X 0 0 (mW (xT X) o a s S) 20 [(0, .ref o), (1, .int (nI u))] []
    refine g_iconst (v := nI 0) h dX5_hasText_20 (by decide) ?_
    exact g_zretRv h hE dX5_hasText_21 (by rw [show (hasT s u) = false by first | (simp [hasT, c13]; done) | (simp_all [hasT, c13]; done)]; rfl)
  · skip
    show G X 0 0 (mW (xT X) o a s S) 16 [(0, .ref o), (1, .int (nI u))] []
    refine g_iconst (v := nI 1) h dX5_hasText_16 (by decide) ?_
    refine g_goto h 21 dX5_hasText_17 (by decide) ?_
    exact g_zretRv h hE dX5_hasText_21 (by rw [show (hasT s u) = true by first | (simp [hasT, c13]; done) | (simp_all [hasT, c13]; done)]; rfl)
set_option maxHeartbeats 4000000 in
set_option maxRecDepth 100000 in
theorem m5_joined (l : Launch) (D : va_G) (T : Nat → ClassId) (c : Int32) (x : Int32) (y : Int32) : MetR l D T yX5_joined cX5_joined 3 (some .int) 0 0 [.int c, .int x, .int y] (([] : va_W)) (fun r_ => r_ = some (.int (joi c x y))) := by
  refine metR (own := RX5) rfl (by decide) rfl (fun X h hl hDx hTx hE => ?_)
  subst hl; subst hDx; subst hTx
  show G X 0 0 (([] : va_W)) 0 [(0, .int c), (1, .int x), (2, .int y)] []
  refine g_iload_n h dX5_joined_0 rfl ?_
  rcases g_sw c 37 26 with c1 | ⟨j1, hj1, e1⟩
  · skip
    have d1_37 : ¬ c = 37 := fun z => absurd c1 (by rw [z]; decide)
    have d1_38 : ¬ c = 38 := fun z => absurd c1 (by rw [z]; decide)
    have d1_39 : ¬ c = 39 := fun z => absurd c1 (by rw [z]; decide)
    have d1_40 : ¬ c = 40 := fun z => absurd c1 (by rw [z]; decide)
    have d1_41 : ¬ c = 41 := fun z => absurd c1 (by rw [z]; decide)
    have d1_42 : ¬ c = 42 := fun z => absurd c1 (by rw [z]; decide)
    have d1_43 : ¬ c = 43 := fun z => absurd c1 (by rw [z]; decide)
    have d1_44 : ¬ c = 44 := fun z => absurd c1 (by rw [z]; decide)
    have d1_45 : ¬ c = 45 := fun z => absurd c1 (by rw [z]; decide)
    have d1_46 : ¬ c = 46 := fun z => absurd c1 (by rw [z]; decide)
    have d1_47 : ¬ c = 47 := fun z => absurd c1 (by rw [z]; decide)
    have d1_48 : ¬ c = 48 := fun z => absurd c1 (by rw [z]; decide)
    have d1_49 : ¬ c = 49 := fun z => absurd c1 (by rw [z]; decide)
    have d1_50 : ¬ c = 50 := fun z => absurd c1 (by rw [z]; decide)
    have d1_51 : ¬ c = 51 := fun z => absurd c1 (by rw [z]; decide)
    have d1_52 : ¬ c = 52 := fun z => absurd c1 (by rw [z]; decide)
    have d1_53 : ¬ c = 53 := fun z => absurd c1 (by rw [z]; decide)
    have d1_54 : ¬ c = 54 := fun z => absurd c1 (by rw [z]; decide)
    have d1_55 : ¬ c = 55 := fun z => absurd c1 (by rw [z]; decide)
    have d1_56 : ¬ c = 56 := fun z => absurd c1 (by rw [z]; decide)
    have d1_57 : ¬ c = 57 := fun z => absurd c1 (by rw [z]; decide)
    have d1_58 : ¬ c = 58 := fun z => absurd c1 (by rw [z]; decide)
    have d1_59 : ¬ c = 59 := fun z => absurd c1 (by rw [z]; decide)
    have d1_60 : ¬ c = 60 := fun z => absurd c1 (by rw [z]; decide)
    have d1_61 : ¬ c = 61 := fun z => absurd c1 (by rw [z]; decide)
    have d1_62 : ¬ c = 62 := fun z => absurd c1 (by rw [z]; decide)
    refine g_tableOut h 218 dX5_joined_1 (by omega) (by decide) ?_
    show G X 0 0 (([] : va_W)) 218 [(0, .int c), (1, .int x), (2, .int y)] []
    refine g_iload_n h dX5_joined_218 rfl ?_
    refine g_if_ne h 226 dX5_joined_219 (by decide) (fun c219 => ?_) (fun c219 => ?_)
    · skip
      show G X 0 0 (([] : va_W)) 226 [(0, .int c), (1, .int x), (2, .int y)] []
      refine g_iconst (v := nI 1) h dX5_joined_226 (by decide) ?_
      refine g_goto h 231 dX5_joined_227 (by decide) ?_
      refine g_toI (y := 1) rfl ?_
      exact g_iretRv h hE dX5_joined_231 (by first | (simp [joi, d1_37, d1_38, d1_39, d1_40, d1_41, d1_42, d1_43, d1_44, d1_45, d1_46, d1_47, d1_48, d1_49, d1_50, d1_51, d1_52, d1_53, d1_54, d1_55, d1_56, d1_57, d1_58, d1_59, d1_60, d1_61, d1_62, c219]; done) | (simp_all [joi, d1_37, d1_38, d1_39, d1_40, d1_41, d1_42, d1_43, d1_44, d1_45, d1_46, d1_47, d1_48, d1_49, d1_50, d1_51, d1_52, d1_53, d1_54, d1_55, d1_56, d1_57, d1_58, d1_59, d1_60, d1_61, d1_62, c219]; done))
    · skip
      show G X 0 0 (([] : va_W)) 222 [(0, .int c), (1, .int x), (2, .int y)] []
      refine g_iload_n h dX5_joined_222 rfl ?_
      refine g_if_eq h 230 dX5_joined_223 (by decide) (fun c223 => ?_) (fun c223 => ?_)
      · skip
        show G X 0 0 (([] : va_W)) 230 [(0, .int c), (1, .int x), (2, .int y)] []
        refine g_iconst (v := nI 0) h dX5_joined_230 (by decide) ?_
        refine g_toI (y := 0) rfl ?_
        exact g_iretRv h hE dX5_joined_231 (by first | (simp [joi, d1_37, d1_38, d1_39, d1_40, d1_41, d1_42, d1_43, d1_44, d1_45, d1_46, d1_47, d1_48, d1_49, d1_50, d1_51, d1_52, d1_53, d1_54, d1_55, d1_56, d1_57, d1_58, d1_59, d1_60, d1_61, d1_62, c219, c223]; done) | (simp_all [joi, d1_37, d1_38, d1_39, d1_40, d1_41, d1_42, d1_43, d1_44, d1_45, d1_46, d1_47, d1_48, d1_49, d1_50, d1_51, d1_52, d1_53, d1_54, d1_55, d1_56, d1_57, d1_58, d1_59, d1_60, d1_61, d1_62, c219, c223]; done))
      · skip
        show G X 0 0 (([] : va_W)) 226 [(0, .int c), (1, .int x), (2, .int y)] []
        refine g_iconst (v := nI 1) h dX5_joined_226 (by decide) ?_
        refine g_goto h 231 dX5_joined_227 (by decide) ?_
        refine g_toI (y := 1) rfl ?_
        exact g_iretRv h hE dX5_joined_231 (by first | (simp [joi, d1_37, d1_38, d1_39, d1_40, d1_41, d1_42, d1_43, d1_44, d1_45, d1_46, d1_47, d1_48, d1_49, d1_50, d1_51, d1_52, d1_53, d1_54, d1_55, d1_56, d1_57, d1_58, d1_59, d1_60, d1_61, d1_62, c219, c223]; done) | (simp_all [joi, d1_37, d1_38, d1_39, d1_40, d1_41, d1_42, d1_43, d1_44, d1_45, d1_46, d1_47, d1_48, d1_49, d1_50, d1_51, d1_52, d1_53, d1_54, d1_55, d1_56, d1_57, d1_58, d1_59, d1_60, d1_61, d1_62, c219, c223]; done))
  · skip
    rcases (show j1 = 0 ∨ j1 = 1 ∨ j1 = 2 ∨ j1 = 3 ∨ j1 = 4 ∨ j1 = 5 ∨ j1 = 6 ∨ j1 = 7 ∨ j1 = 8 ∨ j1 = 9 ∨ j1 = 10 ∨ j1 = 11 ∨ j1 = 12 ∨ j1 = 13 ∨ j1 = 14 ∨ j1 = 15 ∨ j1 = 16 ∨ j1 = 17 ∨ j1 = 18 ∨ j1 = 19 ∨ j1 = 20 ∨ j1 = 21 ∨ j1 = 22 ∨ j1 = 23 ∨ j1 = 24 ∨ j1 = 25 by omega) with rfl | rfl | rfl | rfl | rfl | rfl | rfl | rfl | rfl | rfl | rfl | rfl | rfl | rfl | rfl | rfl | rfl | rfl | rfl | rfl | rfl | rfl | rfl | rfl | rfl | rfl
    · skip
      have e1 : c = 37 := i32_of e1 (by decide)
      subst e1
      refine g_tableIn h 154 dX5_joined_1 37 (by decide) (by decide) (by decide) rfl (by decide) ?_
      show G X 0 0 (([] : va_W)) 154 [(0, .int 37), (1, .int x), (2, .int y)] []
      refine g_iload_n h dX5_joined_154 rfl ?_
      refine g_if_eq h 163 dX5_joined_155 (by decide) (fun c155 => ?_) (fun c155 => ?_)
      · skip
        show G X 0 0 (([] : va_W)) 163 [(0, .int 37), (1, .int x), (2, .int y)] []
        refine g_iconst (v := nI 0) h dX5_joined_163 (by decide) ?_
        refine g_goto h 170 dX5_joined_164 (by decide) ?_
        refine g_toI (y := 0) rfl ?_
        exact g_iretRv h hE dX5_joined_170 (by first | (simp [joi, c155]; done) | (simp_all [joi, c155]; done))
      · skip
        show G X 0 0 (([] : va_W)) 158 [(0, .int 37), (1, .int x), (2, .int y)] []
        refine g_iload_n h dX5_joined_158 rfl ?_
        refine g_iconst (v := -1) h dX5_joined_159 (by decide) ?_
        refine g_icmp_ne h 167 dX5_joined_160 (by decide) (fun c160 => ?_) (fun c160 => ?_)
        · skip
          show G X 0 0 (([] : va_W)) 167 [(0, .int 37), (1, .int x), (2, .int y)] []
          refine g_iload_n h dX5_joined_167 rfl ?_
          refine g_iload_n h dX5_joined_168 rfl ?_
          refine g_irem h dX5_joined_169 (by assumption) ?_
          exact g_iretRv h hE dX5_joined_170 (by first | (simp [joi, c155, c160]; done) | (simp_all [joi, c155, c160]; done))
        · skip
          show G X 0 0 (([] : va_W)) 163 [(0, .int 37), (1, .int x), (2, .int y)] []
          refine g_iconst (v := nI 0) h dX5_joined_163 (by decide) ?_
          refine g_goto h 170 dX5_joined_164 (by decide) ?_
          refine g_toI (y := 0) rfl ?_
          exact g_iretRv h hE dX5_joined_170 (by first | (simp [joi, c155, c160]; done) | (simp_all [joi, c155, c160]; done))
    · skip
      have e1 : c = 38 := i32_of e1 (by decide)
      subst e1
      refine g_tableIn h 204 dX5_joined_1 38 (by decide) (by decide) (by decide) rfl (by decide) ?_
      show G X 0 0 (([] : va_W)) 204 [(0, .int 38), (1, .int x), (2, .int y)] []
      refine g_iload_n h dX5_joined_204 rfl ?_
      refine g_if_eq h 216 dX5_joined_205 (by decide) (fun c205 => ?_) (fun c205 => ?_)
      · skip
        show G X 0 0 (([] : va_W)) 216 [(0, .int 38), (1, .int x), (2, .int y)] []
        refine g_iconst (v := nI 0) h dX5_joined_216 (by decide) ?_
        refine g_toI (y := 0) rfl ?_
        exact g_iretRv h hE dX5_joined_217 (by first | (simp [joi, c205]; done) | (simp_all [joi, c205]; done))
      · skip
        show G X 0 0 (([] : va_W)) 208 [(0, .int 38), (1, .int x), (2, .int y)] []
        refine g_iload_n h dX5_joined_208 rfl ?_
        refine g_if_eq h 216 dX5_joined_209 (by decide) (fun c209 => ?_) (fun c209 => ?_)
        · skip
          show G X 0 0 (([] : va_W)) 216 [(0, .int 38), (1, .int x), (2, .int y)] []
          refine g_iconst (v := nI 0) h dX5_joined_216 (by decide) ?_
          refine g_toI (y := 0) rfl ?_
          exact g_iretRv h hE dX5_joined_217 (by first | (simp [joi, c205, c209]; done) | (simp_all [joi, c205, c209]; done))
        · skip
          show G X 0 0 (([] : va_W)) 212 [(0, .int 38), (1, .int x), (2, .int y)] []
          refine g_iconst (v := nI 1) h dX5_joined_212 (by decide) ?_
          refine g_goto h 217 dX5_joined_213 (by decide) ?_
          refine g_toI (y := 1) rfl ?_
          exact g_iretRv h hE dX5_joined_217 (by first | (simp [joi, c205, c209]; done) | (simp_all [joi, c205, c209]; done))
    · skip
      have e1 : c = 39 := i32_of e1 (by decide)
      subst e1
      refine g_tableIn h 218 dX5_joined_1 39 (by decide) (by decide) (by decide) rfl (by decide) ?_
      show G X 0 0 (([] : va_W)) 218 [(0, .int 39), (1, .int x), (2, .int y)] []
      refine g_iload_n h dX5_joined_218 rfl ?_
      refine g_if_ne h 226 dX5_joined_219 (by decide) (fun c219 => ?_) (fun c219 => ?_)
      · skip
        show G X 0 0 (([] : va_W)) 226 [(0, .int 39), (1, .int x), (2, .int y)] []
        refine g_iconst (v := nI 1) h dX5_joined_226 (by decide) ?_
        refine g_goto h 231 dX5_joined_227 (by decide) ?_
        refine g_toI (y := 1) rfl ?_
        exact g_iretRv h hE dX5_joined_231 (by first | (simp [joi, c219]; done) | (simp_all [joi, c219]; done))
      · skip
        show G X 0 0 (([] : va_W)) 222 [(0, .int 39), (1, .int x), (2, .int y)] []
        refine g_iload_n h dX5_joined_222 rfl ?_
        refine g_if_eq h 230 dX5_joined_223 (by decide) (fun c223 => ?_) (fun c223 => ?_)
        · skip
          show G X 0 0 (([] : va_W)) 230 [(0, .int 39), (1, .int x), (2, .int y)] []
          refine g_iconst (v := nI 0) h dX5_joined_230 (by decide) ?_
          refine g_toI (y := 0) rfl ?_
          exact g_iretRv h hE dX5_joined_231 (by first | (simp [joi, c219, c223]; done) | (simp_all [joi, c219, c223]; done))
        · skip
          show G X 0 0 (([] : va_W)) 226 [(0, .int 39), (1, .int x), (2, .int y)] []
          refine g_iconst (v := nI 1) h dX5_joined_226 (by decide) ?_
          refine g_goto h 231 dX5_joined_227 (by decide) ?_
          refine g_toI (y := 1) rfl ?_
          exact g_iretRv h hE dX5_joined_231 (by first | (simp [joi, c219, c223]; done) | (simp_all [joi, c219, c223]; done))
    · skip
      have e1 : c = 40 := i32_of e1 (by decide)
      subst e1
      refine g_tableIn h 218 dX5_joined_1 40 (by decide) (by decide) (by decide) rfl (by decide) ?_
      show G X 0 0 (([] : va_W)) 218 [(0, .int 40), (1, .int x), (2, .int y)] []
      refine g_iload_n h dX5_joined_218 rfl ?_
      refine g_if_ne h 226 dX5_joined_219 (by decide) (fun c219 => ?_) (fun c219 => ?_)
      · skip
        show G X 0 0 (([] : va_W)) 226 [(0, .int 40), (1, .int x), (2, .int y)] []
        refine g_iconst (v := nI 1) h dX5_joined_226 (by decide) ?_
        refine g_goto h 231 dX5_joined_227 (by decide) ?_
        refine g_toI (y := 1) rfl ?_
        exact g_iretRv h hE dX5_joined_231 (by first | (simp [joi, c219]; done) | (simp_all [joi, c219]; done))
      · skip
        show G X 0 0 (([] : va_W)) 222 [(0, .int 40), (1, .int x), (2, .int y)] []
        refine g_iload_n h dX5_joined_222 rfl ?_
        refine g_if_eq h 230 dX5_joined_223 (by decide) (fun c223 => ?_) (fun c223 => ?_)
        · skip
          show G X 0 0 (([] : va_W)) 230 [(0, .int 40), (1, .int x), (2, .int y)] []
          refine g_iconst (v := nI 0) h dX5_joined_230 (by decide) ?_
          refine g_toI (y := 0) rfl ?_
          exact g_iretRv h hE dX5_joined_231 (by first | (simp [joi, c219, c223]; done) | (simp_all [joi, c219, c223]; done))
        · skip
          show G X 0 0 (([] : va_W)) 226 [(0, .int 40), (1, .int x), (2, .int y)] []
          refine g_iconst (v := nI 1) h dX5_joined_226 (by decide) ?_
          refine g_goto h 231 dX5_joined_227 (by decide) ?_
          refine g_toI (y := 1) rfl ?_
          exact g_iretRv h hE dX5_joined_231 (by first | (simp [joi, c219, c223]; done) | (simp_all [joi, c219, c223]; done))
    · skip
      have e1 : c = 41 := i32_of e1 (by decide)
      subst e1
      refine g_tableIn h 218 dX5_joined_1 41 (by decide) (by decide) (by decide) rfl (by decide) ?_
      show G X 0 0 (([] : va_W)) 218 [(0, .int 41), (1, .int x), (2, .int y)] []
      refine g_iload_n h dX5_joined_218 rfl ?_
      refine g_if_ne h 226 dX5_joined_219 (by decide) (fun c219 => ?_) (fun c219 => ?_)
      · skip
        show G X 0 0 (([] : va_W)) 226 [(0, .int 41), (1, .int x), (2, .int y)] []
        refine g_iconst (v := nI 1) h dX5_joined_226 (by decide) ?_
        refine g_goto h 231 dX5_joined_227 (by decide) ?_
        refine g_toI (y := 1) rfl ?_
        exact g_iretRv h hE dX5_joined_231 (by first | (simp [joi, c219]; done) | (simp_all [joi, c219]; done))
      · skip
        show G X 0 0 (([] : va_W)) 222 [(0, .int 41), (1, .int x), (2, .int y)] []
        refine g_iload_n h dX5_joined_222 rfl ?_
        refine g_if_eq h 230 dX5_joined_223 (by decide) (fun c223 => ?_) (fun c223 => ?_)
        · skip
          show G X 0 0 (([] : va_W)) 230 [(0, .int 41), (1, .int x), (2, .int y)] []
          refine g_iconst (v := nI 0) h dX5_joined_230 (by decide) ?_
          refine g_toI (y := 0) rfl ?_
          exact g_iretRv h hE dX5_joined_231 (by first | (simp [joi, c219, c223]; done) | (simp_all [joi, c219, c223]; done))
        · skip
          show G X 0 0 (([] : va_W)) 226 [(0, .int 41), (1, .int x), (2, .int y)] []
          refine g_iconst (v := nI 1) h dX5_joined_226 (by decide) ?_
          refine g_goto h 231 dX5_joined_227 (by decide) ?_
          refine g_toI (y := 1) rfl ?_
          exact g_iretRv h hE dX5_joined_231 (by first | (simp [joi, c219, c223]; done) | (simp_all [joi, c219, c223]; done))
    · skip
      have e1 : c = 42 := i32_of e1 (by decide)
      subst e1
      refine g_tableIn h 128 dX5_joined_1 42 (by decide) (by decide) (by decide) rfl (by decide) ?_
      show G X 0 0 (([] : va_W)) 128 [(0, .int 42), (1, .int x), (2, .int y)] []
      refine g_iload_n h dX5_joined_128 rfl ?_
      refine g_iload_n h dX5_joined_129 rfl ?_
      refine g_imul h dX5_joined_130 ?_
      exact g_iretRv h hE dX5_joined_131 (by first | (simp [joi]; done) | (simp_all [joi]; done))
    · skip
      have e1 : c = 43 := i32_of e1 (by decide)
      subst e1
      refine g_tableIn h 120 dX5_joined_1 43 (by decide) (by decide) (by decide) rfl (by decide) ?_
      show G X 0 0 (([] : va_W)) 120 [(0, .int 43), (1, .int x), (2, .int y)] []
      refine g_iload_n h dX5_joined_120 rfl ?_
      refine g_iload_n h dX5_joined_121 rfl ?_
      refine g_iadd h dX5_joined_122 ?_
      exact g_iretRv h hE dX5_joined_123 (by first | (simp [joi]; done) | (simp_all [joi]; done))
    · skip
      have e1 : c = 44 := i32_of e1 (by decide)
      subst e1
      refine g_tableIn h 218 dX5_joined_1 44 (by decide) (by decide) (by decide) rfl (by decide) ?_
      show G X 0 0 (([] : va_W)) 218 [(0, .int 44), (1, .int x), (2, .int y)] []
      refine g_iload_n h dX5_joined_218 rfl ?_
      refine g_if_ne h 226 dX5_joined_219 (by decide) (fun c219 => ?_) (fun c219 => ?_)
      · skip
        show G X 0 0 (([] : va_W)) 226 [(0, .int 44), (1, .int x), (2, .int y)] []
        refine g_iconst (v := nI 1) h dX5_joined_226 (by decide) ?_
        refine g_goto h 231 dX5_joined_227 (by decide) ?_
        refine g_toI (y := 1) rfl ?_
        exact g_iretRv h hE dX5_joined_231 (by first | (simp [joi, c219]; done) | (simp_all [joi, c219]; done))
      · skip
        show G X 0 0 (([] : va_W)) 222 [(0, .int 44), (1, .int x), (2, .int y)] []
        refine g_iload_n h dX5_joined_222 rfl ?_
        refine g_if_eq h 230 dX5_joined_223 (by decide) (fun c223 => ?_) (fun c223 => ?_)
        · skip
          show G X 0 0 (([] : va_W)) 230 [(0, .int 44), (1, .int x), (2, .int y)] []
          refine g_iconst (v := nI 0) h dX5_joined_230 (by decide) ?_
          refine g_toI (y := 0) rfl ?_
          exact g_iretRv h hE dX5_joined_231 (by first | (simp [joi, c219, c223]; done) | (simp_all [joi, c219, c223]; done))
        · skip
          show G X 0 0 (([] : va_W)) 226 [(0, .int 44), (1, .int x), (2, .int y)] []
          refine g_iconst (v := nI 1) h dX5_joined_226 (by decide) ?_
          refine g_goto h 231 dX5_joined_227 (by decide) ?_
          refine g_toI (y := 1) rfl ?_
          exact g_iretRv h hE dX5_joined_231 (by first | (simp [joi, c219, c223]; done) | (simp_all [joi, c219, c223]; done))
    · skip
      have e1 : c = 45 := i32_of e1 (by decide)
      subst e1
      refine g_tableIn h 124 dX5_joined_1 45 (by decide) (by decide) (by decide) rfl (by decide) ?_
      show G X 0 0 (([] : va_W)) 124 [(0, .int 45), (1, .int x), (2, .int y)] []
      refine g_iload_n h dX5_joined_124 rfl ?_
      refine g_iload_n h dX5_joined_125 rfl ?_
      refine g_isub h dX5_joined_126 ?_
      exact g_iretRv h hE dX5_joined_127 (by first | (simp [joi]; done) | (simp_all [joi]; done))
    · skip
      have e1 : c = 46 := i32_of e1 (by decide)
      subst e1
      refine g_tableIn h 218 dX5_joined_1 46 (by decide) (by decide) (by decide) rfl (by decide) ?_
      show G X 0 0 (([] : va_W)) 218 [(0, .int 46), (1, .int x), (2, .int y)] []
      refine g_iload_n h dX5_joined_218 rfl ?_
      refine g_if_ne h 226 dX5_joined_219 (by decide) (fun c219 => ?_) (fun c219 => ?_)
      · skip
        show G X 0 0 (([] : va_W)) 226 [(0, .int 46), (1, .int x), (2, .int y)] []
        refine g_iconst (v := nI 1) h dX5_joined_226 (by decide) ?_
        refine g_goto h 231 dX5_joined_227 (by decide) ?_
        refine g_toI (y := 1) rfl ?_
        exact g_iretRv h hE dX5_joined_231 (by first | (simp [joi, c219]; done) | (simp_all [joi, c219]; done))
      · skip
        show G X 0 0 (([] : va_W)) 222 [(0, .int 46), (1, .int x), (2, .int y)] []
        refine g_iload_n h dX5_joined_222 rfl ?_
        refine g_if_eq h 230 dX5_joined_223 (by decide) (fun c223 => ?_) (fun c223 => ?_)
        · skip
          show G X 0 0 (([] : va_W)) 230 [(0, .int 46), (1, .int x), (2, .int y)] []
          refine g_iconst (v := nI 0) h dX5_joined_230 (by decide) ?_
          refine g_toI (y := 0) rfl ?_
          exact g_iretRv h hE dX5_joined_231 (by first | (simp [joi, c219, c223]; done) | (simp_all [joi, c219, c223]; done))
        · skip
          show G X 0 0 (([] : va_W)) 226 [(0, .int 46), (1, .int x), (2, .int y)] []
          refine g_iconst (v := nI 1) h dX5_joined_226 (by decide) ?_
          refine g_goto h 231 dX5_joined_227 (by decide) ?_
          refine g_toI (y := 1) rfl ?_
          exact g_iretRv h hE dX5_joined_231 (by first | (simp [joi, c219, c223]; done) | (simp_all [joi, c219, c223]; done))
    · skip
      have e1 : c = 47 := i32_of e1 (by decide)
      subst e1
      refine g_tableIn h 132 dX5_joined_1 47 (by decide) (by decide) (by decide) rfl (by decide) ?_
      show G X 0 0 (([] : va_W)) 132 [(0, .int 47), (1, .int x), (2, .int y)] []
      refine g_iload_n h dX5_joined_132 rfl ?_
      refine g_if_ne h 140 dX5_joined_133 (by decide) (fun c133 => ?_) (fun c133 => ?_)
      · skip
        show G X 0 0 (([] : va_W)) 140 [(0, .int 47), (1, .int x), (2, .int y)] []
        refine g_iload_n h dX5_joined_140 rfl ?_
        refine g_iconst (v := -1) h dX5_joined_141 (by decide) ?_
        refine g_icmp_ne h 150 dX5_joined_142 (by decide) (fun c142 => ?_) (fun c142 => ?_)
        · skip
          show G X 0 0 (([] : va_W)) 150 [(0, .int 47), (1, .int x), (2, .int y)] []
          refine g_iload_n h dX5_joined_150 rfl ?_
          refine g_iload_n h dX5_joined_151 rfl ?_
          refine g_idiv h dX5_joined_152 (by assumption) ?_
          exact g_iretRv h hE dX5_joined_153 (by first | (simp [joi, c133, c142]; done) | (simp_all [joi, c133, c142]; done))
        · skip
          show G X 0 0 (([] : va_W)) 145 [(0, .int 47), (1, .int x), (2, .int y)] []
          refine g_iload_n h dX5_joined_145 rfl ?_
          refine g_ineg h dX5_joined_146 ?_
          refine g_goto h 153 dX5_joined_147 (by decide) ?_
          exact g_iretRv h hE dX5_joined_153 (by first | (simp [joi, c133, c142]; done) | (simp_all [joi, c133, c142]; done))
      · skip
        show G X 0 0 (([] : va_W)) 136 [(0, .int 47), (1, .int x), (2, .int y)] []
        refine g_iconst (v := nI 0) h dX5_joined_136 (by decide) ?_
        refine g_goto h 153 dX5_joined_137 (by decide) ?_
        refine g_toI (y := 0) rfl ?_
        exact g_iretRv h hE dX5_joined_153 (by first | (simp [joi, c133]; done) | (simp_all [joi, c133]; done))
    · skip
      have e1 : c = 48 := i32_of e1 (by decide)
      subst e1
      refine g_tableIn h 218 dX5_joined_1 48 (by decide) (by decide) (by decide) rfl (by decide) ?_
      show G X 0 0 (([] : va_W)) 218 [(0, .int 48), (1, .int x), (2, .int y)] []
      refine g_iload_n h dX5_joined_218 rfl ?_
      refine g_if_ne h 226 dX5_joined_219 (by decide) (fun c219 => ?_) (fun c219 => ?_)
      · skip
        show G X 0 0 (([] : va_W)) 226 [(0, .int 48), (1, .int x), (2, .int y)] []
        refine g_iconst (v := nI 1) h dX5_joined_226 (by decide) ?_
        refine g_goto h 231 dX5_joined_227 (by decide) ?_
        refine g_toI (y := 1) rfl ?_
        exact g_iretRv h hE dX5_joined_231 (by first | (simp [joi, c219]; done) | (simp_all [joi, c219]; done))
      · skip
        show G X 0 0 (([] : va_W)) 222 [(0, .int 48), (1, .int x), (2, .int y)] []
        refine g_iload_n h dX5_joined_222 rfl ?_
        refine g_if_eq h 230 dX5_joined_223 (by decide) (fun c223 => ?_) (fun c223 => ?_)
        · skip
          show G X 0 0 (([] : va_W)) 230 [(0, .int 48), (1, .int x), (2, .int y)] []
          refine g_iconst (v := nI 0) h dX5_joined_230 (by decide) ?_
          refine g_toI (y := 0) rfl ?_
          exact g_iretRv h hE dX5_joined_231 (by first | (simp [joi, c219, c223]; done) | (simp_all [joi, c219, c223]; done))
        · skip
          show G X 0 0 (([] : va_W)) 226 [(0, .int 48), (1, .int x), (2, .int y)] []
          refine g_iconst (v := nI 1) h dX5_joined_226 (by decide) ?_
          refine g_goto h 231 dX5_joined_227 (by decide) ?_
          refine g_toI (y := 1) rfl ?_
          exact g_iretRv h hE dX5_joined_231 (by first | (simp [joi, c219, c223]; done) | (simp_all [joi, c219, c223]; done))
    · skip
      have e1 : c = 49 := i32_of e1 (by decide)
      subst e1
      refine g_tableIn h 218 dX5_joined_1 49 (by decide) (by decide) (by decide) rfl (by decide) ?_
      show G X 0 0 (([] : va_W)) 218 [(0, .int 49), (1, .int x), (2, .int y)] []
      refine g_iload_n h dX5_joined_218 rfl ?_
      refine g_if_ne h 226 dX5_joined_219 (by decide) (fun c219 => ?_) (fun c219 => ?_)
      · skip
        show G X 0 0 (([] : va_W)) 226 [(0, .int 49), (1, .int x), (2, .int y)] []
        refine g_iconst (v := nI 1) h dX5_joined_226 (by decide) ?_
        refine g_goto h 231 dX5_joined_227 (by decide) ?_
        refine g_toI (y := 1) rfl ?_
        exact g_iretRv h hE dX5_joined_231 (by first | (simp [joi, c219]; done) | (simp_all [joi, c219]; done))
      · skip
        show G X 0 0 (([] : va_W)) 222 [(0, .int 49), (1, .int x), (2, .int y)] []
        refine g_iload_n h dX5_joined_222 rfl ?_
        refine g_if_eq h 230 dX5_joined_223 (by decide) (fun c223 => ?_) (fun c223 => ?_)
        · skip
          show G X 0 0 (([] : va_W)) 230 [(0, .int 49), (1, .int x), (2, .int y)] []
          refine g_iconst (v := nI 0) h dX5_joined_230 (by decide) ?_
          refine g_toI (y := 0) rfl ?_
          exact g_iretRv h hE dX5_joined_231 (by first | (simp [joi, c219, c223]; done) | (simp_all [joi, c219, c223]; done))
        · skip
          show G X 0 0 (([] : va_W)) 226 [(0, .int 49), (1, .int x), (2, .int y)] []
          refine g_iconst (v := nI 1) h dX5_joined_226 (by decide) ?_
          refine g_goto h 231 dX5_joined_227 (by decide) ?_
          refine g_toI (y := 1) rfl ?_
          exact g_iretRv h hE dX5_joined_231 (by first | (simp [joi, c219, c223]; done) | (simp_all [joi, c219, c223]; done))
    · skip
      have e1 : c = 50 := i32_of e1 (by decide)
      subst e1
      refine g_tableIn h 218 dX5_joined_1 50 (by decide) (by decide) (by decide) rfl (by decide) ?_
      show G X 0 0 (([] : va_W)) 218 [(0, .int 50), (1, .int x), (2, .int y)] []
      refine g_iload_n h dX5_joined_218 rfl ?_
      refine g_if_ne h 226 dX5_joined_219 (by decide) (fun c219 => ?_) (fun c219 => ?_)
      · skip
        show G X 0 0 (([] : va_W)) 226 [(0, .int 50), (1, .int x), (2, .int y)] []
        refine g_iconst (v := nI 1) h dX5_joined_226 (by decide) ?_
        refine g_goto h 231 dX5_joined_227 (by decide) ?_
        refine g_toI (y := 1) rfl ?_
        exact g_iretRv h hE dX5_joined_231 (by first | (simp [joi, c219]; done) | (simp_all [joi, c219]; done))
      · skip
        show G X 0 0 (([] : va_W)) 222 [(0, .int 50), (1, .int x), (2, .int y)] []
        refine g_iload_n h dX5_joined_222 rfl ?_
        refine g_if_eq h 230 dX5_joined_223 (by decide) (fun c223 => ?_) (fun c223 => ?_)
        · skip
          show G X 0 0 (([] : va_W)) 230 [(0, .int 50), (1, .int x), (2, .int y)] []
          refine g_iconst (v := nI 0) h dX5_joined_230 (by decide) ?_
          refine g_toI (y := 0) rfl ?_
          exact g_iretRv h hE dX5_joined_231 (by first | (simp [joi, c219, c223]; done) | (simp_all [joi, c219, c223]; done))
        · skip
          show G X 0 0 (([] : va_W)) 226 [(0, .int 50), (1, .int x), (2, .int y)] []
          refine g_iconst (v := nI 1) h dX5_joined_226 (by decide) ?_
          refine g_goto h 231 dX5_joined_227 (by decide) ?_
          refine g_toI (y := 1) rfl ?_
          exact g_iretRv h hE dX5_joined_231 (by first | (simp [joi, c219, c223]; done) | (simp_all [joi, c219, c223]; done))
    · skip
      have e1 : c = 51 := i32_of e1 (by decide)
      subst e1
      refine g_tableIn h 218 dX5_joined_1 51 (by decide) (by decide) (by decide) rfl (by decide) ?_
      show G X 0 0 (([] : va_W)) 218 [(0, .int 51), (1, .int x), (2, .int y)] []
      refine g_iload_n h dX5_joined_218 rfl ?_
      refine g_if_ne h 226 dX5_joined_219 (by decide) (fun c219 => ?_) (fun c219 => ?_)
      · skip
        show G X 0 0 (([] : va_W)) 226 [(0, .int 51), (1, .int x), (2, .int y)] []
        refine g_iconst (v := nI 1) h dX5_joined_226 (by decide) ?_
        refine g_goto h 231 dX5_joined_227 (by decide) ?_
        refine g_toI (y := 1) rfl ?_
        exact g_iretRv h hE dX5_joined_231 (by first | (simp [joi, c219]; done) | (simp_all [joi, c219]; done))
      · skip
        show G X 0 0 (([] : va_W)) 222 [(0, .int 51), (1, .int x), (2, .int y)] []
        refine g_iload_n h dX5_joined_222 rfl ?_
        refine g_if_eq h 230 dX5_joined_223 (by decide) (fun c223 => ?_) (fun c223 => ?_)
        · skip
          show G X 0 0 (([] : va_W)) 230 [(0, .int 51), (1, .int x), (2, .int y)] []
          refine g_iconst (v := nI 0) h dX5_joined_230 (by decide) ?_
          refine g_toI (y := 0) rfl ?_
          exact g_iretRv h hE dX5_joined_231 (by first | (simp [joi, c219, c223]; done) | (simp_all [joi, c219, c223]; done))
        · skip
          show G X 0 0 (([] : va_W)) 226 [(0, .int 51), (1, .int x), (2, .int y)] []
          refine g_iconst (v := nI 1) h dX5_joined_226 (by decide) ?_
          refine g_goto h 231 dX5_joined_227 (by decide) ?_
          refine g_toI (y := 1) rfl ?_
          exact g_iretRv h hE dX5_joined_231 (by first | (simp [joi, c219, c223]; done) | (simp_all [joi, c219, c223]; done))
    · skip
      have e1 : c = 52 := i32_of e1 (by decide)
      subst e1
      refine g_tableIn h 218 dX5_joined_1 52 (by decide) (by decide) (by decide) rfl (by decide) ?_
      show G X 0 0 (([] : va_W)) 218 [(0, .int 52), (1, .int x), (2, .int y)] []
      refine g_iload_n h dX5_joined_218 rfl ?_
      refine g_if_ne h 226 dX5_joined_219 (by decide) (fun c219 => ?_) (fun c219 => ?_)
      · skip
        show G X 0 0 (([] : va_W)) 226 [(0, .int 52), (1, .int x), (2, .int y)] []
        refine g_iconst (v := nI 1) h dX5_joined_226 (by decide) ?_
        refine g_goto h 231 dX5_joined_227 (by decide) ?_
        refine g_toI (y := 1) rfl ?_
        exact g_iretRv h hE dX5_joined_231 (by first | (simp [joi, c219]; done) | (simp_all [joi, c219]; done))
      · skip
        show G X 0 0 (([] : va_W)) 222 [(0, .int 52), (1, .int x), (2, .int y)] []
        refine g_iload_n h dX5_joined_222 rfl ?_
        refine g_if_eq h 230 dX5_joined_223 (by decide) (fun c223 => ?_) (fun c223 => ?_)
        · skip
          show G X 0 0 (([] : va_W)) 230 [(0, .int 52), (1, .int x), (2, .int y)] []
          refine g_iconst (v := nI 0) h dX5_joined_230 (by decide) ?_
          refine g_toI (y := 0) rfl ?_
          exact g_iretRv h hE dX5_joined_231 (by first | (simp [joi, c219, c223]; done) | (simp_all [joi, c219, c223]; done))
        · skip
          show G X 0 0 (([] : va_W)) 226 [(0, .int 52), (1, .int x), (2, .int y)] []
          refine g_iconst (v := nI 1) h dX5_joined_226 (by decide) ?_
          refine g_goto h 231 dX5_joined_227 (by decide) ?_
          refine g_toI (y := 1) rfl ?_
          exact g_iretRv h hE dX5_joined_231 (by first | (simp [joi, c219, c223]; done) | (simp_all [joi, c219, c223]; done))
    · skip
      have e1 : c = 53 := i32_of e1 (by decide)
      subst e1
      refine g_tableIn h 218 dX5_joined_1 53 (by decide) (by decide) (by decide) rfl (by decide) ?_
      show G X 0 0 (([] : va_W)) 218 [(0, .int 53), (1, .int x), (2, .int y)] []
      refine g_iload_n h dX5_joined_218 rfl ?_
      refine g_if_ne h 226 dX5_joined_219 (by decide) (fun c219 => ?_) (fun c219 => ?_)
      · skip
        show G X 0 0 (([] : va_W)) 226 [(0, .int 53), (1, .int x), (2, .int y)] []
        refine g_iconst (v := nI 1) h dX5_joined_226 (by decide) ?_
        refine g_goto h 231 dX5_joined_227 (by decide) ?_
        refine g_toI (y := 1) rfl ?_
        exact g_iretRv h hE dX5_joined_231 (by first | (simp [joi, c219]; done) | (simp_all [joi, c219]; done))
      · skip
        show G X 0 0 (([] : va_W)) 222 [(0, .int 53), (1, .int x), (2, .int y)] []
        refine g_iload_n h dX5_joined_222 rfl ?_
        refine g_if_eq h 230 dX5_joined_223 (by decide) (fun c223 => ?_) (fun c223 => ?_)
        · skip
          show G X 0 0 (([] : va_W)) 230 [(0, .int 53), (1, .int x), (2, .int y)] []
          refine g_iconst (v := nI 0) h dX5_joined_230 (by decide) ?_
          refine g_toI (y := 0) rfl ?_
          exact g_iretRv h hE dX5_joined_231 (by first | (simp [joi, c219, c223]; done) | (simp_all [joi, c219, c223]; done))
        · skip
          show G X 0 0 (([] : va_W)) 226 [(0, .int 53), (1, .int x), (2, .int y)] []
          refine g_iconst (v := nI 1) h dX5_joined_226 (by decide) ?_
          refine g_goto h 231 dX5_joined_227 (by decide) ?_
          refine g_toI (y := 1) rfl ?_
          exact g_iretRv h hE dX5_joined_231 (by first | (simp [joi, c219, c223]; done) | (simp_all [joi, c219, c223]; done))
    · skip
      have e1 : c = 54 := i32_of e1 (by decide)
      subst e1
      refine g_tableIn h 218 dX5_joined_1 54 (by decide) (by decide) (by decide) rfl (by decide) ?_
      show G X 0 0 (([] : va_W)) 218 [(0, .int 54), (1, .int x), (2, .int y)] []
      refine g_iload_n h dX5_joined_218 rfl ?_
      refine g_if_ne h 226 dX5_joined_219 (by decide) (fun c219 => ?_) (fun c219 => ?_)
      · skip
        show G X 0 0 (([] : va_W)) 226 [(0, .int 54), (1, .int x), (2, .int y)] []
        refine g_iconst (v := nI 1) h dX5_joined_226 (by decide) ?_
        refine g_goto h 231 dX5_joined_227 (by decide) ?_
        refine g_toI (y := 1) rfl ?_
        exact g_iretRv h hE dX5_joined_231 (by first | (simp [joi, c219]; done) | (simp_all [joi, c219]; done))
      · skip
        show G X 0 0 (([] : va_W)) 222 [(0, .int 54), (1, .int x), (2, .int y)] []
        refine g_iload_n h dX5_joined_222 rfl ?_
        refine g_if_eq h 230 dX5_joined_223 (by decide) (fun c223 => ?_) (fun c223 => ?_)
        · skip
          show G X 0 0 (([] : va_W)) 230 [(0, .int 54), (1, .int x), (2, .int y)] []
          refine g_iconst (v := nI 0) h dX5_joined_230 (by decide) ?_
          refine g_toI (y := 0) rfl ?_
          exact g_iretRv h hE dX5_joined_231 (by first | (simp [joi, c219, c223]; done) | (simp_all [joi, c219, c223]; done))
        · skip
          show G X 0 0 (([] : va_W)) 226 [(0, .int 54), (1, .int x), (2, .int y)] []
          refine g_iconst (v := nI 1) h dX5_joined_226 (by decide) ?_
          refine g_goto h 231 dX5_joined_227 (by decide) ?_
          refine g_toI (y := 1) rfl ?_
          exact g_iretRv h hE dX5_joined_231 (by first | (simp [joi, c219, c223]; done) | (simp_all [joi, c219, c223]; done))
    · skip
      have e1 : c = 55 := i32_of e1 (by decide)
      subst e1
      refine g_tableIn h 218 dX5_joined_1 55 (by decide) (by decide) (by decide) rfl (by decide) ?_
      show G X 0 0 (([] : va_W)) 218 [(0, .int 55), (1, .int x), (2, .int y)] []
      refine g_iload_n h dX5_joined_218 rfl ?_
      refine g_if_ne h 226 dX5_joined_219 (by decide) (fun c219 => ?_) (fun c219 => ?_)
      · skip
        show G X 0 0 (([] : va_W)) 226 [(0, .int 55), (1, .int x), (2, .int y)] []
        refine g_iconst (v := nI 1) h dX5_joined_226 (by decide) ?_
        refine g_goto h 231 dX5_joined_227 (by decide) ?_
        refine g_toI (y := 1) rfl ?_
        exact g_iretRv h hE dX5_joined_231 (by first | (simp [joi, c219]; done) | (simp_all [joi, c219]; done))
      · skip
        show G X 0 0 (([] : va_W)) 222 [(0, .int 55), (1, .int x), (2, .int y)] []
        refine g_iload_n h dX5_joined_222 rfl ?_
        refine g_if_eq h 230 dX5_joined_223 (by decide) (fun c223 => ?_) (fun c223 => ?_)
        · skip
          show G X 0 0 (([] : va_W)) 230 [(0, .int 55), (1, .int x), (2, .int y)] []
          refine g_iconst (v := nI 0) h dX5_joined_230 (by decide) ?_
          refine g_toI (y := 0) rfl ?_
          exact g_iretRv h hE dX5_joined_231 (by first | (simp [joi, c219, c223]; done) | (simp_all [joi, c219, c223]; done))
        · skip
          show G X 0 0 (([] : va_W)) 226 [(0, .int 55), (1, .int x), (2, .int y)] []
          refine g_iconst (v := nI 1) h dX5_joined_226 (by decide) ?_
          refine g_goto h 231 dX5_joined_227 (by decide) ?_
          refine g_toI (y := 1) rfl ?_
          exact g_iretRv h hE dX5_joined_231 (by first | (simp [joi, c219, c223]; done) | (simp_all [joi, c219, c223]; done))
    · skip
      have e1 : c = 56 := i32_of e1 (by decide)
      subst e1
      refine g_tableIn h 218 dX5_joined_1 56 (by decide) (by decide) (by decide) rfl (by decide) ?_
      show G X 0 0 (([] : va_W)) 218 [(0, .int 56), (1, .int x), (2, .int y)] []
      refine g_iload_n h dX5_joined_218 rfl ?_
      refine g_if_ne h 226 dX5_joined_219 (by decide) (fun c219 => ?_) (fun c219 => ?_)
      · skip
        show G X 0 0 (([] : va_W)) 226 [(0, .int 56), (1, .int x), (2, .int y)] []
        refine g_iconst (v := nI 1) h dX5_joined_226 (by decide) ?_
        refine g_goto h 231 dX5_joined_227 (by decide) ?_
        refine g_toI (y := 1) rfl ?_
        exact g_iretRv h hE dX5_joined_231 (by first | (simp [joi, c219]; done) | (simp_all [joi, c219]; done))
      · skip
        show G X 0 0 (([] : va_W)) 222 [(0, .int 56), (1, .int x), (2, .int y)] []
        refine g_iload_n h dX5_joined_222 rfl ?_
        refine g_if_eq h 230 dX5_joined_223 (by decide) (fun c223 => ?_) (fun c223 => ?_)
        · skip
          show G X 0 0 (([] : va_W)) 230 [(0, .int 56), (1, .int x), (2, .int y)] []
          refine g_iconst (v := nI 0) h dX5_joined_230 (by decide) ?_
          refine g_toI (y := 0) rfl ?_
          exact g_iretRv h hE dX5_joined_231 (by first | (simp [joi, c219, c223]; done) | (simp_all [joi, c219, c223]; done))
        · skip
          show G X 0 0 (([] : va_W)) 226 [(0, .int 56), (1, .int x), (2, .int y)] []
          refine g_iconst (v := nI 1) h dX5_joined_226 (by decide) ?_
          refine g_goto h 231 dX5_joined_227 (by decide) ?_
          refine g_toI (y := 1) rfl ?_
          exact g_iretRv h hE dX5_joined_231 (by first | (simp [joi, c219, c223]; done) | (simp_all [joi, c219, c223]; done))
    · skip
      have e1 : c = 57 := i32_of e1 (by decide)
      subst e1
      refine g_tableIn h 218 dX5_joined_1 57 (by decide) (by decide) (by decide) rfl (by decide) ?_
      show G X 0 0 (([] : va_W)) 218 [(0, .int 57), (1, .int x), (2, .int y)] []
      refine g_iload_n h dX5_joined_218 rfl ?_
      refine g_if_ne h 226 dX5_joined_219 (by decide) (fun c219 => ?_) (fun c219 => ?_)
      · skip
        show G X 0 0 (([] : va_W)) 226 [(0, .int 57), (1, .int x), (2, .int y)] []
        refine g_iconst (v := nI 1) h dX5_joined_226 (by decide) ?_
        refine g_goto h 231 dX5_joined_227 (by decide) ?_
        refine g_toI (y := 1) rfl ?_
        exact g_iretRv h hE dX5_joined_231 (by first | (simp [joi, c219]; done) | (simp_all [joi, c219]; done))
      · skip
        show G X 0 0 (([] : va_W)) 222 [(0, .int 57), (1, .int x), (2, .int y)] []
        refine g_iload_n h dX5_joined_222 rfl ?_
        refine g_if_eq h 230 dX5_joined_223 (by decide) (fun c223 => ?_) (fun c223 => ?_)
        · skip
          show G X 0 0 (([] : va_W)) 230 [(0, .int 57), (1, .int x), (2, .int y)] []
          refine g_iconst (v := nI 0) h dX5_joined_230 (by decide) ?_
          refine g_toI (y := 0) rfl ?_
          exact g_iretRv h hE dX5_joined_231 (by first | (simp [joi, c219, c223]; done) | (simp_all [joi, c219, c223]; done))
        · skip
          show G X 0 0 (([] : va_W)) 226 [(0, .int 57), (1, .int x), (2, .int y)] []
          refine g_iconst (v := nI 1) h dX5_joined_226 (by decide) ?_
          refine g_goto h 231 dX5_joined_227 (by decide) ?_
          refine g_toI (y := 1) rfl ?_
          exact g_iretRv h hE dX5_joined_231 (by first | (simp [joi, c219, c223]; done) | (simp_all [joi, c219, c223]; done))
    · skip
      have e1 : c = 58 := i32_of e1 (by decide)
      subst e1
      refine g_tableIn h 218 dX5_joined_1 58 (by decide) (by decide) (by decide) rfl (by decide) ?_
      show G X 0 0 (([] : va_W)) 218 [(0, .int 58), (1, .int x), (2, .int y)] []
      refine g_iload_n h dX5_joined_218 rfl ?_
      refine g_if_ne h 226 dX5_joined_219 (by decide) (fun c219 => ?_) (fun c219 => ?_)
      · skip
        show G X 0 0 (([] : va_W)) 226 [(0, .int 58), (1, .int x), (2, .int y)] []
        refine g_iconst (v := nI 1) h dX5_joined_226 (by decide) ?_
        refine g_goto h 231 dX5_joined_227 (by decide) ?_
        refine g_toI (y := 1) rfl ?_
        exact g_iretRv h hE dX5_joined_231 (by first | (simp [joi, c219]; done) | (simp_all [joi, c219]; done))
      · skip
        show G X 0 0 (([] : va_W)) 222 [(0, .int 58), (1, .int x), (2, .int y)] []
        refine g_iload_n h dX5_joined_222 rfl ?_
        refine g_if_eq h 230 dX5_joined_223 (by decide) (fun c223 => ?_) (fun c223 => ?_)
        · skip
          show G X 0 0 (([] : va_W)) 230 [(0, .int 58), (1, .int x), (2, .int y)] []
          refine g_iconst (v := nI 0) h dX5_joined_230 (by decide) ?_
          refine g_toI (y := 0) rfl ?_
          exact g_iretRv h hE dX5_joined_231 (by first | (simp [joi, c219, c223]; done) | (simp_all [joi, c219, c223]; done))
        · skip
          show G X 0 0 (([] : va_W)) 226 [(0, .int 58), (1, .int x), (2, .int y)] []
          refine g_iconst (v := nI 1) h dX5_joined_226 (by decide) ?_
          refine g_goto h 231 dX5_joined_227 (by decide) ?_
          refine g_toI (y := 1) rfl ?_
          exact g_iretRv h hE dX5_joined_231 (by first | (simp [joi, c219, c223]; done) | (simp_all [joi, c219, c223]; done))
    · skip
      have e1 : c = 59 := i32_of e1 (by decide)
      subst e1
      refine g_tableIn h 218 dX5_joined_1 59 (by decide) (by decide) (by decide) rfl (by decide) ?_
      show G X 0 0 (([] : va_W)) 218 [(0, .int 59), (1, .int x), (2, .int y)] []
      refine g_iload_n h dX5_joined_218 rfl ?_
      refine g_if_ne h 226 dX5_joined_219 (by decide) (fun c219 => ?_) (fun c219 => ?_)
      · skip
        show G X 0 0 (([] : va_W)) 226 [(0, .int 59), (1, .int x), (2, .int y)] []
        refine g_iconst (v := nI 1) h dX5_joined_226 (by decide) ?_
        refine g_goto h 231 dX5_joined_227 (by decide) ?_
        refine g_toI (y := 1) rfl ?_
        exact g_iretRv h hE dX5_joined_231 (by first | (simp [joi, c219]; done) | (simp_all [joi, c219]; done))
      · skip
        show G X 0 0 (([] : va_W)) 222 [(0, .int 59), (1, .int x), (2, .int y)] []
        refine g_iload_n h dX5_joined_222 rfl ?_
        refine g_if_eq h 230 dX5_joined_223 (by decide) (fun c223 => ?_) (fun c223 => ?_)
        · skip
          show G X 0 0 (([] : va_W)) 230 [(0, .int 59), (1, .int x), (2, .int y)] []
          refine g_iconst (v := nI 0) h dX5_joined_230 (by decide) ?_
          refine g_toI (y := 0) rfl ?_
          exact g_iretRv h hE dX5_joined_231 (by first | (simp [joi, c219, c223]; done) | (simp_all [joi, c219, c223]; done))
        · skip
          show G X 0 0 (([] : va_W)) 226 [(0, .int 59), (1, .int x), (2, .int y)] []
          refine g_iconst (v := nI 1) h dX5_joined_226 (by decide) ?_
          refine g_goto h 231 dX5_joined_227 (by decide) ?_
          refine g_toI (y := 1) rfl ?_
          exact g_iretRv h hE dX5_joined_231 (by first | (simp [joi, c219, c223]; done) | (simp_all [joi, c219, c223]; done))
    · skip
      have e1 : c = 60 := i32_of e1 (by decide)
      subst e1
      refine g_tableIn h 171 dX5_joined_1 60 (by decide) (by decide) (by decide) rfl (by decide) ?_
      show G X 0 0 (([] : va_W)) 171 [(0, .int 60), (1, .int x), (2, .int y)] []
      refine g_iload_n h dX5_joined_171 rfl ?_
      refine g_iload_n h dX5_joined_172 rfl ?_
      refine g_icmp_geC h 180 dX5_joined_173 (by decide) (fun c173 => ?_) (fun c173 => ?_)
      · skip
        show G X 0 0 (([] : va_W)) 180 [(0, .int 60), (1, .int x), (2, .int y)] []
        refine g_iconst (v := nI 0) h dX5_joined_180 (by decide) ?_
        refine g_toI (y := 0) rfl ?_
        exact g_iretRv h hE dX5_joined_181 (by first | (simp [joi, c173]; done) | (simp_all [joi, c173]; done))
      · skip
        show G X 0 0 (([] : va_W)) 176 [(0, .int 60), (1, .int x), (2, .int y)] []
        refine g_iconst (v := nI 1) h dX5_joined_176 (by decide) ?_
        refine g_goto h 181 dX5_joined_177 (by decide) ?_
        refine g_toI (y := 1) rfl ?_
        exact g_iretRv h hE dX5_joined_181 (by first | (simp [joi, c173]; done) | (simp_all [joi, c173]; done))
    · skip
      have e1 : c = 61 := i32_of e1 (by decide)
      subst e1
      refine g_tableIn h 193 dX5_joined_1 61 (by decide) (by decide) (by decide) rfl (by decide) ?_
      show G X 0 0 (([] : va_W)) 193 [(0, .int 61), (1, .int x), (2, .int y)] []
      refine g_iload_n h dX5_joined_193 rfl ?_
      refine g_iload_n h dX5_joined_194 rfl ?_
      refine g_icmp_ne h 202 dX5_joined_195 (by decide) (fun c195 => ?_) (fun c195 => ?_)
      · skip
        show G X 0 0 (([] : va_W)) 202 [(0, .int 61), (1, .int x), (2, .int y)] []
        refine g_iconst (v := nI 0) h dX5_joined_202 (by decide) ?_
        refine g_toI (y := 0) rfl ?_
        exact g_iretRv h hE dX5_joined_203 (by first | (simp [joi, c195]; done) | (simp_all [joi, c195]; done))
      · skip
        show G X 0 0 (([] : va_W)) 198 [(0, .int 61), (1, .int x), (2, .int y)] []
        refine g_iconst (v := nI 1) h dX5_joined_198 (by decide) ?_
        refine g_goto h 203 dX5_joined_199 (by decide) ?_
        refine g_toI (y := 1) rfl ?_
        exact g_iretRv h hE dX5_joined_203 (by first | (simp [joi, c195]; done) | (simp_all [joi, c195]; done))
    · skip
      have e1 : c = 62 := i32_of e1 (by decide)
      subst e1
      refine g_tableIn h 182 dX5_joined_1 62 (by decide) (by decide) (by decide) rfl (by decide) ?_
      show G X 0 0 (([] : va_W)) 182 [(0, .int 62), (1, .int x), (2, .int y)] []
      refine g_iload_n h dX5_joined_182 rfl ?_
      refine g_iload_n h dX5_joined_183 rfl ?_
      refine g_icmp_leC h 191 dX5_joined_184 (by decide) (fun c184 => ?_) (fun c184 => ?_)
      · skip
        show G X 0 0 (([] : va_W)) 191 [(0, .int 62), (1, .int x), (2, .int y)] []
        refine g_iconst (v := nI 0) h dX5_joined_191 (by decide) ?_
        refine g_toI (y := 0) rfl ?_
        exact g_iretRv h hE dX5_joined_192 (by first | (simp [joi, c184]; done) | (simp_all [joi, c184]; done))
      · skip
        show G X 0 0 (([] : va_W)) 187 [(0, .int 62), (1, .int x), (2, .int y)] []
        refine g_iconst (v := nI 1) h dX5_joined_187 (by decide) ?_
        refine g_goto h 192 dX5_joined_188 (by decide) ?_
        refine g_toI (y := 1) rfl ?_
        exact g_iretRv h hE dX5_joined_192 (by first | (simp [joi, c184]; done) | (simp_all [joi, c184]; done))
set_option maxHeartbeats 4000000 in
set_option maxRecDepth 100000 in
theorem m5_worked (l : Launch) (D : va_G) (T : Nat → ClassId) (o : Nat) (a : Nat → Nat) (s : Nat → Int32) (S : Nat → Nat → Int32) (u : Nat) (nm : Nat → Int32) (h0 : u < 2) (h1 : txOK u s) (h2 : 0 < nv (s (182 + 125 * u))) (h3 : ∀ c, nmk u c = true → S 5 c = nm c) : MetW l D T yX5_worked cX5_worked 7 (some .int) 1 22 0 0 [.ref o, .int (nI u)] (mW T o a s S) (fun r_ w_ => r_ = some (.int (wkV nm s (182 + 125 * u))) ∧ (∃ (P : Nat → Int32), w_ = mW T o a s (sU S 6 P))) := by
  refine metW (own := RX5) rfl (by decide) rfl (fun X h hl hDx hTx hnm hE => ?_)
  subst hl; subst hDx; subst hTx
  have hst := h1.1.2
  show G X 0 0 (mW (xT X) o a s S) 0 [(0, .ref o), (1, .int (nI u))] []
  refine g_sipush (v := nI 182) h dX5_worked_0 (by decide) ?_
  refine g_bipush (v := nI 125) h dX5_worked_3 (by decide) ?_
  refine g_iload_n h dX5_worked_5 rfl ?_
  refine g_imulN h dX5_worked_6 ?_
  refine g_iaddN h dX5_worked_7 ?_
  refine g_istore_n (lv' := [(0, .ref o), (1, .int (nI u)), (2, .int (nI (182 + 125 * u)))]) h dX5_worked_8 (by decide) rfl ?_
  refine g_iconst (v := nI 0) h dX5_worked_9 (by decide) ?_
  refine g_istore_n (lv' := [(0, .ref o), (1, .int (nI u)), (2, .int (nI (182 + 125 * u))), (3, .int (nI 0))]) h dX5_worked_10 (by decide) rfl ?_
  refine g_iconst (v := nI 0) h dX5_worked_11 (by decide) ?_
  refine g_istore (lv' := [(0, .ref o), (1, .int (nI u)), (2, .int (nI (182 + 125 * u))), (3, .int (nI 0)), (4, .int (nI 0))]) h dX5_worked_12 (by decide) rfl ?_
  have lp : ∀ i, i ≤ nv (s (182 + 125 * u)) → ∀ (_u : Unit) (n : Nat) (P : Nat → Int32), (n = (wkS nm s (182 + 125 * u) i).2) → (∀ j, j < n → P j = (wkS nm s (182 + 125 * u) i).1 j) → G X 0 0 (mW (xT X) o a s (sU S 6 P)) 14 [(0, .ref o), (1, .int (nI u)), (2, .int (nI (182 + 125 * u))), (3, .int (nI n)), (4, .int (nI i))] [] := by
    refine g_ind (N := nv (s (182 + 125 * u))) (fun i hi_i ih_lp => ?_)
    intro _u n P e0_lp e1_lp
    refine g_iload h dX5_worked_14 rfl ?_
    refine g_aload_n h dX5_worked_16 rfl ?_
    refine g_get h in_X5 0 rfl rfl 0 rfl q1374 rfl rfl dX5_worked_17 ?_
    refine g_iload_n h dX5_worked_20 rfl ?_
    refine g_iald h 1 rfl (by first | assumption | omega) (by decide) dX5_worked_21 ?_
    refine g_toN (a := nv (s (182 + 125 * u))) h1.1.1 ?_
    refine g_icmp_geN h 164 dX5_worked_22 (by decide) (by first | omega | decide) (by first | omega | decide) (fun c22 => ?_) (fun c22 => ?_)
    · skip
      show G X 0 0 (mW (xT X) o a s (sU S 6 P)) 164 [(0, .ref o), (1, .int (nI u)), (2, .int (nI (182 + 125 * u))), (3, .int (nI n)), (4, .int (nI i))] []
      refine g_aload_n h dX5_worked_164 rfl ?_
      refine g_get h in_X5 0 rfl rfl 11 rfl q1385 rfl rfl dX5_worked_165 ?_
      refine g_iconst (v := nI 0) h dX5_worked_168 (by decide) ?_
      refine g_iald h 7 rfl (by first | assumption | omega) (by decide) dX5_worked_169 ?_
      refine g_toI (y := P 0) (show (sU S 6 P) 6 0 = _ from rfl) ?_
      exact g_iretWv h hE dX5_worked_170 (by rw [e1_lp 0 (by have z := tx_end (nm := nm) h1 h2; rw [e0_lp, show i = nv (s (182 + 125 * u)) by omega]; omega), show i = nv (s (182 + 125 * u)) by omega]; rfl) (⟨P, mW_eq rfl rfl⟩)
    · skip
      show G X 0 0 (mW (xT X) o a s (sU S 6 P)) 25 [(0, .ref o), (1, .int (nI u)), (2, .int (nI (182 + 125 * u))), (3, .int (nI n)), (4, .int (nI i))] []
      obtain ⟨g1, g2, g3, g4⟩ := tx_step h1 c22 e0_lp
      refine g_aload_n h dX5_worked_25 rfl ?_
      refine g_get h in_X5 0 rfl rfl 0 rfl q1374 rfl rfl dX5_worked_26 ?_
      refine g_iload_n h dX5_worked_29 rfl ?_
      refine g_iconst (v := nI 1) h dX5_worked_30 (by decide) ?_
      refine g_iaddN h dX5_worked_31 ?_
      refine g_iconst (v := nI 2) h dX5_worked_32 (by decide) ?_
      refine g_iload h dX5_worked_33 rfl ?_
      refine g_imulN h dX5_worked_35 ?_
      refine g_iaddN h dX5_worked_36 ?_
      refine g_iald h 1 rfl (by first | assumption | omega) (by decide) dX5_worked_37 ?_
      refine g_istore (lv' := [(0, .ref o), (1, .int (nI u)), (2, .int (nI (182 + 125 * u))), (3, .int (nI n)), (4, .int (nI i)), (5, .int (s (182 + 125 * u + 1 + 2 * i)))]) h dX5_worked_38 (by decide) rfl ?_
      refine g_aload_n h dX5_worked_40 rfl ?_
      refine g_get h in_X5 0 rfl rfl 0 rfl q1374 rfl rfl dX5_worked_41 ?_
      refine g_iload_n h dX5_worked_44 rfl ?_
      refine g_iconst (v := nI 2) h dX5_worked_45 (by decide) ?_
      refine g_iaddN h dX5_worked_46 ?_
      refine g_iconst (v := nI 2) h dX5_worked_47 (by decide) ?_
      refine g_iload h dX5_worked_48 rfl ?_
      refine g_imulN h dX5_worked_50 ?_
      refine g_iaddN h dX5_worked_51 ?_
      refine g_iald h 1 rfl (by first | assumption | omega) (by decide) dX5_worked_52 ?_
      refine g_istore (lv' := [(0, .ref o), (1, .int (nI u)), (2, .int (nI (182 + 125 * u))), (3, .int (nI n)), (4, .int (nI i)), (5, .int (s (182 + 125 * u + 1 + 2 * i))), (6, .int (s (182 + 125 * u + 2 + 2 * i)))]) h dX5_worked_53 (by decide) rfl ?_
      refine g_iload h dX5_worked_55 rfl ?_
      refine g_if_eq h 66 dX5_worked_57 (by decide) (fun c57 => ?_) (fun c57 => ?_)
      · skip
        show G X 0 0 (mW (xT X) o a s (sU S 6 P)) 66 [(0, .ref o), (1, .int (nI u)), (2, .int (nI (182 + 125 * u))), (3, .int (nI n)), (4, .int (nI i)), (5, .int (s (182 + 125 * u + 1 + 2 * i))), (6, .int (s (182 + 125 * u + 2 + 2 * i)))] []
        refine g_aload_n h dX5_worked_66 rfl ?_
        refine g_get h in_X5 0 rfl rfl 11 rfl q1385 rfl rfl dX5_worked_67 ?_
        refine g_iload_n h dX5_worked_70 rfl ?_
        refine g_iload h dX5_worked_71 rfl ?_
        refine g_if_ne h 81 dX5_worked_73 (by decide) (fun c73 => ?_) (fun c73 => ?_)
        · skip
          show G X 0 0 (mW (xT X) o a s (sU S 6 P)) 81 [(0, .ref o), (1, .int (nI u)), (2, .int (nI (182 + 125 * u))), (3, .int (nI n)), (4, .int (nI i)), (5, .int (s (182 + 125 * u + 1 + 2 * i))), (6, .int (s (182 + 125 * u + 2 + 2 * i)))] [.int (nI n), .ref (a 6)]
          exact absurd c57 c73
        · skip
          show G X 0 0 (mW (xT X) o a s (sU S 6 P)) 76 [(0, .ref o), (1, .int (nI u)), (2, .int (nI (182 + 125 * u))), (3, .int (nI n)), (4, .int (nI i)), (5, .int (s (182 + 125 * u + 1 + 2 * i))), (6, .int (s (182 + 125 * u + 2 + 2 * i)))] [.int (nI n), .ref (a 6)]
          refine g_iload h dX5_worked_76 rfl ?_
          refine g_goto h 88 dX5_worked_78 (by decide) ?_
          refine g_iast (ws' := mW (xT X) o a s (sU S 6 (upd P n (s (182 + 125 * u + 2 + 2 * i))))) h hE.1 7 rfl (by first | assumption | omega) (by decide) dX5_worked_88 rfl ?_
          refine g_iincN (b := 1) (lv' := [(0, .ref o), (1, .int (nI u)), (2, .int (nI (182 + 125 * u))), (3, .int (nI (n + 1))), (4, .int (nI i)), (5, .int (s (182 + 125 * u + 1 + 2 * i))), (6, .int (s (182 + 125 * u + 2 + 2 * i)))]) h dX5_worked_89 rfl rfl (by decide) rfl ?_
          refine g_goto h 158 dX5_worked_92 (by decide) ?_
          refine g_iincN (b := 1) (lv' := [(0, .ref o), (1, .int (nI u)), (2, .int (nI (182 + 125 * u))), (3, .int (nI (n + 1))), (4, .int (nI (i + 1))), (5, .int (s (182 + 125 * u + 1 + 2 * i))), (6, .int (s (182 + 125 * u + 2 + 2 * i)))]) h dX5_worked_158 rfl rfl (by decide) rfl ?_
          refine g_goto h 14 dX5_worked_161 (by decide) ?_
          refine g_lv (lv' := [(0, .ref o), (1, .int (nI u)), (2, .int (nI (182 + 125 * u))), (3, .int (nI (n + 1))), (4, .int (nI (i + 1)))]) (lvle_cons rfl (lvle_cons rfl (lvle_cons rfl (lvle_cons rfl (lvle_cons rfl (lvle_nil)))))) ?_
          exact ih_lp (i + 1) (by omega) (by omega) () (n + 1) (upd P n (s (182 + 125 * u + 2 + 2 * i))) (by rw [wkS_s]; unfold wkF; rw [if_pos c57, ← e0_lp]) (by rw [wkS_s]; unfold wkF; rw [if_pos c57, ← e0_lp]; exact wk_upd e1_lp rfl (fun j a b => by omega))
      · skip
        show G X 0 0 (mW (xT X) o a s (sU S 6 P)) 60 [(0, .ref o), (1, .int (nI u)), (2, .int (nI (182 + 125 * u))), (3, .int (nI n)), (4, .int (nI i)), (5, .int (s (182 + 125 * u + 1 + 2 * i))), (6, .int (s (182 + 125 * u + 2 + 2 * i)))] []
        refine g_iload h dX5_worked_60 rfl ?_
        refine g_iconst (v := nI 1) h dX5_worked_62 (by decide) ?_
        refine g_toI (y := 1) rfl ?_
        refine g_icmp_ne h 95 dX5_worked_63 (by decide) (fun c63 => ?_) (fun c63 => ?_)
        · skip
          show G X 0 0 (mW (xT X) o a s (sU S 6 P)) 95 [(0, .ref o), (1, .int (nI u)), (2, .int (nI (182 + 125 * u))), (3, .int (nI n)), (4, .int (nI i)), (5, .int (s (182 + 125 * u + 1 + 2 * i))), (6, .int (s (182 + 125 * u + 2 + 2 * i)))] []
          refine g_iload h dX5_worked_95 rfl ?_
          refine g_iconst (v := nI 2) h dX5_worked_97 (by decide) ?_
          refine g_toI (y := 2) rfl ?_
          refine g_icmp_ne h 128 dX5_worked_98 (by decide) (fun c98 => ?_) (fun c98 => ?_)
          · skip
            show G X 0 0 (mW (xT X) o a s (sU S 6 P)) 128 [(0, .ref o), (1, .int (nI u)), (2, .int (nI (182 + 125 * u))), (3, .int (nI n)), (4, .int (nI i)), (5, .int (s (182 + 125 * u + 1 + 2 * i))), (6, .int (s (182 + 125 * u + 2 + 2 * i)))] []
            have g6 := g4 (by assumption) (by assumption) (by assumption)
            refine g_dec (lv' := [(0, .ref o), (1, .int (nI u)), (2, .int (nI (182 + 125 * u))), (3, .int (nI (n - 1))), (4, .int (nI i)), (5, .int (s (182 + 125 * u + 1 + 2 * i))), (6, .int (s (182 + 125 * u + 2 + 2 * i)))]) h (by omega) dX5_worked_128 rfl (by decide) rfl ?_
            refine g_aload_n h dX5_worked_131 rfl ?_
            refine g_get h in_X5 0 rfl rfl 11 rfl q1385 rfl rfl dX5_worked_132 ?_
            refine g_iload_n h dX5_worked_135 rfl ?_
            refine g_iconst (v := nI 1) h dX5_worked_136 (by decide) ?_
            refine g_isubN h (by omega) dX5_worked_137 ?_
            refine g_iload h dX5_worked_138 rfl ?_
            refine g_aload_n h dX5_worked_140 rfl ?_
            refine g_get h in_X5 0 rfl rfl 11 rfl q1385 rfl rfl dX5_worked_141 ?_
            refine g_iload_n h dX5_worked_144 rfl ?_
            refine g_iconst (v := nI 1) h dX5_worked_145 (by decide) ?_
            refine g_isubN h (by omega) dX5_worked_146 ?_
            refine g_iald h 7 rfl (by first | assumption | omega) (by decide) dX5_worked_147 ?_
            refine g_toI (y := P (n - 1 - 1)) (show (sU S 6 P) 6 (n - 1 - 1) = _ from rfl) ?_
            refine g_aload_n h dX5_worked_148 rfl ?_
            refine g_get h in_X5 0 rfl rfl 11 rfl q1385 rfl rfl dX5_worked_149 ?_
            refine g_iload_n h dX5_worked_152 rfl ?_
            refine g_iald h 7 rfl (by first | assumption | omega) (by decide) dX5_worked_153 ?_
            refine g_toI (y := P (n - 1)) (show (sU S 6 P) 6 (n - 1) = _ from rfl) ?_
            refine g_callSR h (m5_joined _ _ _ (s (182 + 125 * u + 2 + 2 * i)) (P (n - 1 - 1)) (P (n - 1)) ) (fun _ q => nomatch q) (lw_S q1630 q1631 q95 q1632) gy_X5_joined ⟨Nat.le_of_ble_eq_true rfl, Nat.le_of_ble_eq_true rfl⟩ ⟨Nat.le_of_ble_eq_true rfl, Nat.le_of_ble_eq_true rfl⟩ rfl rfl (Nat.le_of_ble_eq_true rfl) dX5_worked_154 ?_
            refine g_iast (ws' := mW (xT X) o a s (sU S 6 (upd P (n - 1 - 1) (joi (s (182 + 125 * u + 2 + 2 * i)) (P (n - 1 - 1)) (P (n - 1)))))) h hE.1 7 rfl (by first | assumption | omega) (by decide) dX5_worked_157 rfl ?_
            refine g_iincN (b := 1) (lv' := [(0, .ref o), (1, .int (nI u)), (2, .int (nI (182 + 125 * u))), (3, .int (nI (n - 1))), (4, .int (nI (i + 1))), (5, .int (s (182 + 125 * u + 1 + 2 * i))), (6, .int (s (182 + 125 * u + 2 + 2 * i)))]) h dX5_worked_158 rfl rfl (by decide) rfl ?_
            refine g_goto h 14 dX5_worked_161 (by decide) ?_
            refine g_lv (lv' := [(0, .ref o), (1, .int (nI u)), (2, .int (nI (182 + 125 * u))), (3, .int (nI (n - 1))), (4, .int (nI (i + 1)))]) (lvle_cons rfl (lvle_cons rfl (lvle_cons rfl (lvle_cons rfl (lvle_cons rfl (lvle_nil)))))) ?_
            exact ih_lp (i + 1) (by omega) (by omega) () (n - 1) (upd P (n - 1 - 1) (joi (s (182 + 125 * u + 2 + 2 * i)) (P (n - 1 - 1)) (P (n - 1)))) (by rw [wkS_s]; unfold wkF; rw [if_neg c57, if_neg c63, if_neg c98, ← e0_lp]) (by rw [wkS_s]; unfold wkF; rw [if_neg c57, if_neg c63, if_neg c98, ← e0_lp, show n - 1 - 1 = n - 2 by omega]; exact wk_upd e1_lp (by rw [← e1_lp (n - 1) (by omega), ← e1_lp (n - 2) (by omega)]) (fun j a b => by omega))
          · skip
            show G X 0 0 (mW (xT X) o a s (sU S 6 P)) 101 [(0, .ref o), (1, .int (nI u)), (2, .int (nI (182 + 125 * u))), (3, .int (nI n)), (4, .int (nI i)), (5, .int (s (182 + 125 * u + 1 + 2 * i))), (6, .int (s (182 + 125 * u + 2 + 2 * i)))] []
            have g6 := g3 (by assumption) (by assumption) (by assumption)
            refine g_aload_n h dX5_worked_101 rfl ?_
            refine g_get h in_X5 0 rfl rfl 11 rfl q1385 rfl rfl dX5_worked_102 ?_
            refine g_iload_n h dX5_worked_105 rfl ?_
            refine g_iconst (v := nI 1) h dX5_worked_106 (by decide) ?_
            refine g_isubN h (by omega) dX5_worked_107 ?_
            refine g_aload_n h dX5_worked_108 rfl ?_
            refine g_get h in_X5 0 rfl rfl 11 rfl q1385 rfl rfl dX5_worked_109 ?_
            refine g_iload_n h dX5_worked_112 rfl ?_
            refine g_iconst (v := nI 1) h dX5_worked_113 (by decide) ?_
            refine g_isubN h (by omega) dX5_worked_114 ?_
            refine g_iald h 7 rfl (by first | assumption | omega) (by decide) dX5_worked_115 ?_
            refine g_toI (y := P (n - 1)) (show (sU S 6 P) 6 (n - 1) = _ from rfl) ?_
            refine g_if_ne h 123 dX5_worked_116 (by decide) (fun c116 => ?_) (fun c116 => ?_)
            · skip
              show G X 0 0 (mW (xT X) o a s (sU S 6 P)) 123 [(0, .ref o), (1, .int (nI u)), (2, .int (nI (182 + 125 * u))), (3, .int (nI n)), (4, .int (nI i)), (5, .int (s (182 + 125 * u + 1 + 2 * i))), (6, .int (s (182 + 125 * u + 2 + 2 * i)))] [.int (nI (n - 1)), .ref (a 6)]
              refine g_iconst (v := nI 0) h dX5_worked_123 (by decide) ?_
              refine g_iast (ws' := mW (xT X) o a s (sU S 6 (upd P (n - 1) 0))) h hE.1 7 rfl (by first | assumption | omega) (by decide) dX5_worked_124 rfl ?_
              refine g_goto h 158 dX5_worked_125 (by decide) ?_
              refine g_iincN (b := 1) (lv' := [(0, .ref o), (1, .int (nI u)), (2, .int (nI (182 + 125 * u))), (3, .int (nI n)), (4, .int (nI (i + 1))), (5, .int (s (182 + 125 * u + 1 + 2 * i))), (6, .int (s (182 + 125 * u + 2 + 2 * i)))]) h dX5_worked_158 rfl rfl (by decide) rfl ?_
              refine g_goto h 14 dX5_worked_161 (by decide) ?_
              refine g_lv (lv' := [(0, .ref o), (1, .int (nI u)), (2, .int (nI (182 + 125 * u))), (3, .int (nI n)), (4, .int (nI (i + 1)))]) (lvle_cons rfl (lvle_cons rfl (lvle_cons rfl (lvle_cons rfl (lvle_cons rfl (lvle_nil)))))) ?_
              exact ih_lp (i + 1) (by omega) (by omega) () n (upd P (n - 1) 0) (by rw [wkS_s]; unfold wkF; rw [if_neg c57, if_neg c63, if_pos c98, ← e0_lp]) (by rw [wkS_s]; unfold wkF; rw [if_neg c57, if_neg c63, if_pos c98, ← e0_lp]; exact wk_upd e1_lp (by rw [← e1_lp (n - 1) (by omega)]; simp [c116]) (fun j a b => by omega))
            · skip
              show G X 0 0 (mW (xT X) o a s (sU S 6 P)) 119 [(0, .ref o), (1, .int (nI u)), (2, .int (nI (182 + 125 * u))), (3, .int (nI n)), (4, .int (nI i)), (5, .int (s (182 + 125 * u + 1 + 2 * i))), (6, .int (s (182 + 125 * u + 2 + 2 * i)))] [.int (nI (n - 1)), .ref (a 6)]
              refine g_iconst (v := nI 1) h dX5_worked_119 (by decide) ?_
              refine g_goto h 124 dX5_worked_120 (by decide) ?_
              refine g_iast (ws' := mW (xT X) o a s (sU S 6 (upd P (n - 1) 1))) h hE.1 7 rfl (by first | assumption | omega) (by decide) dX5_worked_124 rfl ?_
              refine g_goto h 158 dX5_worked_125 (by decide) ?_
              refine g_iincN (b := 1) (lv' := [(0, .ref o), (1, .int (nI u)), (2, .int (nI (182 + 125 * u))), (3, .int (nI n)), (4, .int (nI (i + 1))), (5, .int (s (182 + 125 * u + 1 + 2 * i))), (6, .int (s (182 + 125 * u + 2 + 2 * i)))]) h dX5_worked_158 rfl rfl (by decide) rfl ?_
              refine g_goto h 14 dX5_worked_161 (by decide) ?_
              refine g_lv (lv' := [(0, .ref o), (1, .int (nI u)), (2, .int (nI (182 + 125 * u))), (3, .int (nI n)), (4, .int (nI (i + 1)))]) (lvle_cons rfl (lvle_cons rfl (lvle_cons rfl (lvle_cons rfl (lvle_cons rfl (lvle_nil)))))) ?_
              exact ih_lp (i + 1) (by omega) (by omega) () n (upd P (n - 1) 1) (by rw [wkS_s]; unfold wkF; rw [if_neg c57, if_neg c63, if_pos c98, ← e0_lp]) (by rw [wkS_s]; unfold wkF; rw [if_neg c57, if_neg c63, if_pos c98, ← e0_lp]; exact wk_upd e1_lp (by rw [← e1_lp (n - 1) (by omega)]; simp [c116]) (fun j a b => by omega))
        · skip
          show G X 0 0 (mW (xT X) o a s (sU S 6 P)) 66 [(0, .ref o), (1, .int (nI u)), (2, .int (nI (182 + 125 * u))), (3, .int (nI n)), (4, .int (nI i)), (5, .int (s (182 + 125 * u + 1 + 2 * i))), (6, .int (s (182 + 125 * u + 2 + 2 * i)))] []
          refine g_aload_n h dX5_worked_66 rfl ?_
          refine g_get h in_X5 0 rfl rfl 11 rfl q1385 rfl rfl dX5_worked_67 ?_
          refine g_iload_n h dX5_worked_70 rfl ?_
          refine g_iload h dX5_worked_71 rfl ?_
          refine g_if_ne h 81 dX5_worked_73 (by decide) (fun c73 => ?_) (fun c73 => ?_)
          · skip
            show G X 0 0 (mW (xT X) o a s (sU S 6 P)) 81 [(0, .ref o), (1, .int (nI u)), (2, .int (nI (182 + 125 * u))), (3, .int (nI n)), (4, .int (nI i)), (5, .int (s (182 + 125 * u + 1 + 2 * i))), (6, .int (s (182 + 125 * u + 2 + 2 * i)))] [.int (nI n), .ref (a 6)]
            refine g_aload_n h dX5_worked_81 rfl ?_
            refine g_get h in_X5 0 rfl rfl 10 rfl q1384 rfl rfl dX5_worked_82 ?_
            refine g_iload h dX5_worked_85 rfl ?_
            refine g_toN (a := nv (s (182 + 125 * u + 2 + 2 * i))) ((g2 (by assumption) (by assumption)).2) ?_
            have g5 := nmk_lt (g2 (by assumption) (by assumption)).1
            refine g_iald h 6 rfl (by first | assumption | omega) (by decide) dX5_worked_87 ?_
            refine g_toI (y := S 5 (nv (s (182 + 125 * u + 2 + 2 * i)))) (show (sU S 6 P) 5 (nv (s (182 + 125 * u + 2 + 2 * i))) = _ from rfl) ?_
            refine g_iast (ws' := mW (xT X) o a s (sU S 6 (upd P n (S 5 (nv (s (182 + 125 * u + 2 + 2 * i))))))) h hE.1 7 rfl (by first | assumption | omega) (by decide) dX5_worked_88 rfl ?_
            refine g_iincN (b := 1) (lv' := [(0, .ref o), (1, .int (nI u)), (2, .int (nI (182 + 125 * u))), (3, .int (nI (n + 1))), (4, .int (nI i)), (5, .int (s (182 + 125 * u + 1 + 2 * i))), (6, .int (s (182 + 125 * u + 2 + 2 * i)))]) h dX5_worked_89 rfl rfl (by decide) rfl ?_
            refine g_goto h 158 dX5_worked_92 (by decide) ?_
            refine g_iincN (b := 1) (lv' := [(0, .ref o), (1, .int (nI u)), (2, .int (nI (182 + 125 * u))), (3, .int (nI (n + 1))), (4, .int (nI (i + 1))), (5, .int (s (182 + 125 * u + 1 + 2 * i))), (6, .int (s (182 + 125 * u + 2 + 2 * i)))]) h dX5_worked_158 rfl rfl (by decide) rfl ?_
            refine g_goto h 14 dX5_worked_161 (by decide) ?_
            refine g_lv (lv' := [(0, .ref o), (1, .int (nI u)), (2, .int (nI (182 + 125 * u))), (3, .int (nI (n + 1))), (4, .int (nI (i + 1)))]) (lvle_cons rfl (lvle_cons rfl (lvle_cons rfl (lvle_cons rfl (lvle_cons rfl (lvle_nil)))))) ?_
            exact ih_lp (i + 1) (by omega) (by omega) () (n + 1) (upd P n (S 5 (nv (s (182 + 125 * u + 2 + 2 * i))))) (by rw [wkS_s]; unfold wkF; rw [if_neg c57, if_pos c63, ← e0_lp]) (by rw [wkS_s]; unfold wkF; rw [if_neg c57, if_pos c63, ← e0_lp]; exact wk_upd e1_lp (h3 _ (g2 c57 c63).1) (fun j a b => by omega))
          · skip
            show G X 0 0 (mW (xT X) o a s (sU S 6 P)) 76 [(0, .ref o), (1, .int (nI u)), (2, .int (nI (182 + 125 * u))), (3, .int (nI n)), (4, .int (nI i)), (5, .int (s (182 + 125 * u + 1 + 2 * i))), (6, .int (s (182 + 125 * u + 2 + 2 * i)))] [.int (nI n), .ref (a 6)]
            exact absurd c73 c57
  exact lp (0) (by omega) () 0 (S 6) rfl (fun j hj => absurd hj (by omega))
