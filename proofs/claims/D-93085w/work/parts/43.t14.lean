
theorem gy_X5_one : gY yX5_one RX5 0 := ⟨rfl, by decide +kernel, by decide +kernel, by decide +kernel⟩
theorem gy_X5_product : gY yX5_product RX5 0 := ⟨rfl, by decide +kernel, by decide +kernel, by decide +kernel⟩
theorem gy_X5_sum : gY yX5_sum RX5 0 := ⟨rfl, by decide +kernel, by decide +kernel, by decide +kernel⟩
theorem gy_X5_compared : gY yX5_compared RX5 0 := ⟨rfl, by decide +kernel, by decide +kernel, by decide +kernel⟩
theorem gy_X5_both : gY yX5_both RX5 0 := ⟨rfl, by decide +kernel, by decide +kernel, by decide +kernel⟩
theorem gy_X5_whole : gY yX5_whole RX5 0 := ⟨rfl, by decide +kernel, by decide +kernel, by decide +kernel⟩
set_option maxHeartbeats 4000000 in
set_option maxRecDepth 100000 in
theorem m5_one_0 (l : Launch) (D : va_G) (T : Nat → ClassId) (o : Nat) (a : Nat → Nat) (s : Nat → Int32) (S : Nat → Nat → Int32) (u : Nat) (p : PS) (h0 : Inv s) (h1 : u < 2) (h2 : At s 5 p) : MetW l D T yX5_one cX5_one 4 (some .boolean) 1 22 0 0 [.ref o] (mW T o a s (paS S u p)) (fun r_ w_ => r_ = some (.int (bI (((pOne u s 0) p).1))) ∧ (w_ = mW T o a s (paS S u (((pOne u s 0) p).2)))) := by
  refine metW (own := RX5) rfl (by decide) rfl (fun X h hl hDx hTx hnm hE => ?_)
  subst hl; subst hDx; subst hTx
  have hnp := h0.npl; have hnt := h0.ntl; have hnq := h0.nql
  have hnc := h0.ncl; have l0 := h2.1; have b0 := h2.2.1; have z0 := h2.2.2; have y0 := h2.st h0
  show G X 0 0 (mW (xT X) o a s (paS S u p)) 0 [(0, .ref o)] []
  refine g_aload_n h dX5_one_0 rfl ?_
  refine g_callVR h (m5_look _ _ _ o a s S u p h0 (by first | assumption | omega)) (fun _ q => q) 0 rfl rfl (lw_V q1586 q1588 qs54 q95 q1589) gy_X5_look ⟨Nat.le_of_ble_eq_true rfl, Nat.le_of_ble_eq_true rfl⟩ ⟨Nat.le_of_ble_eq_true rfl, Nat.le_of_ble_eq_true rfl⟩ rfl rfl (Nat.le_of_ble_eq_true rfl) dX5_one_1 ?_
  refine g_istore_n (lv' := [(0, .ref o), (1, .int (lk s p))]) h dX5_one_4 (by decide) rfl ?_
  refine g_aload_n h dX5_one_5 rfl ?_
  refine g_iload_n h dX5_one_6 rfl ?_
  refine g_callVR h (m5_isName _ _ _ o a s S u p (lk s p) (by first | assumption | omega)) (fun _ q => q) 0 rfl rfl (lw_V q1590 q1592 qs55 q95 q1593) gy_X5_isName ⟨Nat.le_of_ble_eq_true rfl, Nat.le_of_ble_eq_true rfl⟩ ⟨Nat.le_of_ble_eq_true rfl, Nat.le_of_ble_eq_true rfl⟩ rfl rfl (Nat.le_of_ble_eq_true rfl) dX5_one_7 ?_
  refine g_if_eqB h 31 dX5_one_10 (by decide) (fun c10 => ?_) (fun c10 => ?_)
  · skip
    show G X 0 0 (mW (xT X) o a s (paS S u p)) 31 [(0, .ref o), (1, .int (lk s p))] []
    refine g_iload_n h dX5_one_31 rfl ?_
    refine g_bipush (v := nI 48) h dX5_one_32 (by decide) ?_
    refine g_bipush (v := nI 57) h dX5_one_34 (by decide) ?_
    refine g_callSR h (m5_in _ _ _ (lk s p) 48 57 ) (fun _ q => nomatch q) (lw_S q1439 q1440 q95 q1441) gy_X5_in ⟨Nat.le_of_ble_eq_true rfl, Nat.le_of_ble_eq_true rfl⟩ ⟨Nat.le_of_ble_eq_true rfl, Nat.le_of_ble_eq_true rfl⟩ rfl rfl (Nat.le_of_ble_eq_true rfl) dX5_one_36 ?_
    refine g_if_eqB h 102 dX5_one_39 (by decide) (fun c39 => ?_) (fun c39 => ?_)
    · skip
      show G X 0 0 (mW (xT X) o a s (paS S u p)) 102 [(0, .ref o), (1, .int (lk s p))] []
      refine g_iload_n h dX5_one_102 rfl ?_
      refine g_bipush (v := nI 33) h dX5_one_103 (by decide) ?_
      refine g_toI (y := 33) rfl ?_
      refine g_icmp_ne h 142 dX5_one_105 (by decide) (fun c105 => ?_) (fun c105 => ?_)
      · skip
        show G X 0 0 (mW (xT X) o a s (paS S u p)) 142 [(0, .ref o), (1, .int (lk s p))] []
        refine g_iload_n h dX5_one_142 rfl ?_
        refine g_bipush (v := nI 40) h dX5_one_143 (by decide) ?_
        refine g_toI (y := 40) rfl ?_
        refine g_icmp_ne h 171 dX5_one_145 (by decide) (fun c145 => ?_) (fun c145 => ?_)
        · skip
          show G X 0 0 (mW (xT X) o a s (paS S u p)) 171 [(0, .ref o), (1, .int (lk s p))] []
          have e : (pOne u s 0) p = (false, p) := pOne_x0 c10 c39
          refine g_iconst (v := nI 0) h dX5_one_171 (by decide) ?_
          exact g_zretWv h hE dX5_one_172 (by rw [e]; rfl) (paW_eq (by rw [e]))
        · skip
          show G X 0 0 (mW (xT X) o a s (paS S u p)) 148 [(0, .ref o), (1, .int (lk s p))] []
          have e : (pOne u s 0) p = (false, p) := pOne_x0 c10 c39
          refine g_aload_n h dX5_one_148 rfl ?_
          refine g_callVW0 h hE (m5_opens_0 _ _ _ o a s S u p (by first | assumption | omega)) 0 rfl rfl (lw_V q1598 q1600 qs57 q95 q1601) gy_X5_opens ⟨Nat.le_of_ble_eq_true rfl, Nat.le_of_ble_eq_true rfl⟩ ⟨Nat.le_of_ble_eq_true rfl, Nat.le_of_ble_eq_true rfl⟩ rfl rfl (Nat.le_of_ble_eq_true rfl) dX5_one_149 (st' := [.int (bI false)]) rfl (fun _ e149 => ?_)
          subst e149
          refine g_if_eqB h 171 dX5_one_152 (by decide) (fun c152 => ?_) (fun c152 => ?_)
          · skip
            show G X 0 0 (mW (xT X) o a s (paS S u p)) 171 [(0, .ref o), (1, .int (lk s p))] []
            refine g_iconst (v := nI 0) h dX5_one_171 (by decide) ?_
            exact g_zretWv h hE dX5_one_172 (by rw [e]; rfl) (paW_eq (by rw [e]))
          · skip
            show G X 0 0 (mW (xT X) o a s (paS S u p)) 155 [(0, .ref o), (1, .int (lk s p))] []
            exact absurd c152 (by decide)
      · skip
        show G X 0 0 (mW (xT X) o a s (paS S u p)) 108 [(0, .ref o), (1, .int (lk s p))] []
        have e : (pOne u s 0) p = (false, p) := pOne_x0 c10 c39
        refine g_aload_n h dX5_one_108 rfl ?_
        refine g_callVW0 h hE (m5_opens_0 _ _ _ o a s S u p (by first | assumption | omega)) 0 rfl rfl (lw_V q1598 q1600 qs57 q95 q1601) gy_X5_opens ⟨Nat.le_of_ble_eq_true rfl, Nat.le_of_ble_eq_true rfl⟩ ⟨Nat.le_of_ble_eq_true rfl, Nat.le_of_ble_eq_true rfl⟩ rfl rfl (Nat.le_of_ble_eq_true rfl) dX5_one_109 (st' := [.int (bI false)]) rfl (fun _ e109 => ?_)
        subst e109
        refine g_if_eqB h 122 dX5_one_112 (by decide) (fun c112 => ?_) (fun c112 => ?_)
        · skip
          show G X 0 0 (mW (xT X) o a s (paS S u p)) 122 [(0, .ref o), (1, .int (lk s p))] []
          refine g_iconst (v := nI 0) h dX5_one_122 (by decide) ?_
          exact g_zretWv h hE dX5_one_123 (by rw [e]; rfl) (paW_eq (by rw [e]))
        · skip
          show G X 0 0 (mW (xT X) o a s (paS S u p)) 115 [(0, .ref o), (1, .int (lk s p))] []
          exact absurd c112 (by decide)
    · skip
      show G X 0 0 (mW (xT X) o a s (paS S u p)) 42 [(0, .ref o), (1, .int (lk s p))] []
      have e : (pOne u s 0) p = (true, lay2 0 (numR s 4 0 p).1 (numR s 4 0 p).2) := pOne_m c10 c39
      refine g_iconst (v := nI 0) h dX5_one_42 (by decide) ?_
      refine g_istore_n (lv' := [(0, .ref o), (1, .int (lk s p)), (2, .int (nI 0))]) h dX5_one_43 (by decide) rfl ?_
      refine g_iconst (v := nI 0) h dX5_one_44 (by decide) ?_
      refine g_istore_n (lv' := [(0, .ref o), (1, .int (lk s p)), (2, .int (nI 0)), (3, .int (nI 0))]) h dX5_one_45 (by decide) rfl ?_
      have lp : ∀ i, i ≤ 4 → ∀ (_u : Unit) (x : Int32) (q : PS), (numR s 4 0 p = numR s (4 - i) x q) → (q.1 ≤ nC s) → (q.2 = p.2) → G X 0 0 (mW (xT X) o a s (paS S u q)) 46 [(0, .ref o), (1, .int (lk s p)), (2, .int x), (3, .int (nI i))] [] := by
        refine g_ind (N := 4) (fun i hi_i ih_lp => ?_)
        intro _u x q e0_lp e1_lp e2_lp
        refine g_iload_n h dX5_one_46 rfl ?_
        refine g_iconst (v := nI 4) h dX5_one_47 (by decide) ?_
        refine g_icmp_geN h 94 dX5_one_48 (by decide) (by first | omega | decide) (by first | omega | decide) (fun c48 => ?_) (fun c48 => ?_)
        · skip
          show G X 0 0 (mW (xT X) o a s (paS S u q)) 94 [(0, .ref o), (1, .int (lk s p)), (2, .int x), (3, .int (nI i))] []
          have f : numR s 4 0 p = (x, q) := by first | exact e0_lp.trans (numR_e (by omega)) | exact e0_lp.trans (numR_f c62)
          rw [f] at e; have yq : q.2.2.1 < 62 := by rw [e2_lp]; exact y0
          refine g_aload_n h dX5_one_94 rfl ?_
          refine g_iconst (v := nI 0) h dX5_one_95 (by decide) ?_
          refine g_iload_n h dX5_one_96 rfl ?_
          refine g_callVW0 h hE (m5_lays _ _ _ o a s S u q 0 x (by first | assumption | omega)) 0 rfl rfl (lw_V q1594 q1596 qs56 q95 q1597) gy_X5_lays ⟨Nat.le_of_ble_eq_true rfl, Nat.le_of_ble_eq_true rfl⟩ ⟨Nat.le_of_ble_eq_true rfl, Nat.le_of_ble_eq_true rfl⟩ rfl rfl (Nat.le_of_ble_eq_true rfl) dX5_one_97 (st' := []) rfl (fun _ e97 => ?_)
          subst e97
          refine g_iconst (v := nI 1) h dX5_one_100 (by decide) ?_
          exact g_zretWv h hE dX5_one_101 (by rw [e]; rfl) (paW_eq (by rw [e]))
        · skip
          show G X 0 0 (mW (xT X) o a s (paS S u q)) 51 [(0, .ref o), (1, .int (lk s p)), (2, .int x), (3, .int (nI i))] []
          refine g_aload_n h dX5_one_51 rfl ?_
          refine g_callVR h (m5_look _ _ _ o a s S u q h0 (by first | assumption | omega)) (fun _ q => q) 0 rfl rfl (lw_V q1586 q1588 qs54 q95 q1589) gy_X5_look ⟨Nat.le_of_ble_eq_true rfl, Nat.le_of_ble_eq_true rfl⟩ ⟨Nat.le_of_ble_eq_true rfl, Nat.le_of_ble_eq_true rfl⟩ rfl rfl (Nat.le_of_ble_eq_true rfl) dX5_one_52 ?_
          refine g_bipush (v := nI 48) h dX5_one_55 (by decide) ?_
          refine g_bipush (v := nI 57) h dX5_one_57 (by decide) ?_
          refine g_callSR h (m5_in _ _ _ (lk s q) 48 57 ) (fun _ q => nomatch q) (lw_S q1439 q1440 q95 q1441) gy_X5_in ⟨Nat.le_of_ble_eq_true rfl, Nat.le_of_ble_eq_true rfl⟩ ⟨Nat.le_of_ble_eq_true rfl, Nat.le_of_ble_eq_true rfl⟩ rfl rfl (Nat.le_of_ble_eq_true rfl) dX5_one_59 ?_
          refine g_if_eqB h 94 dX5_one_62 (by decide) (fun c62 => ?_) (fun c62 => ?_)
          · skip
            show G X 0 0 (mW (xT X) o a s (paS S u q)) 94 [(0, .ref o), (1, .int (lk s p)), (2, .int x), (3, .int (nI i))] []
            have f : numR s 4 0 p = (x, q) := by first | exact e0_lp.trans (numR_e (by omega)) | exact e0_lp.trans (numR_f c62)
            rw [f] at e; have yq : q.2.2.1 < 62 := by rw [e2_lp]; exact y0
            refine g_aload_n h dX5_one_94 rfl ?_
            refine g_iconst (v := nI 0) h dX5_one_95 (by decide) ?_
            refine g_iload_n h dX5_one_96 rfl ?_
            refine g_callVW0 h hE (m5_lays _ _ _ o a s S u q 0 x (by first | assumption | omega)) 0 rfl rfl (lw_V q1594 q1596 qs56 q95 q1597) gy_X5_lays ⟨Nat.le_of_ble_eq_true rfl, Nat.le_of_ble_eq_true rfl⟩ ⟨Nat.le_of_ble_eq_true rfl, Nat.le_of_ble_eq_true rfl⟩ rfl rfl (Nat.le_of_ble_eq_true rfl) dX5_one_97 (st' := []) rfl (fun _ e97 => ?_)
            subst e97
            refine g_iconst (v := nI 1) h dX5_one_100 (by decide) ?_
            exact g_zretWv h hE dX5_one_101 (by rw [e]; rfl) (paW_eq (by rw [e]))
          · skip
            show G X 0 0 (mW (xT X) o a s (paS S u q)) 65 [(0, .ref o), (1, .int (lk s p)), (2, .int x), (3, .int (nI i))] []
            have hl := lk_lt (Q := fun c => inB c 48 57) (by decide) c62
            refine g_bipush (v := nI 10) h dX5_one_65 (by decide) ?_
            refine g_iload_n h dX5_one_67 rfl ?_
            refine g_toI2 (y := 10) rfl ?_
            refine g_imul h dX5_one_68 ?_
            refine g_aload_n h dX5_one_69 rfl ?_
            refine g_callVR h (m5_look _ _ _ o a s S u q h0 (by first | assumption | omega)) (fun _ q => q) 0 rfl rfl (lw_V q1586 q1588 qs54 q95 q1589) gy_X5_look ⟨Nat.le_of_ble_eq_true rfl, Nat.le_of_ble_eq_true rfl⟩ ⟨Nat.le_of_ble_eq_true rfl, Nat.le_of_ble_eq_true rfl⟩ rfl rfl (Nat.le_of_ble_eq_true rfl) dX5_one_70 ?_
            refine g_iadd h dX5_one_73 ?_
            refine g_bipush (v := nI 48) h dX5_one_74 (by decide) ?_
            refine g_toI (y := 48) rfl ?_
            refine g_isub h dX5_one_76 ?_
            refine g_istore_n (lv' := [(0, .ref o), (1, .int (lk s p)), (2, .int (((10 * x) + (lk s q)) - 48)), (3, .int (nI i))]) h dX5_one_77 (by decide) rfl ?_
            refine g_aload_n h dX5_one_78 rfl ?_
            refine g_dup h dX5_one_79 rfl ?_
            refine g_get h in_X5 0 rfl rfl 5 rfl q1379 rfl rfl dX5_one_80 ?_
            show G X 0 0 (mW (xT X) o a s (paS S u q)) 83 [(0, .ref o), (1, .int (lk s p)), (2, .int (((10 * x) + (lk s q)) - 48)), (3, .int (nI i))] [.int (nI q.1), .ref o]
            refine g_iconst (v := nI 1) h dX5_one_83 (by decide) ?_
            refine g_iaddN h dX5_one_84 ?_
            refine g_put (ws' := mW (xT X) o a s (paS S u (adv q))) h hE.1 in_X5 tyX5 tyX5_ok nmX5 0 rfl rfl 5 rfl q1379 rfl rfl rfl rfl rfl rfl dX5_one_85 rfl ?_
            refine g_iincN (b := 1) (lv' := [(0, .ref o), (1, .int (lk s p)), (2, .int (((10 * x) + (lk s q)) - 48)), (3, .int (nI (i + 1)))]) h dX5_one_88 rfl rfl (by decide) rfl ?_
            refine g_goto h 46 dX5_one_91 (by decide) ?_
            exact ih_lp (i + 1) (by omega) (by omega) () (((10 * x) + (lk s q)) - 48) (adv q) (e0_lp.trans (numR_t (by omega) c62)) hl e2_lp
      exact lp (0) (by omega) () 0 p rfl l0 rfl
  · skip
    show G X 0 0 (mW (xT X) o a s (paS S u p)) 13 [(0, .ref o), (1, .int (lk s p))] []
    have e : (pOne u s 0) p = (true, lay2 1 (lk s p) (adv p)) := pOne_n c10; have hl := lk_lt (isNm_0 h1) c10; have a2 := (h2.adv hl).st h0
    refine g_aload_n h dX5_one_13 rfl ?_
    refine g_dup h dX5_one_14 rfl ?_
    refine g_get h in_X5 0 rfl rfl 5 rfl q1379 rfl rfl dX5_one_15 ?_
    show G X 0 0 (mW (xT X) o a s (paS S u p)) 18 [(0, .ref o), (1, .int (lk s p))] [.int (nI p.1), .ref o]
    refine g_iconst (v := nI 1) h dX5_one_18 (by decide) ?_
    refine g_iaddN h dX5_one_19 ?_
    refine g_put (ws' := mW (xT X) o a s (paS S u (adv p))) h hE.1 in_X5 tyX5 tyX5_ok nmX5 0 rfl rfl 5 rfl q1379 rfl rfl rfl rfl rfl rfl dX5_one_20 rfl ?_
    refine g_aload_n h dX5_one_23 rfl ?_
    refine g_iconst (v := nI 1) h dX5_one_24 (by decide) ?_
    refine g_iload_n h dX5_one_25 rfl ?_
    refine g_callVW0 h hE (m5_lays _ _ _ o a s S u (adv p) 1 (lk s p) (by first | assumption | omega)) 0 rfl rfl (lw_V q1594 q1596 qs56 q95 q1597) gy_X5_lays ⟨Nat.le_of_ble_eq_true rfl, Nat.le_of_ble_eq_true rfl⟩ ⟨Nat.le_of_ble_eq_true rfl, Nat.le_of_ble_eq_true rfl⟩ rfl rfl (Nat.le_of_ble_eq_true rfl) dX5_one_26 (st' := []) rfl (fun _ e26 => ?_)
    subst e26
    refine g_iconst (v := nI 1) h dX5_one_29 (by decide) ?_
    exact g_zretWv h hE dX5_one_30 (by rw [e]; rfl) (paW_eq (by rw [e]))
set_option maxHeartbeats 4000000 in
set_option maxRecDepth 100000 in
theorem m5_product_0 (l : Launch) (D : va_G) (T : Nat → ClassId) (o : Nat) (a : Nat → Nat) (s : Nat → Int32) (S : Nat → Nat → Int32) (u : Nat) (p : PS) (h0 : Inv s) (h1 : u < 2) (h2 : At s 5 p) : MetW l D T yX5_product cX5_product 2 (some .boolean) 2 45 0 0 [.ref o] (mW T o a s (paS S u p)) (fun r_ w_ => r_ = some (.int (bI (((pProd (pOne u s 0) s) p).1))) ∧ (w_ = mW T o a s (paS S u (((pProd (pOne u s 0) s) p).2)))) := by
  refine metW (own := RX5) rfl (by decide) rfl (fun X h hl hDx hTx hnm hE => ?_)
  subst hl; subst hDx; subst hTx
  have hnp := h0.npl; have hnt := h0.ntl; have hnq := h0.nql
  have hnc := h0.ncl; have l0 := h2.1; have b0 := h2.2.1; have z0 := h2.2.2; have y0 := h2.st h0
  show G X 0 0 (mW (xT X) o a s (paS S u p)) 0 [(0, .ref o)] []
  refine g_aload_n h dX5_product_0 rfl ?_
  refine g_callVW0 h hE (m5_one_0 _ _ _ o a s S u p h0 (by first | assumption | omega) (by first | assumption | omega)) 0 rfl rfl (lw_V q1582 q1584 qs53 q95 q1585) gy_X5_one ⟨Nat.le_of_ble_eq_true rfl, Nat.le_of_ble_eq_true rfl⟩ ⟨Nat.le_of_ble_eq_true rfl, Nat.le_of_ble_eq_true rfl⟩ rfl rfl (Nat.le_of_ble_eq_true rfl) dX5_product_1 (st' := [.int (bI (((pOne u s 0) p).1))]) rfl (fun _ e1 => ?_)
  subst e1
  show G X 0 0 (mW (xT X) o a s (paS S u (((pOne u s 0) p).2))) 4 [(0, .ref o)] [.int (bI (((pOne u s 0) p).1))]
  generalize er1 : (pOne u s 0) p = r1
  refine g_if_neB h 9 dX5_product_4 (by decide) (fun c4 => ?_) (fun c4 => ?_)
  · skip
    show G X 0 0 (mW (xT X) o a s (paS S u r1.2)) 9 [(0, .ref o)] []
    have a0 : At s 5 r1.2 := (by subst er1; exact h2.ok ((pOne_ok u s 0) p l0) c4); have l1 := a0.1
    have lw : ∀ q_ : (PS) × (Nat), (match q_ with | (q, m) => ((pProd (pOne u s 0) s) p = pR (pOne u s 0) s isMul m q) → (At s 5 q) → (nC s - q.1 < m) → G X 0 0 (mW (xT X) o a s (paS S u q)) 9 [(0, .ref o)] []) := by
      refine g_rec (fun q_ => match q_ with | (q, m) => m) ?_
      rintro ⟨q, m⟩ ih_lw e0_lw e1_lw e2_lw
      skip
      have a1 := e1_lw; have l2 := a1.1; have y2 := a1.st h0
      refine g_aload_n h dX5_product_9 rfl ?_
      refine g_callVR h (m5_look _ _ _ o a s S u q h0 (by first | assumption | omega)) (fun _ q => q) 0 rfl rfl (lw_V q1586 q1588 qs54 q95 q1589) gy_X5_look ⟨Nat.le_of_ble_eq_true rfl, Nat.le_of_ble_eq_true rfl⟩ ⟨Nat.le_of_ble_eq_true rfl, Nat.le_of_ble_eq_true rfl⟩ rfl rfl (Nat.le_of_ble_eq_true rfl) dX5_product_10 ?_
      refine g_bipush (v := nI 42) h dX5_product_13 (by decide) ?_
      refine g_toI (y := 42) rfl ?_
      refine g_icmp_eq h 36 dX5_product_15 (by decide) (fun c15 => ?_) (fun c15 => ?_)
      · skip
        show G X 0 0 (mW (xT X) o a s (paS S u q)) 36 [(0, .ref o)] []
        have hq : isMul (lk s q) = true := by simp [isMul, c15]
        have hl := lk_lt (by decide) hq; obtain ⟨m0, rfl⟩ : ∃ k, m = k + 1 := ⟨m - 1, by omega⟩; have a2 := a1.adv hl
        refine g_aload_n h dX5_product_36 rfl ?_
        refine g_callVR h (m5_look _ _ _ o a s S u q h0 (by first | assumption | omega)) (fun _ q => q) 0 rfl rfl (lw_V q1586 q1588 qs54 q95 q1589) gy_X5_look ⟨Nat.le_of_ble_eq_true rfl, Nat.le_of_ble_eq_true rfl⟩ ⟨Nat.le_of_ble_eq_true rfl, Nat.le_of_ble_eq_true rfl⟩ rfl rfl (Nat.le_of_ble_eq_true rfl) dX5_product_37 ?_
        refine g_istore_n (lv' := [(0, .ref o), (1, .int (lk s q))]) h dX5_product_40 (by decide) rfl ?_
        refine g_aload_n h dX5_product_41 rfl ?_
        refine g_dup h dX5_product_42 rfl ?_
        refine g_get h in_X5 0 rfl rfl 5 rfl q1379 rfl rfl dX5_product_43 ?_
        show G X 0 0 (mW (xT X) o a s (paS S u q)) 46 [(0, .ref o), (1, .int (lk s q))] [.int (nI q.1), .ref o]
        refine g_iconst (v := nI 1) h dX5_product_46 (by decide) ?_
        refine g_iaddN h dX5_product_47 ?_
        refine g_put (ws' := mW (xT X) o a s (paS S u (adv q))) h hE.1 in_X5 tyX5 tyX5_ok nmX5 0 rfl rfl 5 rfl q1379 rfl rfl rfl rfl rfl rfl dX5_product_48 rfl ?_
        refine g_aload_n h dX5_product_51 rfl ?_
        refine g_callVW0 h hE (m5_one_0 _ _ _ o a s S u (adv q) h0 (by first | assumption | omega) (by first | assumption | omega)) 0 rfl rfl (lw_V q1582 q1584 qs53 q95 q1585) gy_X5_one ⟨Nat.le_of_ble_eq_true rfl, Nat.le_of_ble_eq_true rfl⟩ ⟨Nat.le_of_ble_eq_true rfl, Nat.le_of_ble_eq_true rfl⟩ rfl rfl (Nat.le_of_ble_eq_true rfl) dX5_product_52 (st' := [.int (bI (((pOne u s 0) (adv q)).1))]) rfl (fun _ e52 => ?_)
        subst e52
        show G X 0 0 (mW (xT X) o a s (paS S u (((pOne u s 0) (adv q)).2))) 55 [(0, .ref o), (1, .int (lk s q))] [.int (bI (((pOne u s 0) (adv q)).1))]
        generalize er52 : (pOne u s 0) (adv q) = r52
        refine g_if_neB h 60 dX5_product_55 (by decide) (fun c55 => ?_) (fun c55 => ?_)
        · skip
          show G X 0 0 (mW (xT X) o a s (paS S u r52.2)) 60 [(0, .ref o), (1, .int (lk s q))] []
          have n0 : OKp s q (true, lay2 3 (lk s q) r52.2) := (by subst er52; exact adv_ok (pOne_ok u s 0) 3 (lk s q) hl c55); have n1 := At.ok a1 n0 rfl; have n2 : At s 5 r52.2 := (by subst er52; exact At.ok a2 ((pOne_ok u s 0) (adv q) a2.1) c55); have n3 := n2.st h0
          refine g_aload_n h dX5_product_60 rfl ?_
          refine g_iconst (v := nI 3) h dX5_product_61 (by decide) ?_
          refine g_iload_n h dX5_product_62 rfl ?_
          refine g_callVW0 h hE (m5_lays _ _ _ o a s S u r52.2 3 (lk s q) (by first | assumption | omega)) 0 rfl rfl (lw_V q1594 q1596 qs56 q95 q1597) gy_X5_lays ⟨Nat.le_of_ble_eq_true rfl, Nat.le_of_ble_eq_true rfl⟩ ⟨Nat.le_of_ble_eq_true rfl, Nat.le_of_ble_eq_true rfl⟩ rfl rfl (Nat.le_of_ble_eq_true rfl) dX5_product_63 (st' := []) rfl (fun _ e63 => ?_)
          subst e63
          refine g_goto h 9 dX5_product_66 (by decide) ?_
          refine g_lv (lv' := [(0, .ref o)]) (lvle_cons rfl (lvle_nil)) ?_
          exact ih_lw (lay2 3 (lk s q) r52.2, m0) (by show m0 < m0 + 1; omega) (by subst er52; exact e0_lw.trans (pR_t hq c55)) n1 (by subst er52; exact mu_ok ((pOne_ok u s 0) (adv q) a2.1) hl e2_lw)
        · skip
          show G X 0 0 (mW (xT X) o a s (paS S u r52.2)) 58 [(0, .ref o), (1, .int (lk s q))] []
          have e : (pProd (pOne u s 0) s) p = (false, r52.2) := (by subst er52; exact e0_lw.trans (pR_f hq c55))
          refine g_iconst (v := nI 0) h dX5_product_58 (by decide) ?_
          exact g_zretWv h hE dX5_product_59 (by rw [e]; rfl) (paW_eq (by rw [e]))
      · skip
        show G X 0 0 (mW (xT X) o a s (paS S u q)) 18 [(0, .ref o)] []
        refine g_aload_n h dX5_product_18 rfl ?_
        refine g_callVR h (m5_look _ _ _ o a s S u q h0 (by first | assumption | omega)) (fun _ q => q) 0 rfl rfl (lw_V q1586 q1588 qs54 q95 q1589) gy_X5_look ⟨Nat.le_of_ble_eq_true rfl, Nat.le_of_ble_eq_true rfl⟩ ⟨Nat.le_of_ble_eq_true rfl, Nat.le_of_ble_eq_true rfl⟩ rfl rfl (Nat.le_of_ble_eq_true rfl) dX5_product_19 ?_
        refine g_bipush (v := nI 47) h dX5_product_22 (by decide) ?_
        refine g_toI (y := 47) rfl ?_
        refine g_icmp_eq h 36 dX5_product_24 (by decide) (fun c24 => ?_) (fun c24 => ?_)
        · skip
          show G X 0 0 (mW (xT X) o a s (paS S u q)) 36 [(0, .ref o)] []
          have hq : isMul (lk s q) = true := by simp [isMul, c15, c24]
          have hl := lk_lt (by decide) hq; obtain ⟨m0, rfl⟩ : ∃ k, m = k + 1 := ⟨m - 1, by omega⟩; have a2 := a1.adv hl
          refine g_aload_n h dX5_product_36 rfl ?_
          refine g_callVR h (m5_look _ _ _ o a s S u q h0 (by first | assumption | omega)) (fun _ q => q) 0 rfl rfl (lw_V q1586 q1588 qs54 q95 q1589) gy_X5_look ⟨Nat.le_of_ble_eq_true rfl, Nat.le_of_ble_eq_true rfl⟩ ⟨Nat.le_of_ble_eq_true rfl, Nat.le_of_ble_eq_true rfl⟩ rfl rfl (Nat.le_of_ble_eq_true rfl) dX5_product_37 ?_
          refine g_istore_n (lv' := [(0, .ref o), (1, .int (lk s q))]) h dX5_product_40 (by decide) rfl ?_
          refine g_aload_n h dX5_product_41 rfl ?_
          refine g_dup h dX5_product_42 rfl ?_
          refine g_get h in_X5 0 rfl rfl 5 rfl q1379 rfl rfl dX5_product_43 ?_
          show G X 0 0 (mW (xT X) o a s (paS S u q)) 46 [(0, .ref o), (1, .int (lk s q))] [.int (nI q.1), .ref o]
          refine g_iconst (v := nI 1) h dX5_product_46 (by decide) ?_
          refine g_iaddN h dX5_product_47 ?_
          refine g_put (ws' := mW (xT X) o a s (paS S u (adv q))) h hE.1 in_X5 tyX5 tyX5_ok nmX5 0 rfl rfl 5 rfl q1379 rfl rfl rfl rfl rfl rfl dX5_product_48 rfl ?_
          refine g_aload_n h dX5_product_51 rfl ?_
          refine g_callVW0 h hE (m5_one_0 _ _ _ o a s S u (adv q) h0 (by first | assumption | omega) (by first | assumption | omega)) 0 rfl rfl (lw_V q1582 q1584 qs53 q95 q1585) gy_X5_one ⟨Nat.le_of_ble_eq_true rfl, Nat.le_of_ble_eq_true rfl⟩ ⟨Nat.le_of_ble_eq_true rfl, Nat.le_of_ble_eq_true rfl⟩ rfl rfl (Nat.le_of_ble_eq_true rfl) dX5_product_52 (st' := [.int (bI (((pOne u s 0) (adv q)).1))]) rfl (fun _ e52 => ?_)
          subst e52
          show G X 0 0 (mW (xT X) o a s (paS S u (((pOne u s 0) (adv q)).2))) 55 [(0, .ref o), (1, .int (lk s q))] [.int (bI (((pOne u s 0) (adv q)).1))]
          generalize er52 : (pOne u s 0) (adv q) = r52
          refine g_if_neB h 60 dX5_product_55 (by decide) (fun c55 => ?_) (fun c55 => ?_)
          · skip
            show G X 0 0 (mW (xT X) o a s (paS S u r52.2)) 60 [(0, .ref o), (1, .int (lk s q))] []
            have n0 : OKp s q (true, lay2 3 (lk s q) r52.2) := (by subst er52; exact adv_ok (pOne_ok u s 0) 3 (lk s q) hl c55); have n1 := At.ok a1 n0 rfl; have n2 : At s 5 r52.2 := (by subst er52; exact At.ok a2 ((pOne_ok u s 0) (adv q) a2.1) c55); have n3 := n2.st h0
            refine g_aload_n h dX5_product_60 rfl ?_
            refine g_iconst (v := nI 3) h dX5_product_61 (by decide) ?_
            refine g_iload_n h dX5_product_62 rfl ?_
            refine g_callVW0 h hE (m5_lays _ _ _ o a s S u r52.2 3 (lk s q) (by first | assumption | omega)) 0 rfl rfl (lw_V q1594 q1596 qs56 q95 q1597) gy_X5_lays ⟨Nat.le_of_ble_eq_true rfl, Nat.le_of_ble_eq_true rfl⟩ ⟨Nat.le_of_ble_eq_true rfl, Nat.le_of_ble_eq_true rfl⟩ rfl rfl (Nat.le_of_ble_eq_true rfl) dX5_product_63 (st' := []) rfl (fun _ e63 => ?_)
            subst e63
            refine g_goto h 9 dX5_product_66 (by decide) ?_
            refine g_lv (lv' := [(0, .ref o)]) (lvle_cons rfl (lvle_nil)) ?_
            exact ih_lw (lay2 3 (lk s q) r52.2, m0) (by show m0 < m0 + 1; omega) (by subst er52; exact e0_lw.trans (pR_t hq c55)) n1 (by subst er52; exact mu_ok ((pOne_ok u s 0) (adv q) a2.1) hl e2_lw)
          · skip
            show G X 0 0 (mW (xT X) o a s (paS S u r52.2)) 58 [(0, .ref o), (1, .int (lk s q))] []
            have e : (pProd (pOne u s 0) s) p = (false, r52.2) := (by subst er52; exact e0_lw.trans (pR_f hq c55))
            refine g_iconst (v := nI 0) h dX5_product_58 (by decide) ?_
            exact g_zretWv h hE dX5_product_59 (by rw [e]; rfl) (paW_eq (by rw [e]))
        · skip
          show G X 0 0 (mW (xT X) o a s (paS S u q)) 27 [(0, .ref o)] []
          refine g_aload_n h dX5_product_27 rfl ?_
          refine g_callVR h (m5_look _ _ _ o a s S u q h0 (by first | assumption | omega)) (fun _ q => q) 0 rfl rfl (lw_V q1586 q1588 qs54 q95 q1589) gy_X5_look ⟨Nat.le_of_ble_eq_true rfl, Nat.le_of_ble_eq_true rfl⟩ ⟨Nat.le_of_ble_eq_true rfl, Nat.le_of_ble_eq_true rfl⟩ rfl rfl (Nat.le_of_ble_eq_true rfl) dX5_product_28 ?_
          refine g_bipush (v := nI 37) h dX5_product_31 (by decide) ?_
          refine g_toI (y := 37) rfl ?_
          refine g_icmp_ne h 69 dX5_product_33 (by decide) (fun c33 => ?_) (fun c33 => ?_)
          · skip
            show G X 0 0 (mW (xT X) o a s (paS S u q)) 69 [(0, .ref o)] []
            have hq : isMul (lk s q) = false := by simp [isMul, c15, c24, c33]
            have e : (pProd (pOne u s 0) s) p = (true, q) := e0_lw.trans (pR_n hq)
            refine g_iconst (v := nI 1) h dX5_product_69 (by decide) ?_
            exact g_zretWv h hE dX5_product_70 (by rw [e]; rfl) (paW_eq (by rw [e]))
          · skip
            show G X 0 0 (mW (xT X) o a s (paS S u q)) 36 [(0, .ref o)] []
            have hq : isMul (lk s q) = true := by simp [isMul, c15, c24, c33]
            have hl := lk_lt (by decide) hq; obtain ⟨m0, rfl⟩ : ∃ k, m = k + 1 := ⟨m - 1, by omega⟩; have a2 := a1.adv hl
            refine g_aload_n h dX5_product_36 rfl ?_
            refine g_callVR h (m5_look _ _ _ o a s S u q h0 (by first | assumption | omega)) (fun _ q => q) 0 rfl rfl (lw_V q1586 q1588 qs54 q95 q1589) gy_X5_look ⟨Nat.le_of_ble_eq_true rfl, Nat.le_of_ble_eq_true rfl⟩ ⟨Nat.le_of_ble_eq_true rfl, Nat.le_of_ble_eq_true rfl⟩ rfl rfl (Nat.le_of_ble_eq_true rfl) dX5_product_37 ?_
            refine g_istore_n (lv' := [(0, .ref o), (1, .int (lk s q))]) h dX5_product_40 (by decide) rfl ?_
            refine g_aload_n h dX5_product_41 rfl ?_
            refine g_dup h dX5_product_42 rfl ?_
            refine g_get h in_X5 0 rfl rfl 5 rfl q1379 rfl rfl dX5_product_43 ?_
            show G X 0 0 (mW (xT X) o a s (paS S u q)) 46 [(0, .ref o), (1, .int (lk s q))] [.int (nI q.1), .ref o]
            refine g_iconst (v := nI 1) h dX5_product_46 (by decide) ?_
            refine g_iaddN h dX5_product_47 ?_
            refine g_put (ws' := mW (xT X) o a s (paS S u (adv q))) h hE.1 in_X5 tyX5 tyX5_ok nmX5 0 rfl rfl 5 rfl q1379 rfl rfl rfl rfl rfl rfl dX5_product_48 rfl ?_
            refine g_aload_n h dX5_product_51 rfl ?_
            refine g_callVW0 h hE (m5_one_0 _ _ _ o a s S u (adv q) h0 (by first | assumption | omega) (by first | assumption | omega)) 0 rfl rfl (lw_V q1582 q1584 qs53 q95 q1585) gy_X5_one ⟨Nat.le_of_ble_eq_true rfl, Nat.le_of_ble_eq_true rfl⟩ ⟨Nat.le_of_ble_eq_true rfl, Nat.le_of_ble_eq_true rfl⟩ rfl rfl (Nat.le_of_ble_eq_true rfl) dX5_product_52 (st' := [.int (bI (((pOne u s 0) (adv q)).1))]) rfl (fun _ e52 => ?_)
            subst e52
            show G X 0 0 (mW (xT X) o a s (paS S u (((pOne u s 0) (adv q)).2))) 55 [(0, .ref o), (1, .int (lk s q))] [.int (bI (((pOne u s 0) (adv q)).1))]
            generalize er52 : (pOne u s 0) (adv q) = r52
            refine g_if_neB h 60 dX5_product_55 (by decide) (fun c55 => ?_) (fun c55 => ?_)
            · skip
              show G X 0 0 (mW (xT X) o a s (paS S u r52.2)) 60 [(0, .ref o), (1, .int (lk s q))] []
              have n0 : OKp s q (true, lay2 3 (lk s q) r52.2) := (by subst er52; exact adv_ok (pOne_ok u s 0) 3 (lk s q) hl c55); have n1 := At.ok a1 n0 rfl; have n2 : At s 5 r52.2 := (by subst er52; exact At.ok a2 ((pOne_ok u s 0) (adv q) a2.1) c55); have n3 := n2.st h0
              refine g_aload_n h dX5_product_60 rfl ?_
              refine g_iconst (v := nI 3) h dX5_product_61 (by decide) ?_
              refine g_iload_n h dX5_product_62 rfl ?_
              refine g_callVW0 h hE (m5_lays _ _ _ o a s S u r52.2 3 (lk s q) (by first | assumption | omega)) 0 rfl rfl (lw_V q1594 q1596 qs56 q95 q1597) gy_X5_lays ⟨Nat.le_of_ble_eq_true rfl, Nat.le_of_ble_eq_true rfl⟩ ⟨Nat.le_of_ble_eq_true rfl, Nat.le_of_ble_eq_true rfl⟩ rfl rfl (Nat.le_of_ble_eq_true rfl) dX5_product_63 (st' := []) rfl (fun _ e63 => ?_)
              subst e63
              refine g_goto h 9 dX5_product_66 (by decide) ?_
              refine g_lv (lv' := [(0, .ref o)]) (lvle_cons rfl (lvle_nil)) ?_
              exact ih_lw (lay2 3 (lk s q) r52.2, m0) (by show m0 < m0 + 1; omega) (by subst er52; exact e0_lw.trans (pR_t hq c55)) n1 (by subst er52; exact mu_ok ((pOne_ok u s 0) (adv q) a2.1) hl e2_lw)
            · skip
              show G X 0 0 (mW (xT X) o a s (paS S u r52.2)) 58 [(0, .ref o), (1, .int (lk s q))] []
              have e : (pProd (pOne u s 0) s) p = (false, r52.2) := (by subst er52; exact e0_lw.trans (pR_f hq c55))
              refine g_iconst (v := nI 0) h dX5_product_58 (by decide) ?_
              exact g_zretWv h hE dX5_product_59 (by rw [e]; rfl) (paW_eq (by rw [e]))
    exact lw (r1.2, 61) (by subst er1; exact pProd_t c4) a0 (by omega)
  · skip
    show G X 0 0 (mW (xT X) o a s (paS S u r1.2)) 7 [(0, .ref o)] []
    have e : (pProd (pOne u s 0) s) p = (false, r1.2) := (by subst er1; exact pProd_f c4)
    refine g_iconst (v := nI 0) h dX5_product_7 (by decide) ?_
    exact g_zretWv h hE dX5_product_8 (by rw [e]; rfl) (paW_eq (by rw [e]))
set_option maxHeartbeats 4000000 in
set_option maxRecDepth 100000 in
theorem m5_sum_0 (l : Launch) (D : va_G) (T : Nat → ClassId) (o : Nat) (a : Nat → Nat) (s : Nat → Int32) (S : Nat → Nat → Int32) (u : Nat) (p : PS) (h0 : Inv s) (h1 : u < 2) (h2 : At s 5 p) : MetW l D T yX5_sum cX5_sum 2 (some .boolean) 3 66 0 0 [.ref o] (mW T o a s (paS S u p)) (fun r_ w_ => r_ = some (.int (bI (((pSum (pOne u s 0) s) p).1))) ∧ (w_ = mW T o a s (paS S u (((pSum (pOne u s 0) s) p).2)))) := by
  refine metW (own := RX5) rfl (by decide) rfl (fun X h hl hDx hTx hnm hE => ?_)
  subst hl; subst hDx; subst hTx
  have hnp := h0.npl; have hnt := h0.ntl; have hnq := h0.nql
  have hnc := h0.ncl; have l0 := h2.1; have b0 := h2.2.1; have z0 := h2.2.2; have y0 := h2.st h0
  show G X 0 0 (mW (xT X) o a s (paS S u p)) 0 [(0, .ref o)] []
  refine g_aload_n h dX5_sum_0 rfl ?_
  refine g_callVW0 h hE (m5_product_0 _ _ _ o a s S u p h0 (by first | assumption | omega) (by first | assumption | omega)) 0 rfl rfl (lw_V q1578 q1580 qs52 q95 q1581) gy_X5_product ⟨Nat.le_of_ble_eq_true rfl, Nat.le_of_ble_eq_true rfl⟩ ⟨Nat.le_of_ble_eq_true rfl, Nat.le_of_ble_eq_true rfl⟩ rfl rfl (Nat.le_of_ble_eq_true rfl) dX5_sum_1 (st' := [.int (bI (((pProd (pOne u s 0) s) p).1))]) rfl (fun _ e1 => ?_)
  subst e1
  show G X 0 0 (mW (xT X) o a s (paS S u (((pProd (pOne u s 0) s) p).2))) 4 [(0, .ref o)] [.int (bI (((pProd (pOne u s 0) s) p).1))]
  generalize er1 : (pProd (pOne u s 0) s) p = r1
  refine g_if_neB h 9 dX5_sum_4 (by decide) (fun c4 => ?_) (fun c4 => ?_)
  · skip
    show G X 0 0 (mW (xT X) o a s (paS S u r1.2)) 9 [(0, .ref o)] []
    have a0 : At s 5 r1.2 := (by subst er1; exact h2.ok ((pProd_ok (pOne_ok u s 0)) p l0) c4); have l1 := a0.1
    have lw : ∀ q_ : (PS) × (Nat), (match q_ with | (q, m) => ((pSum (pOne u s 0) s) p = pR (pProd (pOne u s 0) s) s isAdd m q) → (At s 5 q) → (nC s - q.1 < m) → G X 0 0 (mW (xT X) o a s (paS S u q)) 9 [(0, .ref o)] []) := by
      refine g_rec (fun q_ => match q_ with | (q, m) => m) ?_
      rintro ⟨q, m⟩ ih_lw e0_lw e1_lw e2_lw
      skip
      have a1 := e1_lw; have l2 := a1.1; have y2 := a1.st h0
      refine g_aload_n h dX5_sum_9 rfl ?_
      refine g_callVR h (m5_look _ _ _ o a s S u q h0 (by first | assumption | omega)) (fun _ q => q) 0 rfl rfl (lw_V q1586 q1588 qs54 q95 q1589) gy_X5_look ⟨Nat.le_of_ble_eq_true rfl, Nat.le_of_ble_eq_true rfl⟩ ⟨Nat.le_of_ble_eq_true rfl, Nat.le_of_ble_eq_true rfl⟩ rfl rfl (Nat.le_of_ble_eq_true rfl) dX5_sum_10 ?_
      refine g_bipush (v := nI 43) h dX5_sum_13 (by decide) ?_
      refine g_toI (y := 43) rfl ?_
      refine g_icmp_eq h 27 dX5_sum_15 (by decide) (fun c15 => ?_) (fun c15 => ?_)
      · skip
        show G X 0 0 (mW (xT X) o a s (paS S u q)) 27 [(0, .ref o)] []
        have hq : isAdd (lk s q) = true := by simp [isAdd, c15]
        have hl := lk_lt (by decide) hq; obtain ⟨m0, rfl⟩ : ∃ k, m = k + 1 := ⟨m - 1, by omega⟩; have a2 := a1.adv hl
        refine g_aload_n h dX5_sum_27 rfl ?_
        refine g_callVR h (m5_look _ _ _ o a s S u q h0 (by first | assumption | omega)) (fun _ q => q) 0 rfl rfl (lw_V q1586 q1588 qs54 q95 q1589) gy_X5_look ⟨Nat.le_of_ble_eq_true rfl, Nat.le_of_ble_eq_true rfl⟩ ⟨Nat.le_of_ble_eq_true rfl, Nat.le_of_ble_eq_true rfl⟩ rfl rfl (Nat.le_of_ble_eq_true rfl) dX5_sum_28 ?_
        refine g_istore_n (lv' := [(0, .ref o), (1, .int (lk s q))]) h dX5_sum_31 (by decide) rfl ?_
        refine g_aload_n h dX5_sum_32 rfl ?_
        refine g_dup h dX5_sum_33 rfl ?_
        refine g_get h in_X5 0 rfl rfl 5 rfl q1379 rfl rfl dX5_sum_34 ?_
        show G X 0 0 (mW (xT X) o a s (paS S u q)) 37 [(0, .ref o), (1, .int (lk s q))] [.int (nI q.1), .ref o]
        refine g_iconst (v := nI 1) h dX5_sum_37 (by decide) ?_
        refine g_iaddN h dX5_sum_38 ?_
        refine g_put (ws' := mW (xT X) o a s (paS S u (adv q))) h hE.1 in_X5 tyX5 tyX5_ok nmX5 0 rfl rfl 5 rfl q1379 rfl rfl rfl rfl rfl rfl dX5_sum_39 rfl ?_
        refine g_aload_n h dX5_sum_42 rfl ?_
        refine g_callVW0 h hE (m5_product_0 _ _ _ o a s S u (adv q) h0 (by first | assumption | omega) (by first | assumption | omega)) 0 rfl rfl (lw_V q1578 q1580 qs52 q95 q1581) gy_X5_product ⟨Nat.le_of_ble_eq_true rfl, Nat.le_of_ble_eq_true rfl⟩ ⟨Nat.le_of_ble_eq_true rfl, Nat.le_of_ble_eq_true rfl⟩ rfl rfl (Nat.le_of_ble_eq_true rfl) dX5_sum_43 (st' := [.int (bI (((pProd (pOne u s 0) s) (adv q)).1))]) rfl (fun _ e43 => ?_)
        subst e43
        show G X 0 0 (mW (xT X) o a s (paS S u (((pProd (pOne u s 0) s) (adv q)).2))) 46 [(0, .ref o), (1, .int (lk s q))] [.int (bI (((pProd (pOne u s 0) s) (adv q)).1))]
        generalize er43 : (pProd (pOne u s 0) s) (adv q) = r43
        refine g_if_neB h 51 dX5_sum_46 (by decide) (fun c46 => ?_) (fun c46 => ?_)
        · skip
          show G X 0 0 (mW (xT X) o a s (paS S u r43.2)) 51 [(0, .ref o), (1, .int (lk s q))] []
          have n0 : OKp s q (true, lay2 3 (lk s q) r43.2) := (by subst er43; exact adv_ok (pProd_ok (pOne_ok u s 0)) 3 (lk s q) hl c46); have n1 := At.ok a1 n0 rfl; have n2 : At s 5 r43.2 := (by subst er43; exact At.ok a2 ((pProd_ok (pOne_ok u s 0)) (adv q) a2.1) c46); have n3 := n2.st h0
          refine g_aload_n h dX5_sum_51 rfl ?_
          refine g_iconst (v := nI 3) h dX5_sum_52 (by decide) ?_
          refine g_iload_n h dX5_sum_53 rfl ?_
          refine g_callVW0 h hE (m5_lays _ _ _ o a s S u r43.2 3 (lk s q) (by first | assumption | omega)) 0 rfl rfl (lw_V q1594 q1596 qs56 q95 q1597) gy_X5_lays ⟨Nat.le_of_ble_eq_true rfl, Nat.le_of_ble_eq_true rfl⟩ ⟨Nat.le_of_ble_eq_true rfl, Nat.le_of_ble_eq_true rfl⟩ rfl rfl (Nat.le_of_ble_eq_true rfl) dX5_sum_54 (st' := []) rfl (fun _ e54 => ?_)
          subst e54
          refine g_goto h 9 dX5_sum_57 (by decide) ?_
          refine g_lv (lv' := [(0, .ref o)]) (lvle_cons rfl (lvle_nil)) ?_
          exact ih_lw (lay2 3 (lk s q) r43.2, m0) (by show m0 < m0 + 1; omega) (by subst er43; exact e0_lw.trans (pR_t hq c46)) n1 (by subst er43; exact mu_ok ((pProd_ok (pOne_ok u s 0)) (adv q) a2.1) hl e2_lw)
        · skip
          show G X 0 0 (mW (xT X) o a s (paS S u r43.2)) 49 [(0, .ref o), (1, .int (lk s q))] []
          have e : (pSum (pOne u s 0) s) p = (false, r43.2) := (by subst er43; exact e0_lw.trans (pR_f hq c46))
          refine g_iconst (v := nI 0) h dX5_sum_49 (by decide) ?_
          exact g_zretWv h hE dX5_sum_50 (by rw [e]; rfl) (paW_eq (by rw [e]))
      · skip
        show G X 0 0 (mW (xT X) o a s (paS S u q)) 18 [(0, .ref o)] []
        refine g_aload_n h dX5_sum_18 rfl ?_
        refine g_callVR h (m5_look _ _ _ o a s S u q h0 (by first | assumption | omega)) (fun _ q => q) 0 rfl rfl (lw_V q1586 q1588 qs54 q95 q1589) gy_X5_look ⟨Nat.le_of_ble_eq_true rfl, Nat.le_of_ble_eq_true rfl⟩ ⟨Nat.le_of_ble_eq_true rfl, Nat.le_of_ble_eq_true rfl⟩ rfl rfl (Nat.le_of_ble_eq_true rfl) dX5_sum_19 ?_
        refine g_bipush (v := nI 45) h dX5_sum_22 (by decide) ?_
        refine g_toI (y := 45) rfl ?_
        refine g_icmp_ne h 60 dX5_sum_24 (by decide) (fun c24 => ?_) (fun c24 => ?_)
        · skip
          show G X 0 0 (mW (xT X) o a s (paS S u q)) 60 [(0, .ref o)] []
          have hq : isAdd (lk s q) = false := by simp [isAdd, c15, c24]
          have e : (pSum (pOne u s 0) s) p = (true, q) := e0_lw.trans (pR_n hq)
          refine g_iconst (v := nI 1) h dX5_sum_60 (by decide) ?_
          exact g_zretWv h hE dX5_sum_61 (by rw [e]; rfl) (paW_eq (by rw [e]))
        · skip
          show G X 0 0 (mW (xT X) o a s (paS S u q)) 27 [(0, .ref o)] []
          have hq : isAdd (lk s q) = true := by simp [isAdd, c15, c24]
          have hl := lk_lt (by decide) hq; obtain ⟨m0, rfl⟩ : ∃ k, m = k + 1 := ⟨m - 1, by omega⟩; have a2 := a1.adv hl
          refine g_aload_n h dX5_sum_27 rfl ?_
          refine g_callVR h (m5_look _ _ _ o a s S u q h0 (by first | assumption | omega)) (fun _ q => q) 0 rfl rfl (lw_V q1586 q1588 qs54 q95 q1589) gy_X5_look ⟨Nat.le_of_ble_eq_true rfl, Nat.le_of_ble_eq_true rfl⟩ ⟨Nat.le_of_ble_eq_true rfl, Nat.le_of_ble_eq_true rfl⟩ rfl rfl (Nat.le_of_ble_eq_true rfl) dX5_sum_28 ?_
          refine g_istore_n (lv' := [(0, .ref o), (1, .int (lk s q))]) h dX5_sum_31 (by decide) rfl ?_
          refine g_aload_n h dX5_sum_32 rfl ?_
          refine g_dup h dX5_sum_33 rfl ?_
          refine g_get h in_X5 0 rfl rfl 5 rfl q1379 rfl rfl dX5_sum_34 ?_
          show G X 0 0 (mW (xT X) o a s (paS S u q)) 37 [(0, .ref o), (1, .int (lk s q))] [.int (nI q.1), .ref o]
          refine g_iconst (v := nI 1) h dX5_sum_37 (by decide) ?_
          refine g_iaddN h dX5_sum_38 ?_
          refine g_put (ws' := mW (xT X) o a s (paS S u (adv q))) h hE.1 in_X5 tyX5 tyX5_ok nmX5 0 rfl rfl 5 rfl q1379 rfl rfl rfl rfl rfl rfl dX5_sum_39 rfl ?_
          refine g_aload_n h dX5_sum_42 rfl ?_
          refine g_callVW0 h hE (m5_product_0 _ _ _ o a s S u (adv q) h0 (by first | assumption | omega) (by first | assumption | omega)) 0 rfl rfl (lw_V q1578 q1580 qs52 q95 q1581) gy_X5_product ⟨Nat.le_of_ble_eq_true rfl, Nat.le_of_ble_eq_true rfl⟩ ⟨Nat.le_of_ble_eq_true rfl, Nat.le_of_ble_eq_true rfl⟩ rfl rfl (Nat.le_of_ble_eq_true rfl) dX5_sum_43 (st' := [.int (bI (((pProd (pOne u s 0) s) (adv q)).1))]) rfl (fun _ e43 => ?_)
          subst e43
          show G X 0 0 (mW (xT X) o a s (paS S u (((pProd (pOne u s 0) s) (adv q)).2))) 46 [(0, .ref o), (1, .int (lk s q))] [.int (bI (((pProd (pOne u s 0) s) (adv q)).1))]
          generalize er43 : (pProd (pOne u s 0) s) (adv q) = r43
          refine g_if_neB h 51 dX5_sum_46 (by decide) (fun c46 => ?_) (fun c46 => ?_)
          · skip
            show G X 0 0 (mW (xT X) o a s (paS S u r43.2)) 51 [(0, .ref o), (1, .int (lk s q))] []
            have n0 : OKp s q (true, lay2 3 (lk s q) r43.2) := (by subst er43; exact adv_ok (pProd_ok (pOne_ok u s 0)) 3 (lk s q) hl c46); have n1 := At.ok a1 n0 rfl; have n2 : At s 5 r43.2 := (by subst er43; exact At.ok a2 ((pProd_ok (pOne_ok u s 0)) (adv q) a2.1) c46); have n3 := n2.st h0
            refine g_aload_n h dX5_sum_51 rfl ?_
            refine g_iconst (v := nI 3) h dX5_sum_52 (by decide) ?_
            refine g_iload_n h dX5_sum_53 rfl ?_
            refine g_callVW0 h hE (m5_lays _ _ _ o a s S u r43.2 3 (lk s q) (by first | assumption | omega)) 0 rfl rfl (lw_V q1594 q1596 qs56 q95 q1597) gy_X5_lays ⟨Nat.le_of_ble_eq_true rfl, Nat.le_of_ble_eq_true rfl⟩ ⟨Nat.le_of_ble_eq_true rfl, Nat.le_of_ble_eq_true rfl⟩ rfl rfl (Nat.le_of_ble_eq_true rfl) dX5_sum_54 (st' := []) rfl (fun _ e54 => ?_)
            subst e54
            refine g_goto h 9 dX5_sum_57 (by decide) ?_
            refine g_lv (lv' := [(0, .ref o)]) (lvle_cons rfl (lvle_nil)) ?_
            exact ih_lw (lay2 3 (lk s q) r43.2, m0) (by show m0 < m0 + 1; omega) (by subst er43; exact e0_lw.trans (pR_t hq c46)) n1 (by subst er43; exact mu_ok ((pProd_ok (pOne_ok u s 0)) (adv q) a2.1) hl e2_lw)
          · skip
            show G X 0 0 (mW (xT X) o a s (paS S u r43.2)) 49 [(0, .ref o), (1, .int (lk s q))] []
            have e : (pSum (pOne u s 0) s) p = (false, r43.2) := (by subst er43; exact e0_lw.trans (pR_f hq c46))
            refine g_iconst (v := nI 0) h dX5_sum_49 (by decide) ?_
            exact g_zretWv h hE dX5_sum_50 (by rw [e]; rfl) (paW_eq (by rw [e]))
    exact lw (r1.2, 61) (by subst er1; exact pSum_t c4) a0 (by omega)
  · skip
    show G X 0 0 (mW (xT X) o a s (paS S u r1.2)) 7 [(0, .ref o)] []
    have e : (pSum (pOne u s 0) s) p = (false, r1.2) := (by subst er1; exact pSum_f c4)
    refine g_iconst (v := nI 0) h dX5_sum_7 (by decide) ?_
    exact g_zretWv h hE dX5_sum_8 (by rw [e]; rfl) (paW_eq (by rw [e]))
set_option maxHeartbeats 4000000 in
set_option maxRecDepth 100000 in
theorem m5_compared_0 (l : Launch) (D : va_G) (T : Nat → ClassId) (o : Nat) (a : Nat → Nat) (s : Nat → Int32) (S : Nat → Nat → Int32) (u : Nat) (p : PS) (h0 : Inv s) (h1 : u < 2) (h2 : At s 5 p) : MetW l D T yX5_compared cX5_compared 2 (some .boolean) 4 87 0 0 [.ref o] (mW T o a s (paS S u p)) (fun r_ w_ => r_ = some (.int (bI (((pCmp (pOne u s 0) s) p).1))) ∧ (w_ = mW T o a s (paS S u (((pCmp (pOne u s 0) s) p).2)))) := by
  refine metW (own := RX5) rfl (by decide) rfl (fun X h hl hDx hTx hnm hE => ?_)
  subst hl; subst hDx; subst hTx
  have hnp := h0.npl; have hnt := h0.ntl; have hnq := h0.nql
  have hnc := h0.ncl; have l0 := h2.1; have b0 := h2.2.1; have z0 := h2.2.2; have y0 := h2.st h0
  show G X 0 0 (mW (xT X) o a s (paS S u p)) 0 [(0, .ref o)] []
  refine g_aload_n h dX5_compared_0 rfl ?_
  refine g_callVW0 h hE (m5_sum_0 _ _ _ o a s S u p h0 (by first | assumption | omega) (by first | assumption | omega)) 0 rfl rfl (lw_V q1574 q1576 qs51 q95 q1577) gy_X5_sum ⟨Nat.le_of_ble_eq_true rfl, Nat.le_of_ble_eq_true rfl⟩ ⟨Nat.le_of_ble_eq_true rfl, Nat.le_of_ble_eq_true rfl⟩ rfl rfl (Nat.le_of_ble_eq_true rfl) dX5_compared_1 (st' := [.int (bI (((pSum (pOne u s 0) s) p).1))]) rfl (fun _ e1 => ?_)
  subst e1
  show G X 0 0 (mW (xT X) o a s (paS S u (((pSum (pOne u s 0) s) p).2))) 4 [(0, .ref o)] [.int (bI (((pSum (pOne u s 0) s) p).1))]
  generalize er1 : (pSum (pOne u s 0) s) p = r1
  refine g_if_neB h 9 dX5_compared_4 (by decide) (fun c4 => ?_) (fun c4 => ?_)
  · skip
    show G X 0 0 (mW (xT X) o a s (paS S u r1.2)) 9 [(0, .ref o)] []
    have a1 : At s 5 r1.2 := (by subst er1; exact h2.ok ((pSum_ok (pOne_ok u s 0)) p l0) c4); have l1 := a1.1
    refine g_aload_n h dX5_compared_9 rfl ?_
    refine g_callVR h (m5_look _ _ _ o a s S u r1.2 h0 (by first | assumption | omega)) (fun _ q => q) 0 rfl rfl (lw_V q1586 q1588 qs54 q95 q1589) gy_X5_look ⟨Nat.le_of_ble_eq_true rfl, Nat.le_of_ble_eq_true rfl⟩ ⟨Nat.le_of_ble_eq_true rfl, Nat.le_of_ble_eq_true rfl⟩ rfl rfl (Nat.le_of_ble_eq_true rfl) dX5_compared_10 ?_
    refine g_istore_n (lv' := [(0, .ref o), (1, .int (lk s r1.2))]) h dX5_compared_13 (by decide) rfl ?_
    refine g_iload_n h dX5_compared_14 rfl ?_
    refine g_bipush (v := nI 60) h dX5_compared_15 (by decide) ?_
    refine g_toI (y := 60) rfl ?_
    refine g_icmp_eq h 34 dX5_compared_17 (by decide) (fun c17 => ?_) (fun c17 => ?_)
    · skip
      show G X 0 0 (mW (xT X) o a s (paS S u r1.2)) 34 [(0, .ref o), (1, .int (lk s r1.2))] []
      have hq : isCmp (lk s r1.2) = true := by simp [isCmp, c17]
      have hl := lk_lt (by decide) hq; have a2 := a1.adv hl
      refine g_aload_n h dX5_compared_34 rfl ?_
      refine g_dup h dX5_compared_35 rfl ?_
      refine g_get h in_X5 0 rfl rfl 5 rfl q1379 rfl rfl dX5_compared_36 ?_
      show G X 0 0 (mW (xT X) o a s (paS S u r1.2)) 39 [(0, .ref o), (1, .int (lk s r1.2))] [.int (nI r1.2.1), .ref o]
      refine g_iconst (v := nI 1) h dX5_compared_39 (by decide) ?_
      refine g_iaddN h dX5_compared_40 ?_
      refine g_put (ws' := mW (xT X) o a s (paS S u (adv r1.2))) h hE.1 in_X5 tyX5 tyX5_ok nmX5 0 rfl rfl 5 rfl q1379 rfl rfl rfl rfl rfl rfl dX5_compared_41 rfl ?_
      refine g_aload_n h dX5_compared_44 rfl ?_
      refine g_callVW0 h hE (m5_sum_0 _ _ _ o a s S u (adv r1.2) h0 (by first | assumption | omega) (by first | assumption | omega)) 0 rfl rfl (lw_V q1574 q1576 qs51 q95 q1577) gy_X5_sum ⟨Nat.le_of_ble_eq_true rfl, Nat.le_of_ble_eq_true rfl⟩ ⟨Nat.le_of_ble_eq_true rfl, Nat.le_of_ble_eq_true rfl⟩ rfl rfl (Nat.le_of_ble_eq_true rfl) dX5_compared_45 (st' := [.int (bI (((pSum (pOne u s 0) s) (adv r1.2)).1))]) rfl (fun _ e45 => ?_)
      subst e45
      show G X 0 0 (mW (xT X) o a s (paS S u (((pSum (pOne u s 0) s) (adv r1.2)).2))) 48 [(0, .ref o), (1, .int (lk s r1.2))] [.int (bI (((pSum (pOne u s 0) s) (adv r1.2)).1))]
      generalize er45 : (pSum (pOne u s 0) s) (adv r1.2) = r45
      refine g_if_neB h 53 dX5_compared_48 (by decide) (fun c48 => ?_) (fun c48 => ?_)
      · skip
        show G X 0 0 (mW (xT X) o a s (paS S u r45.2)) 53 [(0, .ref o), (1, .int (lk s r1.2))] []
        have e : (pCmp (pOne u s 0) s) p = (true, lay2 3 (lk s r1.2) r45.2) := (by subst er45; subst er1; exact pCmp_t c4 hq c48); have n2 : At s 5 r45.2 := (by subst er45; exact At.ok a2 ((pSum_ok (pOne_ok u s 0)) (adv r1.2) a2.1) c48); have n3 := n2.st h0
        refine g_aload_n h dX5_compared_53 rfl ?_
        refine g_iconst (v := nI 3) h dX5_compared_54 (by decide) ?_
        refine g_iload_n h dX5_compared_55 rfl ?_
        refine g_callVW0 h hE (m5_lays _ _ _ o a s S u r45.2 3 (lk s r1.2) (by first | assumption | omega)) 0 rfl rfl (lw_V q1594 q1596 qs56 q95 q1597) gy_X5_lays ⟨Nat.le_of_ble_eq_true rfl, Nat.le_of_ble_eq_true rfl⟩ ⟨Nat.le_of_ble_eq_true rfl, Nat.le_of_ble_eq_true rfl⟩ rfl rfl (Nat.le_of_ble_eq_true rfl) dX5_compared_56 (st' := []) rfl (fun _ e56 => ?_)
        subst e56
        refine g_iconst (v := nI 1) h dX5_compared_59 (by decide) ?_
        exact g_zretWv h hE dX5_compared_60 (by rw [e]; rfl) (paW_eq (by rw [e]))
      · skip
        show G X 0 0 (mW (xT X) o a s (paS S u r45.2)) 51 [(0, .ref o), (1, .int (lk s r1.2))] []
        have e : (pCmp (pOne u s 0) s) p = (false, r45.2) := (by subst er45; subst er1; exact pCmp_e c4 hq c48)
        refine g_iconst (v := nI 0) h dX5_compared_51 (by decide) ?_
        exact g_zretWv h hE dX5_compared_52 (by rw [e]; rfl) (paW_eq (by rw [e]))
    · skip
      show G X 0 0 (mW (xT X) o a s (paS S u r1.2)) 20 [(0, .ref o), (1, .int (lk s r1.2))] []
      refine g_iload_n h dX5_compared_20 rfl ?_
      refine g_bipush (v := nI 61) h dX5_compared_21 (by decide) ?_
      refine g_toI (y := 61) rfl ?_
      refine g_icmp_eq h 34 dX5_compared_23 (by decide) (fun c23 => ?_) (fun c23 => ?_)
      · skip
        show G X 0 0 (mW (xT X) o a s (paS S u r1.2)) 34 [(0, .ref o), (1, .int (lk s r1.2))] []
        have hq : isCmp (lk s r1.2) = true := by simp [isCmp, c17, c23]
        have hl := lk_lt (by decide) hq; have a2 := a1.adv hl
        refine g_aload_n h dX5_compared_34 rfl ?_
        refine g_dup h dX5_compared_35 rfl ?_
        refine g_get h in_X5 0 rfl rfl 5 rfl q1379 rfl rfl dX5_compared_36 ?_
        show G X 0 0 (mW (xT X) o a s (paS S u r1.2)) 39 [(0, .ref o), (1, .int (lk s r1.2))] [.int (nI r1.2.1), .ref o]
        refine g_iconst (v := nI 1) h dX5_compared_39 (by decide) ?_
        refine g_iaddN h dX5_compared_40 ?_
        refine g_put (ws' := mW (xT X) o a s (paS S u (adv r1.2))) h hE.1 in_X5 tyX5 tyX5_ok nmX5 0 rfl rfl 5 rfl q1379 rfl rfl rfl rfl rfl rfl dX5_compared_41 rfl ?_
        refine g_aload_n h dX5_compared_44 rfl ?_
        refine g_callVW0 h hE (m5_sum_0 _ _ _ o a s S u (adv r1.2) h0 (by first | assumption | omega) (by first | assumption | omega)) 0 rfl rfl (lw_V q1574 q1576 qs51 q95 q1577) gy_X5_sum ⟨Nat.le_of_ble_eq_true rfl, Nat.le_of_ble_eq_true rfl⟩ ⟨Nat.le_of_ble_eq_true rfl, Nat.le_of_ble_eq_true rfl⟩ rfl rfl (Nat.le_of_ble_eq_true rfl) dX5_compared_45 (st' := [.int (bI (((pSum (pOne u s 0) s) (adv r1.2)).1))]) rfl (fun _ e45 => ?_)
        subst e45
        show G X 0 0 (mW (xT X) o a s (paS S u (((pSum (pOne u s 0) s) (adv r1.2)).2))) 48 [(0, .ref o), (1, .int (lk s r1.2))] [.int (bI (((pSum (pOne u s 0) s) (adv r1.2)).1))]
        generalize er45 : (pSum (pOne u s 0) s) (adv r1.2) = r45
        refine g_if_neB h 53 dX5_compared_48 (by decide) (fun c48 => ?_) (fun c48 => ?_)
        · skip
          show G X 0 0 (mW (xT X) o a s (paS S u r45.2)) 53 [(0, .ref o), (1, .int (lk s r1.2))] []
          have e : (pCmp (pOne u s 0) s) p = (true, lay2 3 (lk s r1.2) r45.2) := (by subst er45; subst er1; exact pCmp_t c4 hq c48); have n2 : At s 5 r45.2 := (by subst er45; exact At.ok a2 ((pSum_ok (pOne_ok u s 0)) (adv r1.2) a2.1) c48); have n3 := n2.st h0
          refine g_aload_n h dX5_compared_53 rfl ?_
          refine g_iconst (v := nI 3) h dX5_compared_54 (by decide) ?_
          refine g_iload_n h dX5_compared_55 rfl ?_
          refine g_callVW0 h hE (m5_lays _ _ _ o a s S u r45.2 3 (lk s r1.2) (by first | assumption | omega)) 0 rfl rfl (lw_V q1594 q1596 qs56 q95 q1597) gy_X5_lays ⟨Nat.le_of_ble_eq_true rfl, Nat.le_of_ble_eq_true rfl⟩ ⟨Nat.le_of_ble_eq_true rfl, Nat.le_of_ble_eq_true rfl⟩ rfl rfl (Nat.le_of_ble_eq_true rfl) dX5_compared_56 (st' := []) rfl (fun _ e56 => ?_)
          subst e56
          refine g_iconst (v := nI 1) h dX5_compared_59 (by decide) ?_
          exact g_zretWv h hE dX5_compared_60 (by rw [e]; rfl) (paW_eq (by rw [e]))
        · skip
          show G X 0 0 (mW (xT X) o a s (paS S u r45.2)) 51 [(0, .ref o), (1, .int (lk s r1.2))] []
          have e : (pCmp (pOne u s 0) s) p = (false, r45.2) := (by subst er45; subst er1; exact pCmp_e c4 hq c48)
          refine g_iconst (v := nI 0) h dX5_compared_51 (by decide) ?_
          exact g_zretWv h hE dX5_compared_52 (by rw [e]; rfl) (paW_eq (by rw [e]))
      · skip
        show G X 0 0 (mW (xT X) o a s (paS S u r1.2)) 26 [(0, .ref o), (1, .int (lk s r1.2))] []
        refine g_iload_n h dX5_compared_26 rfl ?_
        refine g_bipush (v := nI 62) h dX5_compared_27 (by decide) ?_
        refine g_toI (y := 62) rfl ?_
        refine g_icmp_eq h 34 dX5_compared_29 (by decide) (fun c29 => ?_) (fun c29 => ?_)
        · skip
          show G X 0 0 (mW (xT X) o a s (paS S u r1.2)) 34 [(0, .ref o), (1, .int (lk s r1.2))] []
          have hq : isCmp (lk s r1.2) = true := by simp [isCmp, c17, c23, c29]
          have hl := lk_lt (by decide) hq; have a2 := a1.adv hl
          refine g_aload_n h dX5_compared_34 rfl ?_
          refine g_dup h dX5_compared_35 rfl ?_
          refine g_get h in_X5 0 rfl rfl 5 rfl q1379 rfl rfl dX5_compared_36 ?_
          show G X 0 0 (mW (xT X) o a s (paS S u r1.2)) 39 [(0, .ref o), (1, .int (lk s r1.2))] [.int (nI r1.2.1), .ref o]
          refine g_iconst (v := nI 1) h dX5_compared_39 (by decide) ?_
          refine g_iaddN h dX5_compared_40 ?_
          refine g_put (ws' := mW (xT X) o a s (paS S u (adv r1.2))) h hE.1 in_X5 tyX5 tyX5_ok nmX5 0 rfl rfl 5 rfl q1379 rfl rfl rfl rfl rfl rfl dX5_compared_41 rfl ?_
          refine g_aload_n h dX5_compared_44 rfl ?_
          refine g_callVW0 h hE (m5_sum_0 _ _ _ o a s S u (adv r1.2) h0 (by first | assumption | omega) (by first | assumption | omega)) 0 rfl rfl (lw_V q1574 q1576 qs51 q95 q1577) gy_X5_sum ⟨Nat.le_of_ble_eq_true rfl, Nat.le_of_ble_eq_true rfl⟩ ⟨Nat.le_of_ble_eq_true rfl, Nat.le_of_ble_eq_true rfl⟩ rfl rfl (Nat.le_of_ble_eq_true rfl) dX5_compared_45 (st' := [.int (bI (((pSum (pOne u s 0) s) (adv r1.2)).1))]) rfl (fun _ e45 => ?_)
          subst e45
          show G X 0 0 (mW (xT X) o a s (paS S u (((pSum (pOne u s 0) s) (adv r1.2)).2))) 48 [(0, .ref o), (1, .int (lk s r1.2))] [.int (bI (((pSum (pOne u s 0) s) (adv r1.2)).1))]
          generalize er45 : (pSum (pOne u s 0) s) (adv r1.2) = r45
          refine g_if_neB h 53 dX5_compared_48 (by decide) (fun c48 => ?_) (fun c48 => ?_)
          · skip
            show G X 0 0 (mW (xT X) o a s (paS S u r45.2)) 53 [(0, .ref o), (1, .int (lk s r1.2))] []
            have e : (pCmp (pOne u s 0) s) p = (true, lay2 3 (lk s r1.2) r45.2) := (by subst er45; subst er1; exact pCmp_t c4 hq c48); have n2 : At s 5 r45.2 := (by subst er45; exact At.ok a2 ((pSum_ok (pOne_ok u s 0)) (adv r1.2) a2.1) c48); have n3 := n2.st h0
            refine g_aload_n h dX5_compared_53 rfl ?_
            refine g_iconst (v := nI 3) h dX5_compared_54 (by decide) ?_
            refine g_iload_n h dX5_compared_55 rfl ?_
            refine g_callVW0 h hE (m5_lays _ _ _ o a s S u r45.2 3 (lk s r1.2) (by first | assumption | omega)) 0 rfl rfl (lw_V q1594 q1596 qs56 q95 q1597) gy_X5_lays ⟨Nat.le_of_ble_eq_true rfl, Nat.le_of_ble_eq_true rfl⟩ ⟨Nat.le_of_ble_eq_true rfl, Nat.le_of_ble_eq_true rfl⟩ rfl rfl (Nat.le_of_ble_eq_true rfl) dX5_compared_56 (st' := []) rfl (fun _ e56 => ?_)
            subst e56
            refine g_iconst (v := nI 1) h dX5_compared_59 (by decide) ?_
            exact g_zretWv h hE dX5_compared_60 (by rw [e]; rfl) (paW_eq (by rw [e]))
          · skip
            show G X 0 0 (mW (xT X) o a s (paS S u r45.2)) 51 [(0, .ref o), (1, .int (lk s r1.2))] []
            have e : (pCmp (pOne u s 0) s) p = (false, r45.2) := (by subst er45; subst er1; exact pCmp_e c4 hq c48)
            refine g_iconst (v := nI 0) h dX5_compared_51 (by decide) ?_
            exact g_zretWv h hE dX5_compared_52 (by rw [e]; rfl) (paW_eq (by rw [e]))
        · skip
          show G X 0 0 (mW (xT X) o a s (paS S u r1.2)) 32 [(0, .ref o), (1, .int (lk s r1.2))] []
          have hq : isCmp (lk s r1.2) = false := by simp [isCmp, c17, c23, c29]
          have e : (pCmp (pOne u s 0) s) p = (true, r1.2) := (by subst er1; exact pCmp_n c4 hq)
          refine g_iconst (v := nI 1) h dX5_compared_32 (by decide) ?_
          exact g_zretWv h hE dX5_compared_33 (by rw [e]; rfl) (paW_eq (by rw [e]))
  · skip
    show G X 0 0 (mW (xT X) o a s (paS S u r1.2)) 7 [(0, .ref o)] []
    have e : (pCmp (pOne u s 0) s) p = (false, r1.2) := (by subst er1; exact pCmp_f c4)
    refine g_iconst (v := nI 0) h dX5_compared_7 (by decide) ?_
    exact g_zretWv h hE dX5_compared_8 (by rw [e]; rfl) (paW_eq (by rw [e]))
set_option maxHeartbeats 4000000 in
set_option maxRecDepth 100000 in
theorem m5_both_0 (l : Launch) (D : va_G) (T : Nat → ClassId) (o : Nat) (a : Nat → Nat) (s : Nat → Int32) (S : Nat → Nat → Int32) (u : Nat) (p : PS) (h0 : Inv s) (h1 : u < 2) (h2 : At s 5 p) : MetW l D T yX5_both cX5_both 1 (some .boolean) 5 108 0 0 [.ref o] (mW T o a s (paS S u p)) (fun r_ w_ => r_ = some (.int (bI (((pBoth (pOne u s 0) s) p).1))) ∧ (w_ = mW T o a s (paS S u (((pBoth (pOne u s 0) s) p).2)))) := by
  refine metW (own := RX5) rfl (by decide) rfl (fun X h hl hDx hTx hnm hE => ?_)
  subst hl; subst hDx; subst hTx
  have hnp := h0.npl; have hnt := h0.ntl; have hnq := h0.nql
  have hnc := h0.ncl; have l0 := h2.1; have b0 := h2.2.1; have z0 := h2.2.2; have y0 := h2.st h0
  show G X 0 0 (mW (xT X) o a s (paS S u p)) 0 [(0, .ref o)] []
  refine g_aload_n h dX5_both_0 rfl ?_
  refine g_callVW0 h hE (m5_compared_0 _ _ _ o a s S u p h0 (by first | assumption | omega) (by first | assumption | omega)) 0 rfl rfl (lw_V q1570 q1572 qs50 q95 q1573) gy_X5_compared ⟨Nat.le_of_ble_eq_true rfl, Nat.le_of_ble_eq_true rfl⟩ ⟨Nat.le_of_ble_eq_true rfl, Nat.le_of_ble_eq_true rfl⟩ rfl rfl (Nat.le_of_ble_eq_true rfl) dX5_both_1 (st' := [.int (bI (((pCmp (pOne u s 0) s) p).1))]) rfl (fun _ e1 => ?_)
  subst e1
  show G X 0 0 (mW (xT X) o a s (paS S u (((pCmp (pOne u s 0) s) p).2))) 4 [(0, .ref o)] [.int (bI (((pCmp (pOne u s 0) s) p).1))]
  generalize er1 : (pCmp (pOne u s 0) s) p = r1
  refine g_if_neB h 9 dX5_both_4 (by decide) (fun c4 => ?_) (fun c4 => ?_)
  · skip
    show G X 0 0 (mW (xT X) o a s (paS S u r1.2)) 9 [(0, .ref o)] []
    have a0 : At s 5 r1.2 := (by subst er1; exact h2.ok ((pCmp_ok (pOne_ok u s 0)) p l0) c4); have l1 := a0.1
    have lw : ∀ q_ : (PS) × (Nat), (match q_ with | (q, m) => ((pBoth (pOne u s 0) s) p = pR (pCmp (pOne u s 0) s) s isAnd m q) → (At s 5 q) → (nC s - q.1 < m) → G X 0 0 (mW (xT X) o a s (paS S u q)) 9 [(0, .ref o)] []) := by
      refine g_rec (fun q_ => match q_ with | (q, m) => m) ?_
      rintro ⟨q, m⟩ ih_lw e0_lw e1_lw e2_lw
      skip
      have a1 := e1_lw; have l2 := a1.1; have y2 := a1.st h0
      refine g_aload_n h dX5_both_9 rfl ?_
      refine g_callVR h (m5_look _ _ _ o a s S u q h0 (by first | assumption | omega)) (fun _ q => q) 0 rfl rfl (lw_V q1586 q1588 qs54 q95 q1589) gy_X5_look ⟨Nat.le_of_ble_eq_true rfl, Nat.le_of_ble_eq_true rfl⟩ ⟨Nat.le_of_ble_eq_true rfl, Nat.le_of_ble_eq_true rfl⟩ rfl rfl (Nat.le_of_ble_eq_true rfl) dX5_both_10 ?_
      refine g_bipush (v := nI 38) h dX5_both_13 (by decide) ?_
      refine g_toI (y := 38) rfl ?_
      refine g_icmp_ne h 47 dX5_both_15 (by decide) (fun c15 => ?_) (fun c15 => ?_)
      · skip
        show G X 0 0 (mW (xT X) o a s (paS S u q)) 47 [(0, .ref o)] []
        have hq : isAnd (lk s q) = false := by simp [isAnd, c15]
        have e : (pBoth (pOne u s 0) s) p = (true, q) := e0_lw.trans (pR_n hq)
        refine g_iconst (v := nI 1) h dX5_both_47 (by decide) ?_
        exact g_zretWv h hE dX5_both_48 (by rw [e]; rfl) (paW_eq (by rw [e]))
      · skip
        show G X 0 0 (mW (xT X) o a s (paS S u q)) 18 [(0, .ref o)] []
        have hq : isAnd (lk s q) = true := by simp [isAnd, c15]
        have hl := lk_lt (by decide) hq; obtain ⟨m0, rfl⟩ : ∃ k, m = k + 1 := ⟨m - 1, by omega⟩; have a2 := a1.adv hl
        refine g_aload_n h dX5_both_18 rfl ?_
        refine g_dup h dX5_both_19 rfl ?_
        refine g_get h in_X5 0 rfl rfl 5 rfl q1379 rfl rfl dX5_both_20 ?_
        show G X 0 0 (mW (xT X) o a s (paS S u q)) 23 [(0, .ref o)] [.int (nI q.1), .ref o]
        refine g_iconst (v := nI 1) h dX5_both_23 (by decide) ?_
        refine g_iaddN h dX5_both_24 ?_
        refine g_put (ws' := mW (xT X) o a s (paS S u (adv q))) h hE.1 in_X5 tyX5 tyX5_ok nmX5 0 rfl rfl 5 rfl q1379 rfl rfl rfl rfl rfl rfl dX5_both_25 rfl ?_
        refine g_aload_n h dX5_both_28 rfl ?_
        refine g_callVW0 h hE (m5_compared_0 _ _ _ o a s S u (adv q) h0 (by first | assumption | omega) (by first | assumption | omega)) 0 rfl rfl (lw_V q1570 q1572 qs50 q95 q1573) gy_X5_compared ⟨Nat.le_of_ble_eq_true rfl, Nat.le_of_ble_eq_true rfl⟩ ⟨Nat.le_of_ble_eq_true rfl, Nat.le_of_ble_eq_true rfl⟩ rfl rfl (Nat.le_of_ble_eq_true rfl) dX5_both_29 (st' := [.int (bI (((pCmp (pOne u s 0) s) (adv q)).1))]) rfl (fun _ e29 => ?_)
        subst e29
        show G X 0 0 (mW (xT X) o a s (paS S u (((pCmp (pOne u s 0) s) (adv q)).2))) 32 [(0, .ref o)] [.int (bI (((pCmp (pOne u s 0) s) (adv q)).1))]
        generalize er29 : (pCmp (pOne u s 0) s) (adv q) = r29
        refine g_if_neB h 37 dX5_both_32 (by decide) (fun c32 => ?_) (fun c32 => ?_)
        · skip
          show G X 0 0 (mW (xT X) o a s (paS S u r29.2)) 37 [(0, .ref o)] []
          have n0 : OKp s q (true, lay2 3 (lk s q) r29.2) := (by subst er29; exact adv_ok (pCmp_ok (pOne_ok u s 0)) 3 (lk s q) hl c32); have n1 := At.ok a1 n0 rfl; have n2 : At s 5 r29.2 := (by subst er29; exact At.ok a2 ((pCmp_ok (pOne_ok u s 0)) (adv q) a2.1) c32); have n3 := n2.st h0
          refine g_aload_n h dX5_both_37 rfl ?_
          refine g_iconst (v := nI 3) h dX5_both_38 (by decide) ?_
          refine g_bipush (v := nI 38) h dX5_both_39 (by decide) ?_
          refine g_toI (y := lk s q) c15.symm ?_
          refine g_callVW0 h hE (m5_lays _ _ _ o a s S u r29.2 3 (lk s q) (by first | assumption | omega)) 0 rfl rfl (lw_V q1594 q1596 qs56 q95 q1597) gy_X5_lays ⟨Nat.le_of_ble_eq_true rfl, Nat.le_of_ble_eq_true rfl⟩ ⟨Nat.le_of_ble_eq_true rfl, Nat.le_of_ble_eq_true rfl⟩ rfl rfl (Nat.le_of_ble_eq_true rfl) dX5_both_41 (st' := []) rfl (fun _ e41 => ?_)
          subst e41
          refine g_goto h 9 dX5_both_44 (by decide) ?_
          exact ih_lw (lay2 3 (lk s q) r29.2, m0) (by show m0 < m0 + 1; omega) (by subst er29; exact e0_lw.trans (pR_t hq c32)) n1 (by subst er29; exact mu_ok ((pCmp_ok (pOne_ok u s 0)) (adv q) a2.1) hl e2_lw)
        · skip
          show G X 0 0 (mW (xT X) o a s (paS S u r29.2)) 35 [(0, .ref o)] []
          have e : (pBoth (pOne u s 0) s) p = (false, r29.2) := (by subst er29; exact e0_lw.trans (pR_f hq c32))
          refine g_iconst (v := nI 0) h dX5_both_35 (by decide) ?_
          exact g_zretWv h hE dX5_both_36 (by rw [e]; rfl) (paW_eq (by rw [e]))
    exact lw (r1.2, 61) (by subst er1; exact pBoth_t c4) a0 (by omega)
  · skip
    show G X 0 0 (mW (xT X) o a s (paS S u r1.2)) 7 [(0, .ref o)] []
    have e : (pBoth (pOne u s 0) s) p = (false, r1.2) := (by subst er1; exact pBoth_f c4)
    refine g_iconst (v := nI 0) h dX5_both_7 (by decide) ?_
    exact g_zretWv h hE dX5_both_8 (by rw [e]; rfl) (paW_eq (by rw [e]))
set_option maxHeartbeats 4000000 in
set_option maxRecDepth 100000 in
theorem m5_whole_0 (l : Launch) (D : va_G) (T : Nat → ClassId) (o : Nat) (a : Nat → Nat) (s : Nat → Int32) (S : Nat → Nat → Int32) (u : Nat) (p : PS) (h0 : Inv s) (h1 : u < 2) (h2 : At s 5 p) : MetW l D T yX5_whole cX5_whole 1 (some .boolean) 6 128 0 0 [.ref o] (mW T o a s (paS S u p)) (fun r_ w_ => r_ = some (.int (bI (((pWhole (pOne u s 0) s) p).1))) ∧ (w_ = mW T o a s (paS S u (((pWhole (pOne u s 0) s) p).2)))) := by
  refine metW (own := RX5) rfl (by decide) rfl (fun X h hl hDx hTx hnm hE => ?_)
  subst hl; subst hDx; subst hTx
  have hnp := h0.npl; have hnt := h0.ntl; have hnq := h0.nql
  have hnc := h0.ncl; have l0 := h2.1; have b0 := h2.2.1; have z0 := h2.2.2; have y0 := h2.st h0
  show G X 0 0 (mW (xT X) o a s (paS S u p)) 0 [(0, .ref o)] []
  refine g_aload_n h dX5_whole_0 rfl ?_
  refine g_callVW0 h hE (m5_both_0 _ _ _ o a s S u p h0 (by first | assumption | omega) (by first | assumption | omega)) 0 rfl rfl (lw_V q1566 q1568 qs49 q95 q1569) gy_X5_both ⟨Nat.le_of_ble_eq_true rfl, Nat.le_of_ble_eq_true rfl⟩ ⟨Nat.le_of_ble_eq_true rfl, Nat.le_of_ble_eq_true rfl⟩ rfl rfl (Nat.le_of_ble_eq_true rfl) dX5_whole_1 (st' := [.int (bI (((pBoth (pOne u s 0) s) p).1))]) rfl (fun _ e1 => ?_)
  subst e1
  show G X 0 0 (mW (xT X) o a s (paS S u (((pBoth (pOne u s 0) s) p).2))) 4 [(0, .ref o)] [.int (bI (((pBoth (pOne u s 0) s) p).1))]
  generalize er1 : (pBoth (pOne u s 0) s) p = r1
  refine g_if_neB h 9 dX5_whole_4 (by decide) (fun c4 => ?_) (fun c4 => ?_)
  · skip
    show G X 0 0 (mW (xT X) o a s (paS S u r1.2)) 9 [(0, .ref o)] []
    have a0 : At s 5 r1.2 := (by subst er1; exact h2.ok ((pBoth_ok (pOne_ok u s 0)) p l0) c4); have l1 := a0.1
    have lw : ∀ q_ : (PS) × (Nat), (match q_ with | (q, m) => ((pWhole (pOne u s 0) s) p = pR (pBoth (pOne u s 0) s) s isOr m q) → (At s 5 q) → (nC s - q.1 < m) → G X 0 0 (mW (xT X) o a s (paS S u q)) 9 [(0, .ref o)] []) := by
      refine g_rec (fun q_ => match q_ with | (q, m) => m) ?_
      rintro ⟨q, m⟩ ih_lw e0_lw e1_lw e2_lw
      skip
      have a1 := e1_lw; have l2 := a1.1; have y2 := a1.st h0
      refine g_aload_n h dX5_whole_9 rfl ?_
      refine g_callVR h (m5_look _ _ _ o a s S u q h0 (by first | assumption | omega)) (fun _ q => q) 0 rfl rfl (lw_V q1586 q1588 qs54 q95 q1589) gy_X5_look ⟨Nat.le_of_ble_eq_true rfl, Nat.le_of_ble_eq_true rfl⟩ ⟨Nat.le_of_ble_eq_true rfl, Nat.le_of_ble_eq_true rfl⟩ rfl rfl (Nat.le_of_ble_eq_true rfl) dX5_whole_10 ?_
      refine g_bipush (v := nI 124) h dX5_whole_13 (by decide) ?_
      refine g_toI (y := 124) rfl ?_
      refine g_icmp_ne h 47 dX5_whole_15 (by decide) (fun c15 => ?_) (fun c15 => ?_)
      · skip
        show G X 0 0 (mW (xT X) o a s (paS S u q)) 47 [(0, .ref o)] []
        have hq : isOr (lk s q) = false := by simp [isOr, c15]
        have e : (pWhole (pOne u s 0) s) p = (true, q) := e0_lw.trans (pR_n hq)
        refine g_iconst (v := nI 1) h dX5_whole_47 (by decide) ?_
        exact g_zretWv h hE dX5_whole_48 (by rw [e]; rfl) (paW_eq (by rw [e]))
      · skip
        show G X 0 0 (mW (xT X) o a s (paS S u q)) 18 [(0, .ref o)] []
        have hq : isOr (lk s q) = true := by simp [isOr, c15]
        have hl := lk_lt (by decide) hq; obtain ⟨m0, rfl⟩ : ∃ k, m = k + 1 := ⟨m - 1, by omega⟩; have a2 := a1.adv hl
        refine g_aload_n h dX5_whole_18 rfl ?_
        refine g_dup h dX5_whole_19 rfl ?_
        refine g_get h in_X5 0 rfl rfl 5 rfl q1379 rfl rfl dX5_whole_20 ?_
        show G X 0 0 (mW (xT X) o a s (paS S u q)) 23 [(0, .ref o)] [.int (nI q.1), .ref o]
        refine g_iconst (v := nI 1) h dX5_whole_23 (by decide) ?_
        refine g_iaddN h dX5_whole_24 ?_
        refine g_put (ws' := mW (xT X) o a s (paS S u (adv q))) h hE.1 in_X5 tyX5 tyX5_ok nmX5 0 rfl rfl 5 rfl q1379 rfl rfl rfl rfl rfl rfl dX5_whole_25 rfl ?_
        refine g_aload_n h dX5_whole_28 rfl ?_
        refine g_callVW0 h hE (m5_both_0 _ _ _ o a s S u (adv q) h0 (by first | assumption | omega) (by first | assumption | omega)) 0 rfl rfl (lw_V q1566 q1568 qs49 q95 q1569) gy_X5_both ⟨Nat.le_of_ble_eq_true rfl, Nat.le_of_ble_eq_true rfl⟩ ⟨Nat.le_of_ble_eq_true rfl, Nat.le_of_ble_eq_true rfl⟩ rfl rfl (Nat.le_of_ble_eq_true rfl) dX5_whole_29 (st' := [.int (bI (((pBoth (pOne u s 0) s) (adv q)).1))]) rfl (fun _ e29 => ?_)
        subst e29
        show G X 0 0 (mW (xT X) o a s (paS S u (((pBoth (pOne u s 0) s) (adv q)).2))) 32 [(0, .ref o)] [.int (bI (((pBoth (pOne u s 0) s) (adv q)).1))]
        generalize er29 : (pBoth (pOne u s 0) s) (adv q) = r29
        refine g_if_neB h 37 dX5_whole_32 (by decide) (fun c32 => ?_) (fun c32 => ?_)
        · skip
          show G X 0 0 (mW (xT X) o a s (paS S u r29.2)) 37 [(0, .ref o)] []
          have n0 : OKp s q (true, lay2 3 (lk s q) r29.2) := (by subst er29; exact adv_ok (pBoth_ok (pOne_ok u s 0)) 3 (lk s q) hl c32); have n1 := At.ok a1 n0 rfl; have n2 : At s 5 r29.2 := (by subst er29; exact At.ok a2 ((pBoth_ok (pOne_ok u s 0)) (adv q) a2.1) c32); have n3 := n2.st h0
          refine g_aload_n h dX5_whole_37 rfl ?_
          refine g_iconst (v := nI 3) h dX5_whole_38 (by decide) ?_
          refine g_bipush (v := nI 124) h dX5_whole_39 (by decide) ?_
          refine g_toI (y := lk s q) c15.symm ?_
          refine g_callVW0 h hE (m5_lays _ _ _ o a s S u r29.2 3 (lk s q) (by first | assumption | omega)) 0 rfl rfl (lw_V q1594 q1596 qs56 q95 q1597) gy_X5_lays ⟨Nat.le_of_ble_eq_true rfl, Nat.le_of_ble_eq_true rfl⟩ ⟨Nat.le_of_ble_eq_true rfl, Nat.le_of_ble_eq_true rfl⟩ rfl rfl (Nat.le_of_ble_eq_true rfl) dX5_whole_41 (st' := []) rfl (fun _ e41 => ?_)
          subst e41
          refine g_goto h 9 dX5_whole_44 (by decide) ?_
          exact ih_lw (lay2 3 (lk s q) r29.2, m0) (by show m0 < m0 + 1; omega) (by subst er29; exact e0_lw.trans (pR_t hq c32)) n1 (by subst er29; exact mu_ok ((pBoth_ok (pOne_ok u s 0)) (adv q) a2.1) hl e2_lw)
        · skip
          show G X 0 0 (mW (xT X) o a s (paS S u r29.2)) 35 [(0, .ref o)] []
          have e : (pWhole (pOne u s 0) s) p = (false, r29.2) := (by subst er29; exact e0_lw.trans (pR_f hq c32))
          refine g_iconst (v := nI 0) h dX5_whole_35 (by decide) ?_
          exact g_zretWv h hE dX5_whole_36 (by rw [e]; rfl) (paW_eq (by rw [e]))
    exact lw (r1.2, 61) (by subst er1; exact pWhole_t c4) a0 (by omega)
  · skip
    show G X 0 0 (mW (xT X) o a s (paS S u r1.2)) 7 [(0, .ref o)] []
    have e : (pWhole (pOne u s 0) s) p = (false, r1.2) := (by subst er1; exact pWhole_f c4)
    refine g_iconst (v := nI 0) h dX5_whole_7 (by decide) ?_
    exact g_zretWv h hE dX5_whole_8 (by rw [e]; rfl) (paW_eq (by rw [e]))
set_option maxHeartbeats 4000000 in
set_option maxRecDepth 100000 in
theorem m5_one_1 (l : Launch) (D : va_G) (T : Nat → ClassId) (o : Nat) (a : Nat → Nat) (s : Nat → Int32) (S : Nat → Nat → Int32) (u : Nat) (p : PS) (h0 : Inv s) (h1 : u < 2) (h2 : At s 4 p) : MetW l D T yX5_one cX5_one 4 (some .boolean) 7 148 0 0 [.ref o] (mW T o a s (paS S u p)) (fun r_ w_ => r_ = some (.int (bI (((pOne u s 1) p).1))) ∧ (w_ = mW T o a s (paS S u (((pOne u s 1) p).2)))) := by
  refine metW (own := RX5) rfl (by decide) rfl (fun X h hl hDx hTx hnm hE => ?_)
  subst hl; subst hDx; subst hTx
  have hnp := h0.npl; have hnt := h0.ntl; have hnq := h0.nql
  have hnc := h0.ncl; have l0 := h2.1; have b0 := h2.2.1; have z0 := h2.2.2; have y0 := h2.st h0
  show G X 0 0 (mW (xT X) o a s (paS S u p)) 0 [(0, .ref o)] []
  refine g_aload_n h dX5_one_0 rfl ?_
  refine g_callVR h (m5_look _ _ _ o a s S u p h0 (by first | assumption | omega)) (fun _ q => q) 0 rfl rfl (lw_V q1586 q1588 qs54 q95 q1589) gy_X5_look ⟨Nat.le_of_ble_eq_true rfl, Nat.le_of_ble_eq_true rfl⟩ ⟨Nat.le_of_ble_eq_true rfl, Nat.le_of_ble_eq_true rfl⟩ rfl rfl (Nat.le_of_ble_eq_true rfl) dX5_one_1 ?_
  refine g_istore_n (lv' := [(0, .ref o), (1, .int (lk s p))]) h dX5_one_4 (by decide) rfl ?_
  refine g_aload_n h dX5_one_5 rfl ?_
  refine g_iload_n h dX5_one_6 rfl ?_
  refine g_callVR h (m5_isName _ _ _ o a s S u p (lk s p) (by first | assumption | omega)) (fun _ q => q) 0 rfl rfl (lw_V q1590 q1592 qs55 q95 q1593) gy_X5_isName ⟨Nat.le_of_ble_eq_true rfl, Nat.le_of_ble_eq_true rfl⟩ ⟨Nat.le_of_ble_eq_true rfl, Nat.le_of_ble_eq_true rfl⟩ rfl rfl (Nat.le_of_ble_eq_true rfl) dX5_one_7 ?_
  refine g_if_eqB h 31 dX5_one_10 (by decide) (fun c10 => ?_) (fun c10 => ?_)
  · skip
    show G X 0 0 (mW (xT X) o a s (paS S u p)) 31 [(0, .ref o), (1, .int (lk s p))] []
    refine g_iload_n h dX5_one_31 rfl ?_
    refine g_bipush (v := nI 48) h dX5_one_32 (by decide) ?_
    refine g_bipush (v := nI 57) h dX5_one_34 (by decide) ?_
    refine g_callSR h (m5_in _ _ _ (lk s p) 48 57 ) (fun _ q => nomatch q) (lw_S q1439 q1440 q95 q1441) gy_X5_in ⟨Nat.le_of_ble_eq_true rfl, Nat.le_of_ble_eq_true rfl⟩ ⟨Nat.le_of_ble_eq_true rfl, Nat.le_of_ble_eq_true rfl⟩ rfl rfl (Nat.le_of_ble_eq_true rfl) dX5_one_36 ?_
    refine g_if_eqB h 102 dX5_one_39 (by decide) (fun c39 => ?_) (fun c39 => ?_)
    · skip
      show G X 0 0 (mW (xT X) o a s (paS S u p)) 102 [(0, .ref o), (1, .int (lk s p))] []
      refine g_iload_n h dX5_one_102 rfl ?_
      refine g_bipush (v := nI 33) h dX5_one_103 (by decide) ?_
      refine g_toI (y := 33) rfl ?_
      refine g_icmp_ne h 142 dX5_one_105 (by decide) (fun c105 => ?_) (fun c105 => ?_)
      · skip
        show G X 0 0 (mW (xT X) o a s (paS S u p)) 142 [(0, .ref o), (1, .int (lk s p))] []
        refine g_iload_n h dX5_one_142 rfl ?_
        refine g_bipush (v := nI 40) h dX5_one_143 (by decide) ?_
        refine g_toI (y := 40) rfl ?_
        refine g_icmp_ne h 171 dX5_one_145 (by decide) (fun c145 => ?_) (fun c145 => ?_)
        · skip
          show G X 0 0 (mW (xT X) o a s (paS S u p)) 171 [(0, .ref o), (1, .int (lk s p))] []
          have e : (pOne u s 1) p = (false, p) := pOne_xn c10 c39 c105 c145
          refine g_iconst (v := nI 0) h dX5_one_171 (by decide) ?_
          exact g_zretWv h hE dX5_one_172 (by rw [e]; rfl) (paW_eq (by rw [e]))
        · skip
          show G X 0 0 (mW (xT X) o a s (paS S u p)) 148 [(0, .ref o), (1, .int (lk s p))] []
          have hl : p.1 < nC s := lk_lt (Q := fun z => decide (z = 40)) (by decide) (decide_eq_true c145); have z1 : p.2.1 < 5 := (by omega); have a2 := h2.opn hl
          refine g_aload_n h dX5_one_148 rfl ?_
          refine g_callVW0 h hE (m5_opens_1 _ _ _ o a s S u p (by first | assumption | omega)) 0 rfl rfl (lw_V q1598 q1600 qs57 q95 q1601) gy_X5_opens ⟨Nat.le_of_ble_eq_true rfl, Nat.le_of_ble_eq_true rfl⟩ ⟨Nat.le_of_ble_eq_true rfl, Nat.le_of_ble_eq_true rfl⟩ rfl rfl (Nat.le_of_ble_eq_true rfl) dX5_one_149 (st' := [.int (bI true)]) rfl (fun _ e149 => ?_)
          subst e149
          refine g_if_eqB h 171 dX5_one_152 (by decide) (fun c152 => ?_) (fun c152 => ?_)
          · skip
            show G X 0 0 (mW (xT X) o a s (paS S u (opn p))) 171 [(0, .ref o), (1, .int (lk s p))] []
            exact absurd c152 (by decide)
          · skip
            show G X 0 0 (mW (xT X) o a s (paS S u (opn p))) 155 [(0, .ref o), (1, .int (lk s p))] []
            refine g_aload_n h dX5_one_155 rfl ?_
            refine g_callVW0 h hE (m5_whole_0 _ _ _ o a s S u (opn p) h0 (by first | assumption | omega) (by first | assumption | omega)) 0 rfl rfl (lw_V q1562 q1564 qs48 q95 q1565) gy_X5_whole ⟨Nat.le_of_ble_eq_true rfl, Nat.le_of_ble_eq_true rfl⟩ ⟨Nat.le_of_ble_eq_true rfl, Nat.le_of_ble_eq_true rfl⟩ rfl rfl (Nat.le_of_ble_eq_true rfl) dX5_one_156 (st' := [.int (bI (((pWhole (pOne u s 0) s) (opn p)).1))]) rfl (fun _ e156 => ?_)
            subst e156
            show G X 0 0 (mW (xT X) o a s (paS S u (((pWhole (pOne u s 0) s) (opn p)).2))) 159 [(0, .ref o), (1, .int (lk s p))] [.int (bI (((pWhole (pOne u s 0) s) (opn p)).1))]
            generalize er156 : (pWhole (pOne u s 0) s) (opn p) = r156
            refine g_if_eqB h 171 dX5_one_159 (by decide) (fun c159 => ?_) (fun c159 => ?_)
            · skip
              show G X 0 0 (mW (xT X) o a s (paS S u r156.2)) 171 [(0, .ref o), (1, .int (lk s p))] []
              have e : (pOne u s 1) p = (false, r156.2) := (by subst er156; exact pOne_40f c10 c39 c105 c145 c159)
              refine g_iconst (v := nI 0) h dX5_one_171 (by decide) ?_
              exact g_zretWv h hE dX5_one_172 (by rw [e]; rfl) (paW_eq (by rw [e]))
            · skip
              show G X 0 0 (mW (xT X) o a s (paS S u r156.2)) 162 [(0, .ref o), (1, .int (lk s p))] []
              have n2 : At s 5 r156.2 := (by subst er156; exact At.ok a2 (pWhole_ok (pOne_ok u s 0) (opn p) a2.1) c159); have n3 := n2.1; have n4 := n2.2.2
              refine g_aload_n h dX5_one_162 rfl ?_
              refine g_callVR h (m5_look _ _ _ o a s S u r156.2 h0 (by first | assumption | omega)) (fun _ q => q) 0 rfl rfl (lw_V q1586 q1588 qs54 q95 q1589) gy_X5_look ⟨Nat.le_of_ble_eq_true rfl, Nat.le_of_ble_eq_true rfl⟩ ⟨Nat.le_of_ble_eq_true rfl, Nat.le_of_ble_eq_true rfl⟩ rfl rfl (Nat.le_of_ble_eq_true rfl) dX5_one_163 ?_
              refine g_bipush (v := nI 41) h dX5_one_166 (by decide) ?_
              refine g_toI (y := 41) rfl ?_
              refine g_icmp_eq h 173 dX5_one_168 (by decide) (fun c168 => ?_) (fun c168 => ?_)
              · skip
                show G X 0 0 (mW (xT X) o a s (paS S u r156.2)) 173 [(0, .ref o), (1, .int (lk s p))] []
                have e : (pOne u s 1) p = (true, cls (adv r156.2)) := (by subst er156; exact pOne_41t c10 c39 c105 c145 c159 c168); have n4 : 1 ≤ (adv r156.2).2.1 := (by show 1 ≤ r156.2.2.1; omega)
                refine g_aload_n h dX5_one_173 rfl ?_
                refine g_dup h dX5_one_174 rfl ?_
                refine g_get h in_X5 0 rfl rfl 5 rfl q1379 rfl rfl dX5_one_175 ?_
                show G X 0 0 (mW (xT X) o a s (paS S u r156.2)) 178 [(0, .ref o), (1, .int (lk s p))] [.int (nI r156.2.1), .ref o]
                refine g_iconst (v := nI 1) h dX5_one_178 (by decide) ?_
                refine g_iaddN h dX5_one_179 ?_
                refine g_put (ws' := mW (xT X) o a s (paS S u (adv r156.2))) h hE.1 in_X5 tyX5 tyX5_ok nmX5 0 rfl rfl 5 rfl q1379 rfl rfl rfl rfl rfl rfl dX5_one_180 rfl ?_
                refine g_aload_n h dX5_one_183 rfl ?_
                refine g_dup h dX5_one_184 rfl ?_
                refine g_get h in_X5 0 rfl rfl 6 rfl q1380 rfl rfl dX5_one_185 ?_
                show G X 0 0 (mW (xT X) o a s (paS S u (adv r156.2))) 188 [(0, .ref o), (1, .int (lk s p))] [.int (nI ((adv r156.2).2.1)), .ref o]
                refine g_iconst (v := nI 1) h dX5_one_188 (by decide) ?_
                refine g_isubN h (by omega) dX5_one_189 ?_
                refine g_put (ws' := mW (xT X) o a s (paS S u (cls (adv r156.2)))) h hE.1 in_X5 tyX5 tyX5_ok nmX5 0 rfl rfl 6 rfl q1380 rfl rfl rfl rfl rfl rfl dX5_one_190 rfl ?_
                refine g_iconst (v := nI 1) h dX5_one_193 (by decide) ?_
                exact g_zretWv h hE dX5_one_194 (by rw [e]; rfl) (paW_eq (by rw [e]))
              · skip
                show G X 0 0 (mW (xT X) o a s (paS S u r156.2)) 171 [(0, .ref o), (1, .int (lk s p))] []
                have e : (pOne u s 1) p = (false, r156.2) := (by subst er156; exact pOne_41f c10 c39 c105 c145 c159 c168)
                refine g_iconst (v := nI 0) h dX5_one_171 (by decide) ?_
                exact g_zretWv h hE dX5_one_172 (by rw [e]; rfl) (paW_eq (by rw [e]))
      · skip
        show G X 0 0 (mW (xT X) o a s (paS S u p)) 108 [(0, .ref o), (1, .int (lk s p))] []
        have hl : p.1 < nC s := lk_lt (Q := fun z => decide (z = 33)) (by decide) (decide_eq_true c105); have z1 : p.2.1 < 5 := (by omega); have a2 := h2.opn hl
        refine g_aload_n h dX5_one_108 rfl ?_
        refine g_callVW0 h hE (m5_opens_1 _ _ _ o a s S u p (by first | assumption | omega)) 0 rfl rfl (lw_V q1598 q1600 qs57 q95 q1601) gy_X5_opens ⟨Nat.le_of_ble_eq_true rfl, Nat.le_of_ble_eq_true rfl⟩ ⟨Nat.le_of_ble_eq_true rfl, Nat.le_of_ble_eq_true rfl⟩ rfl rfl (Nat.le_of_ble_eq_true rfl) dX5_one_109 (st' := [.int (bI true)]) rfl (fun _ e109 => ?_)
        subst e109
        refine g_if_eqB h 122 dX5_one_112 (by decide) (fun c112 => ?_) (fun c112 => ?_)
        · skip
          show G X 0 0 (mW (xT X) o a s (paS S u (opn p))) 122 [(0, .ref o), (1, .int (lk s p))] []
          exact absurd c112 (by decide)
        · skip
          show G X 0 0 (mW (xT X) o a s (paS S u (opn p))) 115 [(0, .ref o), (1, .int (lk s p))] []
          refine g_aload_n h dX5_one_115 rfl ?_
          refine g_callVW0 h hE (m5_one_0 _ _ _ o a s S u (opn p) h0 (by first | assumption | omega) (by first | assumption | omega)) 0 rfl rfl (lw_V q1582 q1584 qs53 q95 q1585) gy_X5_one ⟨Nat.le_of_ble_eq_true rfl, Nat.le_of_ble_eq_true rfl⟩ ⟨Nat.le_of_ble_eq_true rfl, Nat.le_of_ble_eq_true rfl⟩ rfl rfl (Nat.le_of_ble_eq_true rfl) dX5_one_116 (st' := [.int (bI (((pOne u s 0) (opn p)).1))]) rfl (fun _ e116 => ?_)
          subst e116
          show G X 0 0 (mW (xT X) o a s (paS S u (((pOne u s 0) (opn p)).2))) 119 [(0, .ref o), (1, .int (lk s p))] [.int (bI (((pOne u s 0) (opn p)).1))]
          generalize er116 : (pOne u s 0) (opn p) = r116
          refine g_if_neB h 124 dX5_one_119 (by decide) (fun c119 => ?_) (fun c119 => ?_)
          · skip
            show G X 0 0 (mW (xT X) o a s (paS S u r116.2)) 124 [(0, .ref o), (1, .int (lk s p))] []
            have e : (pOne u s 1) p = (true, lay2 2 0 (cls r116.2)) := (by subst er116; exact pOne_33t c10 c39 c105 c119); have n2 : At s 5 r116.2 := (by subst er116; exact At.ok a2 (pOne_ok u s 0 (opn p) a2.1) c119); have n3 : (cls r116.2).2.2.1 < 62 := (show r116.2.2.2.1 < 62 from n2.st h0); have n4 := n2.2.2
            refine g_aload_n h dX5_one_124 rfl ?_
            refine g_dup h dX5_one_125 rfl ?_
            refine g_get h in_X5 0 rfl rfl 6 rfl q1380 rfl rfl dX5_one_126 ?_
            show G X 0 0 (mW (xT X) o a s (paS S u r116.2)) 129 [(0, .ref o), (1, .int (lk s p))] [.int (nI r116.2.2.1), .ref o]
            refine g_iconst (v := nI 1) h dX5_one_129 (by decide) ?_
            refine g_isubN h (by omega) dX5_one_130 ?_
            refine g_put (ws' := mW (xT X) o a s (paS S u (cls r116.2))) h hE.1 in_X5 tyX5 tyX5_ok nmX5 0 rfl rfl 6 rfl q1380 rfl rfl rfl rfl rfl rfl dX5_one_131 rfl ?_
            refine g_aload_n h dX5_one_134 rfl ?_
            refine g_iconst (v := nI 2) h dX5_one_135 (by decide) ?_
            refine g_iconst (v := nI 0) h dX5_one_136 (by decide) ?_
            refine g_callVW0 h hE (m5_lays _ _ _ o a s S u (cls r116.2) 2 0 (by first | assumption | omega)) 0 rfl rfl (lw_V q1594 q1596 qs56 q95 q1597) gy_X5_lays ⟨Nat.le_of_ble_eq_true rfl, Nat.le_of_ble_eq_true rfl⟩ ⟨Nat.le_of_ble_eq_true rfl, Nat.le_of_ble_eq_true rfl⟩ rfl rfl (Nat.le_of_ble_eq_true rfl) dX5_one_137 (st' := []) rfl (fun _ e137 => ?_)
            subst e137
            refine g_iconst (v := nI 1) h dX5_one_140 (by decide) ?_
            exact g_zretWv h hE dX5_one_141 (by rw [e]; rfl) (paW_eq (by rw [e]))
          · skip
            show G X 0 0 (mW (xT X) o a s (paS S u r116.2)) 122 [(0, .ref o), (1, .int (lk s p))] []
            have e : (pOne u s 1) p = (false, r116.2) := (by subst er116; exact pOne_33f c10 c39 c105 c119)
            refine g_iconst (v := nI 0) h dX5_one_122 (by decide) ?_
            exact g_zretWv h hE dX5_one_123 (by rw [e]; rfl) (paW_eq (by rw [e]))
    · skip
      show G X 0 0 (mW (xT X) o a s (paS S u p)) 42 [(0, .ref o), (1, .int (lk s p))] []
      have e : (pOne u s 1) p = (true, lay2 0 (numR s 4 0 p).1 (numR s 4 0 p).2) := pOne_m c10 c39
      refine g_iconst (v := nI 0) h dX5_one_42 (by decide) ?_
      refine g_istore_n (lv' := [(0, .ref o), (1, .int (lk s p)), (2, .int (nI 0))]) h dX5_one_43 (by decide) rfl ?_
      refine g_iconst (v := nI 0) h dX5_one_44 (by decide) ?_
      refine g_istore_n (lv' := [(0, .ref o), (1, .int (lk s p)), (2, .int (nI 0)), (3, .int (nI 0))]) h dX5_one_45 (by decide) rfl ?_
      have lp : ∀ i, i ≤ 4 → ∀ (_u : Unit) (x : Int32) (q : PS), (numR s 4 0 p = numR s (4 - i) x q) → (q.1 ≤ nC s) → (q.2 = p.2) → G X 0 0 (mW (xT X) o a s (paS S u q)) 46 [(0, .ref o), (1, .int (lk s p)), (2, .int x), (3, .int (nI i))] [] := by
        refine g_ind (N := 4) (fun i hi_i ih_lp => ?_)
        intro _u x q e0_lp e1_lp e2_lp
        refine g_iload_n h dX5_one_46 rfl ?_
        refine g_iconst (v := nI 4) h dX5_one_47 (by decide) ?_
        refine g_icmp_geN h 94 dX5_one_48 (by decide) (by first | omega | decide) (by first | omega | decide) (fun c48 => ?_) (fun c48 => ?_)
        · skip
          show G X 0 0 (mW (xT X) o a s (paS S u q)) 94 [(0, .ref o), (1, .int (lk s p)), (2, .int x), (3, .int (nI i))] []
          have f : numR s 4 0 p = (x, q) := by first | exact e0_lp.trans (numR_e (by omega)) | exact e0_lp.trans (numR_f c62)
          rw [f] at e; have yq : q.2.2.1 < 62 := by rw [e2_lp]; exact y0
          refine g_aload_n h dX5_one_94 rfl ?_
          refine g_iconst (v := nI 0) h dX5_one_95 (by decide) ?_
          refine g_iload_n h dX5_one_96 rfl ?_
          refine g_callVW0 h hE (m5_lays _ _ _ o a s S u q 0 x (by first | assumption | omega)) 0 rfl rfl (lw_V q1594 q1596 qs56 q95 q1597) gy_X5_lays ⟨Nat.le_of_ble_eq_true rfl, Nat.le_of_ble_eq_true rfl⟩ ⟨Nat.le_of_ble_eq_true rfl, Nat.le_of_ble_eq_true rfl⟩ rfl rfl (Nat.le_of_ble_eq_true rfl) dX5_one_97 (st' := []) rfl (fun _ e97 => ?_)
          subst e97
          refine g_iconst (v := nI 1) h dX5_one_100 (by decide) ?_
          exact g_zretWv h hE dX5_one_101 (by rw [e]; rfl) (paW_eq (by rw [e]))
        · skip
          show G X 0 0 (mW (xT X) o a s (paS S u q)) 51 [(0, .ref o), (1, .int (lk s p)), (2, .int x), (3, .int (nI i))] []
          refine g_aload_n h dX5_one_51 rfl ?_
          refine g_callVR h (m5_look _ _ _ o a s S u q h0 (by first | assumption | omega)) (fun _ q => q) 0 rfl rfl (lw_V q1586 q1588 qs54 q95 q1589) gy_X5_look ⟨Nat.le_of_ble_eq_true rfl, Nat.le_of_ble_eq_true rfl⟩ ⟨Nat.le_of_ble_eq_true rfl, Nat.le_of_ble_eq_true rfl⟩ rfl rfl (Nat.le_of_ble_eq_true rfl) dX5_one_52 ?_
          refine g_bipush (v := nI 48) h dX5_one_55 (by decide) ?_
          refine g_bipush (v := nI 57) h dX5_one_57 (by decide) ?_
          refine g_callSR h (m5_in _ _ _ (lk s q) 48 57 ) (fun _ q => nomatch q) (lw_S q1439 q1440 q95 q1441) gy_X5_in ⟨Nat.le_of_ble_eq_true rfl, Nat.le_of_ble_eq_true rfl⟩ ⟨Nat.le_of_ble_eq_true rfl, Nat.le_of_ble_eq_true rfl⟩ rfl rfl (Nat.le_of_ble_eq_true rfl) dX5_one_59 ?_
          refine g_if_eqB h 94 dX5_one_62 (by decide) (fun c62 => ?_) (fun c62 => ?_)
          · skip
            show G X 0 0 (mW (xT X) o a s (paS S u q)) 94 [(0, .ref o), (1, .int (lk s p)), (2, .int x), (3, .int (nI i))] []
            have f : numR s 4 0 p = (x, q) := by first | exact e0_lp.trans (numR_e (by omega)) | exact e0_lp.trans (numR_f c62)
            rw [f] at e; have yq : q.2.2.1 < 62 := by rw [e2_lp]; exact y0
            refine g_aload_n h dX5_one_94 rfl ?_
            refine g_iconst (v := nI 0) h dX5_one_95 (by decide) ?_
            refine g_iload_n h dX5_one_96 rfl ?_
            refine g_callVW0 h hE (m5_lays _ _ _ o a s S u q 0 x (by first | assumption | omega)) 0 rfl rfl (lw_V q1594 q1596 qs56 q95 q1597) gy_X5_lays ⟨Nat.le_of_ble_eq_true rfl, Nat.le_of_ble_eq_true rfl⟩ ⟨Nat.le_of_ble_eq_true rfl, Nat.le_of_ble_eq_true rfl⟩ rfl rfl (Nat.le_of_ble_eq_true rfl) dX5_one_97 (st' := []) rfl (fun _ e97 => ?_)
            subst e97
            refine g_iconst (v := nI 1) h dX5_one_100 (by decide) ?_
            exact g_zretWv h hE dX5_one_101 (by rw [e]; rfl) (paW_eq (by rw [e]))
          · skip
            show G X 0 0 (mW (xT X) o a s (paS S u q)) 65 [(0, .ref o), (1, .int (lk s p)), (2, .int x), (3, .int (nI i))] []
            have hl := lk_lt (Q := fun c => inB c 48 57) (by decide) c62
            refine g_bipush (v := nI 10) h dX5_one_65 (by decide) ?_
            refine g_iload_n h dX5_one_67 rfl ?_
            refine g_toI2 (y := 10) rfl ?_
            refine g_imul h dX5_one_68 ?_
            refine g_aload_n h dX5_one_69 rfl ?_
            refine g_callVR h (m5_look _ _ _ o a s S u q h0 (by first | assumption | omega)) (fun _ q => q) 0 rfl rfl (lw_V q1586 q1588 qs54 q95 q1589) gy_X5_look ⟨Nat.le_of_ble_eq_true rfl, Nat.le_of_ble_eq_true rfl⟩ ⟨Nat.le_of_ble_eq_true rfl, Nat.le_of_ble_eq_true rfl⟩ rfl rfl (Nat.le_of_ble_eq_true rfl) dX5_one_70 ?_
            refine g_iadd h dX5_one_73 ?_
            refine g_bipush (v := nI 48) h dX5_one_74 (by decide) ?_
            refine g_toI (y := 48) rfl ?_
            refine g_isub h dX5_one_76 ?_
            refine g_istore_n (lv' := [(0, .ref o), (1, .int (lk s p)), (2, .int (((10 * x) + (lk s q)) - 48)), (3, .int (nI i))]) h dX5_one_77 (by decide) rfl ?_
            refine g_aload_n h dX5_one_78 rfl ?_
            refine g_dup h dX5_one_79 rfl ?_
            refine g_get h in_X5 0 rfl rfl 5 rfl q1379 rfl rfl dX5_one_80 ?_
            show G X 0 0 (mW (xT X) o a s (paS S u q)) 83 [(0, .ref o), (1, .int (lk s p)), (2, .int (((10 * x) + (lk s q)) - 48)), (3, .int (nI i))] [.int (nI q.1), .ref o]
            refine g_iconst (v := nI 1) h dX5_one_83 (by decide) ?_
            refine g_iaddN h dX5_one_84 ?_
            refine g_put (ws' := mW (xT X) o a s (paS S u (adv q))) h hE.1 in_X5 tyX5 tyX5_ok nmX5 0 rfl rfl 5 rfl q1379 rfl rfl rfl rfl rfl rfl dX5_one_85 rfl ?_
            refine g_iincN (b := 1) (lv' := [(0, .ref o), (1, .int (lk s p)), (2, .int (((10 * x) + (lk s q)) - 48)), (3, .int (nI (i + 1)))]) h dX5_one_88 rfl rfl (by decide) rfl ?_
            refine g_goto h 46 dX5_one_91 (by decide) ?_
            exact ih_lp (i + 1) (by omega) (by omega) () (((10 * x) + (lk s q)) - 48) (adv q) (e0_lp.trans (numR_t (by omega) c62)) hl e2_lp
      exact lp (0) (by omega) () 0 p rfl l0 rfl
  · skip
    show G X 0 0 (mW (xT X) o a s (paS S u p)) 13 [(0, .ref o), (1, .int (lk s p))] []
    have e : (pOne u s 1) p = (true, lay2 1 (lk s p) (adv p)) := pOne_n c10; have hl := lk_lt (isNm_0 h1) c10; have a2 := (h2.adv hl).st h0
    refine g_aload_n h dX5_one_13 rfl ?_
    refine g_dup h dX5_one_14 rfl ?_
    refine g_get h in_X5 0 rfl rfl 5 rfl q1379 rfl rfl dX5_one_15 ?_
    show G X 0 0 (mW (xT X) o a s (paS S u p)) 18 [(0, .ref o), (1, .int (lk s p))] [.int (nI p.1), .ref o]
    refine g_iconst (v := nI 1) h dX5_one_18 (by decide) ?_
    refine g_iaddN h dX5_one_19 ?_
    refine g_put (ws' := mW (xT X) o a s (paS S u (adv p))) h hE.1 in_X5 tyX5 tyX5_ok nmX5 0 rfl rfl 5 rfl q1379 rfl rfl rfl rfl rfl rfl dX5_one_20 rfl ?_
    refine g_aload_n h dX5_one_23 rfl ?_
    refine g_iconst (v := nI 1) h dX5_one_24 (by decide) ?_
    refine g_iload_n h dX5_one_25 rfl ?_
    refine g_callVW0 h hE (m5_lays _ _ _ o a s S u (adv p) 1 (lk s p) (by first | assumption | omega)) 0 rfl rfl (lw_V q1594 q1596 qs56 q95 q1597) gy_X5_lays ⟨Nat.le_of_ble_eq_true rfl, Nat.le_of_ble_eq_true rfl⟩ ⟨Nat.le_of_ble_eq_true rfl, Nat.le_of_ble_eq_true rfl⟩ rfl rfl (Nat.le_of_ble_eq_true rfl) dX5_one_26 (st' := []) rfl (fun _ e26 => ?_)
    subst e26
    refine g_iconst (v := nI 1) h dX5_one_29 (by decide) ?_
    exact g_zretWv h hE dX5_one_30 (by rw [e]; rfl) (paW_eq (by rw [e]))
set_option maxHeartbeats 4000000 in
set_option maxRecDepth 100000 in
theorem m5_product_1 (l : Launch) (D : va_G) (T : Nat → ClassId) (o : Nat) (a : Nat → Nat) (s : Nat → Int32) (S : Nat → Nat → Int32) (u : Nat) (p : PS) (h0 : Inv s) (h1 : u < 2) (h2 : At s 4 p) : MetW l D T yX5_product cX5_product 2 (some .boolean) 8 171 0 0 [.ref o] (mW T o a s (paS S u p)) (fun r_ w_ => r_ = some (.int (bI (((pProd (pOne u s 1) s) p).1))) ∧ (w_ = mW T o a s (paS S u (((pProd (pOne u s 1) s) p).2)))) := by
  refine metW (own := RX5) rfl (by decide) rfl (fun X h hl hDx hTx hnm hE => ?_)
  subst hl; subst hDx; subst hTx
  have hnp := h0.npl; have hnt := h0.ntl; have hnq := h0.nql
  have hnc := h0.ncl; have l0 := h2.1; have b0 := h2.2.1; have z0 := h2.2.2; have y0 := h2.st h0
  show G X 0 0 (mW (xT X) o a s (paS S u p)) 0 [(0, .ref o)] []
  refine g_aload_n h dX5_product_0 rfl ?_
  refine g_callVW0 h hE (m5_one_1 _ _ _ o a s S u p h0 (by first | assumption | omega) (by first | assumption | omega)) 0 rfl rfl (lw_V q1582 q1584 qs53 q95 q1585) gy_X5_one ⟨Nat.le_of_ble_eq_true rfl, Nat.le_of_ble_eq_true rfl⟩ ⟨Nat.le_of_ble_eq_true rfl, Nat.le_of_ble_eq_true rfl⟩ rfl rfl (Nat.le_of_ble_eq_true rfl) dX5_product_1 (st' := [.int (bI (((pOne u s 1) p).1))]) rfl (fun _ e1 => ?_)
  subst e1
  show G X 0 0 (mW (xT X) o a s (paS S u (((pOne u s 1) p).2))) 4 [(0, .ref o)] [.int (bI (((pOne u s 1) p).1))]
  generalize er1 : (pOne u s 1) p = r1
  refine g_if_neB h 9 dX5_product_4 (by decide) (fun c4 => ?_) (fun c4 => ?_)
  · skip
    show G X 0 0 (mW (xT X) o a s (paS S u r1.2)) 9 [(0, .ref o)] []
    have a0 : At s 4 r1.2 := (by subst er1; exact h2.ok ((pOne_ok u s 1) p l0) c4); have l1 := a0.1
    have lw : ∀ q_ : (PS) × (Nat), (match q_ with | (q, m) => ((pProd (pOne u s 1) s) p = pR (pOne u s 1) s isMul m q) → (At s 4 q) → (nC s - q.1 < m) → G X 0 0 (mW (xT X) o a s (paS S u q)) 9 [(0, .ref o)] []) := by
      refine g_rec (fun q_ => match q_ with | (q, m) => m) ?_
      rintro ⟨q, m⟩ ih_lw e0_lw e1_lw e2_lw
      skip
      have a1 := e1_lw; have l2 := a1.1; have y2 := a1.st h0
      refine g_aload_n h dX5_product_9 rfl ?_
      refine g_callVR h (m5_look _ _ _ o a s S u q h0 (by first | assumption | omega)) (fun _ q => q) 0 rfl rfl (lw_V q1586 q1588 qs54 q95 q1589) gy_X5_look ⟨Nat.le_of_ble_eq_true rfl, Nat.le_of_ble_eq_true rfl⟩ ⟨Nat.le_of_ble_eq_true rfl, Nat.le_of_ble_eq_true rfl⟩ rfl rfl (Nat.le_of_ble_eq_true rfl) dX5_product_10 ?_
      refine g_bipush (v := nI 42) h dX5_product_13 (by decide) ?_
      refine g_toI (y := 42) rfl ?_
      refine g_icmp_eq h 36 dX5_product_15 (by decide) (fun c15 => ?_) (fun c15 => ?_)
      · skip
        show G X 0 0 (mW (xT X) o a s (paS S u q)) 36 [(0, .ref o)] []
        have hq : isMul (lk s q) = true := by simp [isMul, c15]
        have hl := lk_lt (by decide) hq; obtain ⟨m0, rfl⟩ : ∃ k, m = k + 1 := ⟨m - 1, by omega⟩; have a2 := a1.adv hl
        refine g_aload_n h dX5_product_36 rfl ?_
        refine g_callVR h (m5_look _ _ _ o a s S u q h0 (by first | assumption | omega)) (fun _ q => q) 0 rfl rfl (lw_V q1586 q1588 qs54 q95 q1589) gy_X5_look ⟨Nat.le_of_ble_eq_true rfl, Nat.le_of_ble_eq_true rfl⟩ ⟨Nat.le_of_ble_eq_true rfl, Nat.le_of_ble_eq_true rfl⟩ rfl rfl (Nat.le_of_ble_eq_true rfl) dX5_product_37 ?_
        refine g_istore_n (lv' := [(0, .ref o), (1, .int (lk s q))]) h dX5_product_40 (by decide) rfl ?_
        refine g_aload_n h dX5_product_41 rfl ?_
        refine g_dup h dX5_product_42 rfl ?_
        refine g_get h in_X5 0 rfl rfl 5 rfl q1379 rfl rfl dX5_product_43 ?_
        show G X 0 0 (mW (xT X) o a s (paS S u q)) 46 [(0, .ref o), (1, .int (lk s q))] [.int (nI q.1), .ref o]
        refine g_iconst (v := nI 1) h dX5_product_46 (by decide) ?_
        refine g_iaddN h dX5_product_47 ?_
        refine g_put (ws' := mW (xT X) o a s (paS S u (adv q))) h hE.1 in_X5 tyX5 tyX5_ok nmX5 0 rfl rfl 5 rfl q1379 rfl rfl rfl rfl rfl rfl dX5_product_48 rfl ?_
        refine g_aload_n h dX5_product_51 rfl ?_
        refine g_callVW0 h hE (m5_one_1 _ _ _ o a s S u (adv q) h0 (by first | assumption | omega) (by first | assumption | omega)) 0 rfl rfl (lw_V q1582 q1584 qs53 q95 q1585) gy_X5_one ⟨Nat.le_of_ble_eq_true rfl, Nat.le_of_ble_eq_true rfl⟩ ⟨Nat.le_of_ble_eq_true rfl, Nat.le_of_ble_eq_true rfl⟩ rfl rfl (Nat.le_of_ble_eq_true rfl) dX5_product_52 (st' := [.int (bI (((pOne u s 1) (adv q)).1))]) rfl (fun _ e52 => ?_)
        subst e52
        show G X 0 0 (mW (xT X) o a s (paS S u (((pOne u s 1) (adv q)).2))) 55 [(0, .ref o), (1, .int (lk s q))] [.int (bI (((pOne u s 1) (adv q)).1))]
        generalize er52 : (pOne u s 1) (adv q) = r52
        refine g_if_neB h 60 dX5_product_55 (by decide) (fun c55 => ?_) (fun c55 => ?_)
        · skip
          show G X 0 0 (mW (xT X) o a s (paS S u r52.2)) 60 [(0, .ref o), (1, .int (lk s q))] []
          have n0 : OKp s q (true, lay2 3 (lk s q) r52.2) := (by subst er52; exact adv_ok (pOne_ok u s 1) 3 (lk s q) hl c55); have n1 := At.ok a1 n0 rfl; have n2 : At s 4 r52.2 := (by subst er52; exact At.ok a2 ((pOne_ok u s 1) (adv q) a2.1) c55); have n3 := n2.st h0
          refine g_aload_n h dX5_product_60 rfl ?_
          refine g_iconst (v := nI 3) h dX5_product_61 (by decide) ?_
          refine g_iload_n h dX5_product_62 rfl ?_
          refine g_callVW0 h hE (m5_lays _ _ _ o a s S u r52.2 3 (lk s q) (by first | assumption | omega)) 0 rfl rfl (lw_V q1594 q1596 qs56 q95 q1597) gy_X5_lays ⟨Nat.le_of_ble_eq_true rfl, Nat.le_of_ble_eq_true rfl⟩ ⟨Nat.le_of_ble_eq_true rfl, Nat.le_of_ble_eq_true rfl⟩ rfl rfl (Nat.le_of_ble_eq_true rfl) dX5_product_63 (st' := []) rfl (fun _ e63 => ?_)
          subst e63
          refine g_goto h 9 dX5_product_66 (by decide) ?_
          refine g_lv (lv' := [(0, .ref o)]) (lvle_cons rfl (lvle_nil)) ?_
          exact ih_lw (lay2 3 (lk s q) r52.2, m0) (by show m0 < m0 + 1; omega) (by subst er52; exact e0_lw.trans (pR_t hq c55)) n1 (by subst er52; exact mu_ok ((pOne_ok u s 1) (adv q) a2.1) hl e2_lw)
        · skip
          show G X 0 0 (mW (xT X) o a s (paS S u r52.2)) 58 [(0, .ref o), (1, .int (lk s q))] []
          have e : (pProd (pOne u s 1) s) p = (false, r52.2) := (by subst er52; exact e0_lw.trans (pR_f hq c55))
          refine g_iconst (v := nI 0) h dX5_product_58 (by decide) ?_
          exact g_zretWv h hE dX5_product_59 (by rw [e]; rfl) (paW_eq (by rw [e]))
      · skip
        show G X 0 0 (mW (xT X) o a s (paS S u q)) 18 [(0, .ref o)] []
        refine g_aload_n h dX5_product_18 rfl ?_
        refine g_callVR h (m5_look _ _ _ o a s S u q h0 (by first | assumption | omega)) (fun _ q => q) 0 rfl rfl (lw_V q1586 q1588 qs54 q95 q1589) gy_X5_look ⟨Nat.le_of_ble_eq_true rfl, Nat.le_of_ble_eq_true rfl⟩ ⟨Nat.le_of_ble_eq_true rfl, Nat.le_of_ble_eq_true rfl⟩ rfl rfl (Nat.le_of_ble_eq_true rfl) dX5_product_19 ?_
        refine g_bipush (v := nI 47) h dX5_product_22 (by decide) ?_
        refine g_toI (y := 47) rfl ?_
        refine g_icmp_eq h 36 dX5_product_24 (by decide) (fun c24 => ?_) (fun c24 => ?_)
        · skip
          show G X 0 0 (mW (xT X) o a s (paS S u q)) 36 [(0, .ref o)] []
          have hq : isMul (lk s q) = true := by simp [isMul, c15, c24]
          have hl := lk_lt (by decide) hq; obtain ⟨m0, rfl⟩ : ∃ k, m = k + 1 := ⟨m - 1, by omega⟩; have a2 := a1.adv hl
          refine g_aload_n h dX5_product_36 rfl ?_
          refine g_callVR h (m5_look _ _ _ o a s S u q h0 (by first | assumption | omega)) (fun _ q => q) 0 rfl rfl (lw_V q1586 q1588 qs54 q95 q1589) gy_X5_look ⟨Nat.le_of_ble_eq_true rfl, Nat.le_of_ble_eq_true rfl⟩ ⟨Nat.le_of_ble_eq_true rfl, Nat.le_of_ble_eq_true rfl⟩ rfl rfl (Nat.le_of_ble_eq_true rfl) dX5_product_37 ?_
          refine g_istore_n (lv' := [(0, .ref o), (1, .int (lk s q))]) h dX5_product_40 (by decide) rfl ?_
          refine g_aload_n h dX5_product_41 rfl ?_
          refine g_dup h dX5_product_42 rfl ?_
          refine g_get h in_X5 0 rfl rfl 5 rfl q1379 rfl rfl dX5_product_43 ?_
          show G X 0 0 (mW (xT X) o a s (paS S u q)) 46 [(0, .ref o), (1, .int (lk s q))] [.int (nI q.1), .ref o]
          refine g_iconst (v := nI 1) h dX5_product_46 (by decide) ?_
          refine g_iaddN h dX5_product_47 ?_
          refine g_put (ws' := mW (xT X) o a s (paS S u (adv q))) h hE.1 in_X5 tyX5 tyX5_ok nmX5 0 rfl rfl 5 rfl q1379 rfl rfl rfl rfl rfl rfl dX5_product_48 rfl ?_
          refine g_aload_n h dX5_product_51 rfl ?_
          refine g_callVW0 h hE (m5_one_1 _ _ _ o a s S u (adv q) h0 (by first | assumption | omega) (by first | assumption | omega)) 0 rfl rfl (lw_V q1582 q1584 qs53 q95 q1585) gy_X5_one ⟨Nat.le_of_ble_eq_true rfl, Nat.le_of_ble_eq_true rfl⟩ ⟨Nat.le_of_ble_eq_true rfl, Nat.le_of_ble_eq_true rfl⟩ rfl rfl (Nat.le_of_ble_eq_true rfl) dX5_product_52 (st' := [.int (bI (((pOne u s 1) (adv q)).1))]) rfl (fun _ e52 => ?_)
          subst e52
          show G X 0 0 (mW (xT X) o a s (paS S u (((pOne u s 1) (adv q)).2))) 55 [(0, .ref o), (1, .int (lk s q))] [.int (bI (((pOne u s 1) (adv q)).1))]
          generalize er52 : (pOne u s 1) (adv q) = r52
          refine g_if_neB h 60 dX5_product_55 (by decide) (fun c55 => ?_) (fun c55 => ?_)
          · skip
            show G X 0 0 (mW (xT X) o a s (paS S u r52.2)) 60 [(0, .ref o), (1, .int (lk s q))] []
            have n0 : OKp s q (true, lay2 3 (lk s q) r52.2) := (by subst er52; exact adv_ok (pOne_ok u s 1) 3 (lk s q) hl c55); have n1 := At.ok a1 n0 rfl; have n2 : At s 4 r52.2 := (by subst er52; exact At.ok a2 ((pOne_ok u s 1) (adv q) a2.1) c55); have n3 := n2.st h0
            refine g_aload_n h dX5_product_60 rfl ?_
            refine g_iconst (v := nI 3) h dX5_product_61 (by decide) ?_
            refine g_iload_n h dX5_product_62 rfl ?_
            refine g_callVW0 h hE (m5_lays _ _ _ o a s S u r52.2 3 (lk s q) (by first | assumption | omega)) 0 rfl rfl (lw_V q1594 q1596 qs56 q95 q1597) gy_X5_lays ⟨Nat.le_of_ble_eq_true rfl, Nat.le_of_ble_eq_true rfl⟩ ⟨Nat.le_of_ble_eq_true rfl, Nat.le_of_ble_eq_true rfl⟩ rfl rfl (Nat.le_of_ble_eq_true rfl) dX5_product_63 (st' := []) rfl (fun _ e63 => ?_)
            subst e63
            refine g_goto h 9 dX5_product_66 (by decide) ?_
            refine g_lv (lv' := [(0, .ref o)]) (lvle_cons rfl (lvle_nil)) ?_
            exact ih_lw (lay2 3 (lk s q) r52.2, m0) (by show m0 < m0 + 1; omega) (by subst er52; exact e0_lw.trans (pR_t hq c55)) n1 (by subst er52; exact mu_ok ((pOne_ok u s 1) (adv q) a2.1) hl e2_lw)
          · skip
            show G X 0 0 (mW (xT X) o a s (paS S u r52.2)) 58 [(0, .ref o), (1, .int (lk s q))] []
            have e : (pProd (pOne u s 1) s) p = (false, r52.2) := (by subst er52; exact e0_lw.trans (pR_f hq c55))
            refine g_iconst (v := nI 0) h dX5_product_58 (by decide) ?_
            exact g_zretWv h hE dX5_product_59 (by rw [e]; rfl) (paW_eq (by rw [e]))
        · skip
          show G X 0 0 (mW (xT X) o a s (paS S u q)) 27 [(0, .ref o)] []
          refine g_aload_n h dX5_product_27 rfl ?_
          refine g_callVR h (m5_look _ _ _ o a s S u q h0 (by first | assumption | omega)) (fun _ q => q) 0 rfl rfl (lw_V q1586 q1588 qs54 q95 q1589) gy_X5_look ⟨Nat.le_of_ble_eq_true rfl, Nat.le_of_ble_eq_true rfl⟩ ⟨Nat.le_of_ble_eq_true rfl, Nat.le_of_ble_eq_true rfl⟩ rfl rfl (Nat.le_of_ble_eq_true rfl) dX5_product_28 ?_
          refine g_bipush (v := nI 37) h dX5_product_31 (by decide) ?_
          refine g_toI (y := 37) rfl ?_
          refine g_icmp_ne h 69 dX5_product_33 (by decide) (fun c33 => ?_) (fun c33 => ?_)
          · skip
            show G X 0 0 (mW (xT X) o a s (paS S u q)) 69 [(0, .ref o)] []
            have hq : isMul (lk s q) = false := by simp [isMul, c15, c24, c33]
            have e : (pProd (pOne u s 1) s) p = (true, q) := e0_lw.trans (pR_n hq)
            refine g_iconst (v := nI 1) h dX5_product_69 (by decide) ?_
            exact g_zretWv h hE dX5_product_70 (by rw [e]; rfl) (paW_eq (by rw [e]))
          · skip
            show G X 0 0 (mW (xT X) o a s (paS S u q)) 36 [(0, .ref o)] []
            have hq : isMul (lk s q) = true := by simp [isMul, c15, c24, c33]
            have hl := lk_lt (by decide) hq; obtain ⟨m0, rfl⟩ : ∃ k, m = k + 1 := ⟨m - 1, by omega⟩; have a2 := a1.adv hl
            refine g_aload_n h dX5_product_36 rfl ?_
            refine g_callVR h (m5_look _ _ _ o a s S u q h0 (by first | assumption | omega)) (fun _ q => q) 0 rfl rfl (lw_V q1586 q1588 qs54 q95 q1589) gy_X5_look ⟨Nat.le_of_ble_eq_true rfl, Nat.le_of_ble_eq_true rfl⟩ ⟨Nat.le_of_ble_eq_true rfl, Nat.le_of_ble_eq_true rfl⟩ rfl rfl (Nat.le_of_ble_eq_true rfl) dX5_product_37 ?_
            refine g_istore_n (lv' := [(0, .ref o), (1, .int (lk s q))]) h dX5_product_40 (by decide) rfl ?_
            refine g_aload_n h dX5_product_41 rfl ?_
            refine g_dup h dX5_product_42 rfl ?_
            refine g_get h in_X5 0 rfl rfl 5 rfl q1379 rfl rfl dX5_product_43 ?_
            show G X 0 0 (mW (xT X) o a s (paS S u q)) 46 [(0, .ref o), (1, .int (lk s q))] [.int (nI q.1), .ref o]
            refine g_iconst (v := nI 1) h dX5_product_46 (by decide) ?_
            refine g_iaddN h dX5_product_47 ?_
            refine g_put (ws' := mW (xT X) o a s (paS S u (adv q))) h hE.1 in_X5 tyX5 tyX5_ok nmX5 0 rfl rfl 5 rfl q1379 rfl rfl rfl rfl rfl rfl dX5_product_48 rfl ?_
            refine g_aload_n h dX5_product_51 rfl ?_
            refine g_callVW0 h hE (m5_one_1 _ _ _ o a s S u (adv q) h0 (by first | assumption | omega) (by first | assumption | omega)) 0 rfl rfl (lw_V q1582 q1584 qs53 q95 q1585) gy_X5_one ⟨Nat.le_of_ble_eq_true rfl, Nat.le_of_ble_eq_true rfl⟩ ⟨Nat.le_of_ble_eq_true rfl, Nat.le_of_ble_eq_true rfl⟩ rfl rfl (Nat.le_of_ble_eq_true rfl) dX5_product_52 (st' := [.int (bI (((pOne u s 1) (adv q)).1))]) rfl (fun _ e52 => ?_)
            subst e52
            show G X 0 0 (mW (xT X) o a s (paS S u (((pOne u s 1) (adv q)).2))) 55 [(0, .ref o), (1, .int (lk s q))] [.int (bI (((pOne u s 1) (adv q)).1))]
            generalize er52 : (pOne u s 1) (adv q) = r52
            refine g_if_neB h 60 dX5_product_55 (by decide) (fun c55 => ?_) (fun c55 => ?_)
            · skip
              show G X 0 0 (mW (xT X) o a s (paS S u r52.2)) 60 [(0, .ref o), (1, .int (lk s q))] []
              have n0 : OKp s q (true, lay2 3 (lk s q) r52.2) := (by subst er52; exact adv_ok (pOne_ok u s 1) 3 (lk s q) hl c55); have n1 := At.ok a1 n0 rfl; have n2 : At s 4 r52.2 := (by subst er52; exact At.ok a2 ((pOne_ok u s 1) (adv q) a2.1) c55); have n3 := n2.st h0
              refine g_aload_n h dX5_product_60 rfl ?_
              refine g_iconst (v := nI 3) h dX5_product_61 (by decide) ?_
              refine g_iload_n h dX5_product_62 rfl ?_
              refine g_callVW0 h hE (m5_lays _ _ _ o a s S u r52.2 3 (lk s q) (by first | assumption | omega)) 0 rfl rfl (lw_V q1594 q1596 qs56 q95 q1597) gy_X5_lays ⟨Nat.le_of_ble_eq_true rfl, Nat.le_of_ble_eq_true rfl⟩ ⟨Nat.le_of_ble_eq_true rfl, Nat.le_of_ble_eq_true rfl⟩ rfl rfl (Nat.le_of_ble_eq_true rfl) dX5_product_63 (st' := []) rfl (fun _ e63 => ?_)
              subst e63
              refine g_goto h 9 dX5_product_66 (by decide) ?_
              refine g_lv (lv' := [(0, .ref o)]) (lvle_cons rfl (lvle_nil)) ?_
              exact ih_lw (lay2 3 (lk s q) r52.2, m0) (by show m0 < m0 + 1; omega) (by subst er52; exact e0_lw.trans (pR_t hq c55)) n1 (by subst er52; exact mu_ok ((pOne_ok u s 1) (adv q) a2.1) hl e2_lw)
            · skip
              show G X 0 0 (mW (xT X) o a s (paS S u r52.2)) 58 [(0, .ref o), (1, .int (lk s q))] []
              have e : (pProd (pOne u s 1) s) p = (false, r52.2) := (by subst er52; exact e0_lw.trans (pR_f hq c55))
              refine g_iconst (v := nI 0) h dX5_product_58 (by decide) ?_
              exact g_zretWv h hE dX5_product_59 (by rw [e]; rfl) (paW_eq (by rw [e]))
    exact lw (r1.2, 61) (by subst er1; exact pProd_t c4) a0 (by omega)
  · skip
    show G X 0 0 (mW (xT X) o a s (paS S u r1.2)) 7 [(0, .ref o)] []
    have e : (pProd (pOne u s 1) s) p = (false, r1.2) := (by subst er1; exact pProd_f c4)
    refine g_iconst (v := nI 0) h dX5_product_7 (by decide) ?_
    exact g_zretWv h hE dX5_product_8 (by rw [e]; rfl) (paW_eq (by rw [e]))
set_option maxHeartbeats 4000000 in
set_option maxRecDepth 100000 in
theorem m5_sum_1 (l : Launch) (D : va_G) (T : Nat → ClassId) (o : Nat) (a : Nat → Nat) (s : Nat → Int32) (S : Nat → Nat → Int32) (u : Nat) (p : PS) (h0 : Inv s) (h1 : u < 2) (h2 : At s 4 p) : MetW l D T yX5_sum cX5_sum 2 (some .boolean) 9 192 0 0 [.ref o] (mW T o a s (paS S u p)) (fun r_ w_ => r_ = some (.int (bI (((pSum (pOne u s 1) s) p).1))) ∧ (w_ = mW T o a s (paS S u (((pSum (pOne u s 1) s) p).2)))) := by
  refine metW (own := RX5) rfl (by decide) rfl (fun X h hl hDx hTx hnm hE => ?_)
  subst hl; subst hDx; subst hTx
  have hnp := h0.npl; have hnt := h0.ntl; have hnq := h0.nql
  have hnc := h0.ncl; have l0 := h2.1; have b0 := h2.2.1; have z0 := h2.2.2; have y0 := h2.st h0
  show G X 0 0 (mW (xT X) o a s (paS S u p)) 0 [(0, .ref o)] []
  refine g_aload_n h dX5_sum_0 rfl ?_
  refine g_callVW0 h hE (m5_product_1 _ _ _ o a s S u p h0 (by first | assumption | omega) (by first | assumption | omega)) 0 rfl rfl (lw_V q1578 q1580 qs52 q95 q1581) gy_X5_product ⟨Nat.le_of_ble_eq_true rfl, Nat.le_of_ble_eq_true rfl⟩ ⟨Nat.le_of_ble_eq_true rfl, Nat.le_of_ble_eq_true rfl⟩ rfl rfl (Nat.le_of_ble_eq_true rfl) dX5_sum_1 (st' := [.int (bI (((pProd (pOne u s 1) s) p).1))]) rfl (fun _ e1 => ?_)
  subst e1
  show G X 0 0 (mW (xT X) o a s (paS S u (((pProd (pOne u s 1) s) p).2))) 4 [(0, .ref o)] [.int (bI (((pProd (pOne u s 1) s) p).1))]
  generalize er1 : (pProd (pOne u s 1) s) p = r1
  refine g_if_neB h 9 dX5_sum_4 (by decide) (fun c4 => ?_) (fun c4 => ?_)
  · skip
    show G X 0 0 (mW (xT X) o a s (paS S u r1.2)) 9 [(0, .ref o)] []
    have a0 : At s 4 r1.2 := (by subst er1; exact h2.ok ((pProd_ok (pOne_ok u s 1)) p l0) c4); have l1 := a0.1
    have lw : ∀ q_ : (PS) × (Nat), (match q_ with | (q, m) => ((pSum (pOne u s 1) s) p = pR (pProd (pOne u s 1) s) s isAdd m q) → (At s 4 q) → (nC s - q.1 < m) → G X 0 0 (mW (xT X) o a s (paS S u q)) 9 [(0, .ref o)] []) := by
      refine g_rec (fun q_ => match q_ with | (q, m) => m) ?_
      rintro ⟨q, m⟩ ih_lw e0_lw e1_lw e2_lw
      skip
      have a1 := e1_lw; have l2 := a1.1; have y2 := a1.st h0
      refine g_aload_n h dX5_sum_9 rfl ?_
      refine g_callVR h (m5_look _ _ _ o a s S u q h0 (by first | assumption | omega)) (fun _ q => q) 0 rfl rfl (lw_V q1586 q1588 qs54 q95 q1589) gy_X5_look ⟨Nat.le_of_ble_eq_true rfl, Nat.le_of_ble_eq_true rfl⟩ ⟨Nat.le_of_ble_eq_true rfl, Nat.le_of_ble_eq_true rfl⟩ rfl rfl (Nat.le_of_ble_eq_true rfl) dX5_sum_10 ?_
      refine g_bipush (v := nI 43) h dX5_sum_13 (by decide) ?_
      refine g_toI (y := 43) rfl ?_
      refine g_icmp_eq h 27 dX5_sum_15 (by decide) (fun c15 => ?_) (fun c15 => ?_)
      · skip
        show G X 0 0 (mW (xT X) o a s (paS S u q)) 27 [(0, .ref o)] []
        have hq : isAdd (lk s q) = true := by simp [isAdd, c15]
        have hl := lk_lt (by decide) hq; obtain ⟨m0, rfl⟩ : ∃ k, m = k + 1 := ⟨m - 1, by omega⟩; have a2 := a1.adv hl
        refine g_aload_n h dX5_sum_27 rfl ?_
        refine g_callVR h (m5_look _ _ _ o a s S u q h0 (by first | assumption | omega)) (fun _ q => q) 0 rfl rfl (lw_V q1586 q1588 qs54 q95 q1589) gy_X5_look ⟨Nat.le_of_ble_eq_true rfl, Nat.le_of_ble_eq_true rfl⟩ ⟨Nat.le_of_ble_eq_true rfl, Nat.le_of_ble_eq_true rfl⟩ rfl rfl (Nat.le_of_ble_eq_true rfl) dX5_sum_28 ?_
        refine g_istore_n (lv' := [(0, .ref o), (1, .int (lk s q))]) h dX5_sum_31 (by decide) rfl ?_
        refine g_aload_n h dX5_sum_32 rfl ?_
        refine g_dup h dX5_sum_33 rfl ?_
        refine g_get h in_X5 0 rfl rfl 5 rfl q1379 rfl rfl dX5_sum_34 ?_
        show G X 0 0 (mW (xT X) o a s (paS S u q)) 37 [(0, .ref o), (1, .int (lk s q))] [.int (nI q.1), .ref o]
        refine g_iconst (v := nI 1) h dX5_sum_37 (by decide) ?_
        refine g_iaddN h dX5_sum_38 ?_
        refine g_put (ws' := mW (xT X) o a s (paS S u (adv q))) h hE.1 in_X5 tyX5 tyX5_ok nmX5 0 rfl rfl 5 rfl q1379 rfl rfl rfl rfl rfl rfl dX5_sum_39 rfl ?_
        refine g_aload_n h dX5_sum_42 rfl ?_
        refine g_callVW0 h hE (m5_product_1 _ _ _ o a s S u (adv q) h0 (by first | assumption | omega) (by first | assumption | omega)) 0 rfl rfl (lw_V q1578 q1580 qs52 q95 q1581) gy_X5_product ⟨Nat.le_of_ble_eq_true rfl, Nat.le_of_ble_eq_true rfl⟩ ⟨Nat.le_of_ble_eq_true rfl, Nat.le_of_ble_eq_true rfl⟩ rfl rfl (Nat.le_of_ble_eq_true rfl) dX5_sum_43 (st' := [.int (bI (((pProd (pOne u s 1) s) (adv q)).1))]) rfl (fun _ e43 => ?_)
        subst e43
        show G X 0 0 (mW (xT X) o a s (paS S u (((pProd (pOne u s 1) s) (adv q)).2))) 46 [(0, .ref o), (1, .int (lk s q))] [.int (bI (((pProd (pOne u s 1) s) (adv q)).1))]
        generalize er43 : (pProd (pOne u s 1) s) (adv q) = r43
        refine g_if_neB h 51 dX5_sum_46 (by decide) (fun c46 => ?_) (fun c46 => ?_)
        · skip
          show G X 0 0 (mW (xT X) o a s (paS S u r43.2)) 51 [(0, .ref o), (1, .int (lk s q))] []
          have n0 : OKp s q (true, lay2 3 (lk s q) r43.2) := (by subst er43; exact adv_ok (pProd_ok (pOne_ok u s 1)) 3 (lk s q) hl c46); have n1 := At.ok a1 n0 rfl; have n2 : At s 4 r43.2 := (by subst er43; exact At.ok a2 ((pProd_ok (pOne_ok u s 1)) (adv q) a2.1) c46); have n3 := n2.st h0
          refine g_aload_n h dX5_sum_51 rfl ?_
          refine g_iconst (v := nI 3) h dX5_sum_52 (by decide) ?_
          refine g_iload_n h dX5_sum_53 rfl ?_
          refine g_callVW0 h hE (m5_lays _ _ _ o a s S u r43.2 3 (lk s q) (by first | assumption | omega)) 0 rfl rfl (lw_V q1594 q1596 qs56 q95 q1597) gy_X5_lays ⟨Nat.le_of_ble_eq_true rfl, Nat.le_of_ble_eq_true rfl⟩ ⟨Nat.le_of_ble_eq_true rfl, Nat.le_of_ble_eq_true rfl⟩ rfl rfl (Nat.le_of_ble_eq_true rfl) dX5_sum_54 (st' := []) rfl (fun _ e54 => ?_)
          subst e54
          refine g_goto h 9 dX5_sum_57 (by decide) ?_
          refine g_lv (lv' := [(0, .ref o)]) (lvle_cons rfl (lvle_nil)) ?_
          exact ih_lw (lay2 3 (lk s q) r43.2, m0) (by show m0 < m0 + 1; omega) (by subst er43; exact e0_lw.trans (pR_t hq c46)) n1 (by subst er43; exact mu_ok ((pProd_ok (pOne_ok u s 1)) (adv q) a2.1) hl e2_lw)
        · skip
          show G X 0 0 (mW (xT X) o a s (paS S u r43.2)) 49 [(0, .ref o), (1, .int (lk s q))] []
          have e : (pSum (pOne u s 1) s) p = (false, r43.2) := (by subst er43; exact e0_lw.trans (pR_f hq c46))
          refine g_iconst (v := nI 0) h dX5_sum_49 (by decide) ?_
          exact g_zretWv h hE dX5_sum_50 (by rw [e]; rfl) (paW_eq (by rw [e]))
      · skip
        show G X 0 0 (mW (xT X) o a s (paS S u q)) 18 [(0, .ref o)] []
        refine g_aload_n h dX5_sum_18 rfl ?_
        refine g_callVR h (m5_look _ _ _ o a s S u q h0 (by first | assumption | omega)) (fun _ q => q) 0 rfl rfl (lw_V q1586 q1588 qs54 q95 q1589) gy_X5_look ⟨Nat.le_of_ble_eq_true rfl, Nat.le_of_ble_eq_true rfl⟩ ⟨Nat.le_of_ble_eq_true rfl, Nat.le_of_ble_eq_true rfl⟩ rfl rfl (Nat.le_of_ble_eq_true rfl) dX5_sum_19 ?_
        refine g_bipush (v := nI 45) h dX5_sum_22 (by decide) ?_
        refine g_toI (y := 45) rfl ?_
        refine g_icmp_ne h 60 dX5_sum_24 (by decide) (fun c24 => ?_) (fun c24 => ?_)
        · skip
          show G X 0 0 (mW (xT X) o a s (paS S u q)) 60 [(0, .ref o)] []
          have hq : isAdd (lk s q) = false := by simp [isAdd, c15, c24]
          have e : (pSum (pOne u s 1) s) p = (true, q) := e0_lw.trans (pR_n hq)
          refine g_iconst (v := nI 1) h dX5_sum_60 (by decide) ?_
          exact g_zretWv h hE dX5_sum_61 (by rw [e]; rfl) (paW_eq (by rw [e]))
        · skip
          show G X 0 0 (mW (xT X) o a s (paS S u q)) 27 [(0, .ref o)] []
          have hq : isAdd (lk s q) = true := by simp [isAdd, c15, c24]
          have hl := lk_lt (by decide) hq; obtain ⟨m0, rfl⟩ : ∃ k, m = k + 1 := ⟨m - 1, by omega⟩; have a2 := a1.adv hl
          refine g_aload_n h dX5_sum_27 rfl ?_
          refine g_callVR h (m5_look _ _ _ o a s S u q h0 (by first | assumption | omega)) (fun _ q => q) 0 rfl rfl (lw_V q1586 q1588 qs54 q95 q1589) gy_X5_look ⟨Nat.le_of_ble_eq_true rfl, Nat.le_of_ble_eq_true rfl⟩ ⟨Nat.le_of_ble_eq_true rfl, Nat.le_of_ble_eq_true rfl⟩ rfl rfl (Nat.le_of_ble_eq_true rfl) dX5_sum_28 ?_
          refine g_istore_n (lv' := [(0, .ref o), (1, .int (lk s q))]) h dX5_sum_31 (by decide) rfl ?_
          refine g_aload_n h dX5_sum_32 rfl ?_
          refine g_dup h dX5_sum_33 rfl ?_
          refine g_get h in_X5 0 rfl rfl 5 rfl q1379 rfl rfl dX5_sum_34 ?_
          show G X 0 0 (mW (xT X) o a s (paS S u q)) 37 [(0, .ref o), (1, .int (lk s q))] [.int (nI q.1), .ref o]
          refine g_iconst (v := nI 1) h dX5_sum_37 (by decide) ?_
          refine g_iaddN h dX5_sum_38 ?_
          refine g_put (ws' := mW (xT X) o a s (paS S u (adv q))) h hE.1 in_X5 tyX5 tyX5_ok nmX5 0 rfl rfl 5 rfl q1379 rfl rfl rfl rfl rfl rfl dX5_sum_39 rfl ?_
          refine g_aload_n h dX5_sum_42 rfl ?_
          refine g_callVW0 h hE (m5_product_1 _ _ _ o a s S u (adv q) h0 (by first | assumption | omega) (by first | assumption | omega)) 0 rfl rfl (lw_V q1578 q1580 qs52 q95 q1581) gy_X5_product ⟨Nat.le_of_ble_eq_true rfl, Nat.le_of_ble_eq_true rfl⟩ ⟨Nat.le_of_ble_eq_true rfl, Nat.le_of_ble_eq_true rfl⟩ rfl rfl (Nat.le_of_ble_eq_true rfl) dX5_sum_43 (st' := [.int (bI (((pProd (pOne u s 1) s) (adv q)).1))]) rfl (fun _ e43 => ?_)
          subst e43
          show G X 0 0 (mW (xT X) o a s (paS S u (((pProd (pOne u s 1) s) (adv q)).2))) 46 [(0, .ref o), (1, .int (lk s q))] [.int (bI (((pProd (pOne u s 1) s) (adv q)).1))]
          generalize er43 : (pProd (pOne u s 1) s) (adv q) = r43
          refine g_if_neB h 51 dX5_sum_46 (by decide) (fun c46 => ?_) (fun c46 => ?_)
          · skip
            show G X 0 0 (mW (xT X) o a s (paS S u r43.2)) 51 [(0, .ref o), (1, .int (lk s q))] []
            have n0 : OKp s q (true, lay2 3 (lk s q) r43.2) := (by subst er43; exact adv_ok (pProd_ok (pOne_ok u s 1)) 3 (lk s q) hl c46); have n1 := At.ok a1 n0 rfl; have n2 : At s 4 r43.2 := (by subst er43; exact At.ok a2 ((pProd_ok (pOne_ok u s 1)) (adv q) a2.1) c46); have n3 := n2.st h0
            refine g_aload_n h dX5_sum_51 rfl ?_
            refine g_iconst (v := nI 3) h dX5_sum_52 (by decide) ?_
            refine g_iload_n h dX5_sum_53 rfl ?_
            refine g_callVW0 h hE (m5_lays _ _ _ o a s S u r43.2 3 (lk s q) (by first | assumption | omega)) 0 rfl rfl (lw_V q1594 q1596 qs56 q95 q1597) gy_X5_lays ⟨Nat.le_of_ble_eq_true rfl, Nat.le_of_ble_eq_true rfl⟩ ⟨Nat.le_of_ble_eq_true rfl, Nat.le_of_ble_eq_true rfl⟩ rfl rfl (Nat.le_of_ble_eq_true rfl) dX5_sum_54 (st' := []) rfl (fun _ e54 => ?_)
            subst e54
            refine g_goto h 9 dX5_sum_57 (by decide) ?_
            refine g_lv (lv' := [(0, .ref o)]) (lvle_cons rfl (lvle_nil)) ?_
            exact ih_lw (lay2 3 (lk s q) r43.2, m0) (by show m0 < m0 + 1; omega) (by subst er43; exact e0_lw.trans (pR_t hq c46)) n1 (by subst er43; exact mu_ok ((pProd_ok (pOne_ok u s 1)) (adv q) a2.1) hl e2_lw)
          · skip
            show G X 0 0 (mW (xT X) o a s (paS S u r43.2)) 49 [(0, .ref o), (1, .int (lk s q))] []
            have e : (pSum (pOne u s 1) s) p = (false, r43.2) := (by subst er43; exact e0_lw.trans (pR_f hq c46))
            refine g_iconst (v := nI 0) h dX5_sum_49 (by decide) ?_
            exact g_zretWv h hE dX5_sum_50 (by rw [e]; rfl) (paW_eq (by rw [e]))
    exact lw (r1.2, 61) (by subst er1; exact pSum_t c4) a0 (by omega)
  · skip
    show G X 0 0 (mW (xT X) o a s (paS S u r1.2)) 7 [(0, .ref o)] []
    have e : (pSum (pOne u s 1) s) p = (false, r1.2) := (by subst er1; exact pSum_f c4)
    refine g_iconst (v := nI 0) h dX5_sum_7 (by decide) ?_
    exact g_zretWv h hE dX5_sum_8 (by rw [e]; rfl) (paW_eq (by rw [e]))
set_option maxHeartbeats 4000000 in
set_option maxRecDepth 100000 in
theorem m5_compared_1 (l : Launch) (D : va_G) (T : Nat → ClassId) (o : Nat) (a : Nat → Nat) (s : Nat → Int32) (S : Nat → Nat → Int32) (u : Nat) (p : PS) (h0 : Inv s) (h1 : u < 2) (h2 : At s 4 p) : MetW l D T yX5_compared cX5_compared 2 (some .boolean) 10 213 0 0 [.ref o] (mW T o a s (paS S u p)) (fun r_ w_ => r_ = some (.int (bI (((pCmp (pOne u s 1) s) p).1))) ∧ (w_ = mW T o a s (paS S u (((pCmp (pOne u s 1) s) p).2)))) := by
  refine metW (own := RX5) rfl (by decide) rfl (fun X h hl hDx hTx hnm hE => ?_)
  subst hl; subst hDx; subst hTx
  have hnp := h0.npl; have hnt := h0.ntl; have hnq := h0.nql
  have hnc := h0.ncl; have l0 := h2.1; have b0 := h2.2.1; have z0 := h2.2.2; have y0 := h2.st h0
  show G X 0 0 (mW (xT X) o a s (paS S u p)) 0 [(0, .ref o)] []
  refine g_aload_n h dX5_compared_0 rfl ?_
  refine g_callVW0 h hE (m5_sum_1 _ _ _ o a s S u p h0 (by first | assumption | omega) (by first | assumption | omega)) 0 rfl rfl (lw_V q1574 q1576 qs51 q95 q1577) gy_X5_sum ⟨Nat.le_of_ble_eq_true rfl, Nat.le_of_ble_eq_true rfl⟩ ⟨Nat.le_of_ble_eq_true rfl, Nat.le_of_ble_eq_true rfl⟩ rfl rfl (Nat.le_of_ble_eq_true rfl) dX5_compared_1 (st' := [.int (bI (((pSum (pOne u s 1) s) p).1))]) rfl (fun _ e1 => ?_)
  subst e1
  show G X 0 0 (mW (xT X) o a s (paS S u (((pSum (pOne u s 1) s) p).2))) 4 [(0, .ref o)] [.int (bI (((pSum (pOne u s 1) s) p).1))]
  generalize er1 : (pSum (pOne u s 1) s) p = r1
  refine g_if_neB h 9 dX5_compared_4 (by decide) (fun c4 => ?_) (fun c4 => ?_)
  · skip
    show G X 0 0 (mW (xT X) o a s (paS S u r1.2)) 9 [(0, .ref o)] []
    have a1 : At s 4 r1.2 := (by subst er1; exact h2.ok ((pSum_ok (pOne_ok u s 1)) p l0) c4); have l1 := a1.1
    refine g_aload_n h dX5_compared_9 rfl ?_
    refine g_callVR h (m5_look _ _ _ o a s S u r1.2 h0 (by first | assumption | omega)) (fun _ q => q) 0 rfl rfl (lw_V q1586 q1588 qs54 q95 q1589) gy_X5_look ⟨Nat.le_of_ble_eq_true rfl, Nat.le_of_ble_eq_true rfl⟩ ⟨Nat.le_of_ble_eq_true rfl, Nat.le_of_ble_eq_true rfl⟩ rfl rfl (Nat.le_of_ble_eq_true rfl) dX5_compared_10 ?_
    refine g_istore_n (lv' := [(0, .ref o), (1, .int (lk s r1.2))]) h dX5_compared_13 (by decide) rfl ?_
    refine g_iload_n h dX5_compared_14 rfl ?_
    refine g_bipush (v := nI 60) h dX5_compared_15 (by decide) ?_
    refine g_toI (y := 60) rfl ?_
    refine g_icmp_eq h 34 dX5_compared_17 (by decide) (fun c17 => ?_) (fun c17 => ?_)
    · skip
      show G X 0 0 (mW (xT X) o a s (paS S u r1.2)) 34 [(0, .ref o), (1, .int (lk s r1.2))] []
      have hq : isCmp (lk s r1.2) = true := by simp [isCmp, c17]
      have hl := lk_lt (by decide) hq; have a2 := a1.adv hl
      refine g_aload_n h dX5_compared_34 rfl ?_
      refine g_dup h dX5_compared_35 rfl ?_
      refine g_get h in_X5 0 rfl rfl 5 rfl q1379 rfl rfl dX5_compared_36 ?_
      show G X 0 0 (mW (xT X) o a s (paS S u r1.2)) 39 [(0, .ref o), (1, .int (lk s r1.2))] [.int (nI r1.2.1), .ref o]
      refine g_iconst (v := nI 1) h dX5_compared_39 (by decide) ?_
      refine g_iaddN h dX5_compared_40 ?_
      refine g_put (ws' := mW (xT X) o a s (paS S u (adv r1.2))) h hE.1 in_X5 tyX5 tyX5_ok nmX5 0 rfl rfl 5 rfl q1379 rfl rfl rfl rfl rfl rfl dX5_compared_41 rfl ?_
      refine g_aload_n h dX5_compared_44 rfl ?_
      refine g_callVW0 h hE (m5_sum_1 _ _ _ o a s S u (adv r1.2) h0 (by first | assumption | omega) (by first | assumption | omega)) 0 rfl rfl (lw_V q1574 q1576 qs51 q95 q1577) gy_X5_sum ⟨Nat.le_of_ble_eq_true rfl, Nat.le_of_ble_eq_true rfl⟩ ⟨Nat.le_of_ble_eq_true rfl, Nat.le_of_ble_eq_true rfl⟩ rfl rfl (Nat.le_of_ble_eq_true rfl) dX5_compared_45 (st' := [.int (bI (((pSum (pOne u s 1) s) (adv r1.2)).1))]) rfl (fun _ e45 => ?_)
      subst e45
      show G X 0 0 (mW (xT X) o a s (paS S u (((pSum (pOne u s 1) s) (adv r1.2)).2))) 48 [(0, .ref o), (1, .int (lk s r1.2))] [.int (bI (((pSum (pOne u s 1) s) (adv r1.2)).1))]
      generalize er45 : (pSum (pOne u s 1) s) (adv r1.2) = r45
      refine g_if_neB h 53 dX5_compared_48 (by decide) (fun c48 => ?_) (fun c48 => ?_)
      · skip
        show G X 0 0 (mW (xT X) o a s (paS S u r45.2)) 53 [(0, .ref o), (1, .int (lk s r1.2))] []
        have e : (pCmp (pOne u s 1) s) p = (true, lay2 3 (lk s r1.2) r45.2) := (by subst er45; subst er1; exact pCmp_t c4 hq c48); have n2 : At s 4 r45.2 := (by subst er45; exact At.ok a2 ((pSum_ok (pOne_ok u s 1)) (adv r1.2) a2.1) c48); have n3 := n2.st h0
        refine g_aload_n h dX5_compared_53 rfl ?_
        refine g_iconst (v := nI 3) h dX5_compared_54 (by decide) ?_
        refine g_iload_n h dX5_compared_55 rfl ?_
        refine g_callVW0 h hE (m5_lays _ _ _ o a s S u r45.2 3 (lk s r1.2) (by first | assumption | omega)) 0 rfl rfl (lw_V q1594 q1596 qs56 q95 q1597) gy_X5_lays ⟨Nat.le_of_ble_eq_true rfl, Nat.le_of_ble_eq_true rfl⟩ ⟨Nat.le_of_ble_eq_true rfl, Nat.le_of_ble_eq_true rfl⟩ rfl rfl (Nat.le_of_ble_eq_true rfl) dX5_compared_56 (st' := []) rfl (fun _ e56 => ?_)
        subst e56
        refine g_iconst (v := nI 1) h dX5_compared_59 (by decide) ?_
        exact g_zretWv h hE dX5_compared_60 (by rw [e]; rfl) (paW_eq (by rw [e]))
      · skip
        show G X 0 0 (mW (xT X) o a s (paS S u r45.2)) 51 [(0, .ref o), (1, .int (lk s r1.2))] []
        have e : (pCmp (pOne u s 1) s) p = (false, r45.2) := (by subst er45; subst er1; exact pCmp_e c4 hq c48)
        refine g_iconst (v := nI 0) h dX5_compared_51 (by decide) ?_
        exact g_zretWv h hE dX5_compared_52 (by rw [e]; rfl) (paW_eq (by rw [e]))
    · skip
      show G X 0 0 (mW (xT X) o a s (paS S u r1.2)) 20 [(0, .ref o), (1, .int (lk s r1.2))] []
      refine g_iload_n h dX5_compared_20 rfl ?_
      refine g_bipush (v := nI 61) h dX5_compared_21 (by decide) ?_
      refine g_toI (y := 61) rfl ?_
      refine g_icmp_eq h 34 dX5_compared_23 (by decide) (fun c23 => ?_) (fun c23 => ?_)
      · skip
        show G X 0 0 (mW (xT X) o a s (paS S u r1.2)) 34 [(0, .ref o), (1, .int (lk s r1.2))] []
        have hq : isCmp (lk s r1.2) = true := by simp [isCmp, c17, c23]
        have hl := lk_lt (by decide) hq; have a2 := a1.adv hl
        refine g_aload_n h dX5_compared_34 rfl ?_
        refine g_dup h dX5_compared_35 rfl ?_
        refine g_get h in_X5 0 rfl rfl 5 rfl q1379 rfl rfl dX5_compared_36 ?_
        show G X 0 0 (mW (xT X) o a s (paS S u r1.2)) 39 [(0, .ref o), (1, .int (lk s r1.2))] [.int (nI r1.2.1), .ref o]
        refine g_iconst (v := nI 1) h dX5_compared_39 (by decide) ?_
        refine g_iaddN h dX5_compared_40 ?_
        refine g_put (ws' := mW (xT X) o a s (paS S u (adv r1.2))) h hE.1 in_X5 tyX5 tyX5_ok nmX5 0 rfl rfl 5 rfl q1379 rfl rfl rfl rfl rfl rfl dX5_compared_41 rfl ?_
        refine g_aload_n h dX5_compared_44 rfl ?_
        refine g_callVW0 h hE (m5_sum_1 _ _ _ o a s S u (adv r1.2) h0 (by first | assumption | omega) (by first | assumption | omega)) 0 rfl rfl (lw_V q1574 q1576 qs51 q95 q1577) gy_X5_sum ⟨Nat.le_of_ble_eq_true rfl, Nat.le_of_ble_eq_true rfl⟩ ⟨Nat.le_of_ble_eq_true rfl, Nat.le_of_ble_eq_true rfl⟩ rfl rfl (Nat.le_of_ble_eq_true rfl) dX5_compared_45 (st' := [.int (bI (((pSum (pOne u s 1) s) (adv r1.2)).1))]) rfl (fun _ e45 => ?_)
        subst e45
        show G X 0 0 (mW (xT X) o a s (paS S u (((pSum (pOne u s 1) s) (adv r1.2)).2))) 48 [(0, .ref o), (1, .int (lk s r1.2))] [.int (bI (((pSum (pOne u s 1) s) (adv r1.2)).1))]
        generalize er45 : (pSum (pOne u s 1) s) (adv r1.2) = r45
        refine g_if_neB h 53 dX5_compared_48 (by decide) (fun c48 => ?_) (fun c48 => ?_)
        · skip
          show G X 0 0 (mW (xT X) o a s (paS S u r45.2)) 53 [(0, .ref o), (1, .int (lk s r1.2))] []
          have e : (pCmp (pOne u s 1) s) p = (true, lay2 3 (lk s r1.2) r45.2) := (by subst er45; subst er1; exact pCmp_t c4 hq c48); have n2 : At s 4 r45.2 := (by subst er45; exact At.ok a2 ((pSum_ok (pOne_ok u s 1)) (adv r1.2) a2.1) c48); have n3 := n2.st h0
          refine g_aload_n h dX5_compared_53 rfl ?_
          refine g_iconst (v := nI 3) h dX5_compared_54 (by decide) ?_
          refine g_iload_n h dX5_compared_55 rfl ?_
          refine g_callVW0 h hE (m5_lays _ _ _ o a s S u r45.2 3 (lk s r1.2) (by first | assumption | omega)) 0 rfl rfl (lw_V q1594 q1596 qs56 q95 q1597) gy_X5_lays ⟨Nat.le_of_ble_eq_true rfl, Nat.le_of_ble_eq_true rfl⟩ ⟨Nat.le_of_ble_eq_true rfl, Nat.le_of_ble_eq_true rfl⟩ rfl rfl (Nat.le_of_ble_eq_true rfl) dX5_compared_56 (st' := []) rfl (fun _ e56 => ?_)
          subst e56
          refine g_iconst (v := nI 1) h dX5_compared_59 (by decide) ?_
          exact g_zretWv h hE dX5_compared_60 (by rw [e]; rfl) (paW_eq (by rw [e]))
        · skip
          show G X 0 0 (mW (xT X) o a s (paS S u r45.2)) 51 [(0, .ref o), (1, .int (lk s r1.2))] []
          have e : (pCmp (pOne u s 1) s) p = (false, r45.2) := (by subst er45; subst er1; exact pCmp_e c4 hq c48)
          refine g_iconst (v := nI 0) h dX5_compared_51 (by decide) ?_
          exact g_zretWv h hE dX5_compared_52 (by rw [e]; rfl) (paW_eq (by rw [e]))
      · skip
        show G X 0 0 (mW (xT X) o a s (paS S u r1.2)) 26 [(0, .ref o), (1, .int (lk s r1.2))] []
        refine g_iload_n h dX5_compared_26 rfl ?_
        refine g_bipush (v := nI 62) h dX5_compared_27 (by decide) ?_
        refine g_toI (y := 62) rfl ?_
        refine g_icmp_eq h 34 dX5_compared_29 (by decide) (fun c29 => ?_) (fun c29 => ?_)
        · skip
          show G X 0 0 (mW (xT X) o a s (paS S u r1.2)) 34 [(0, .ref o), (1, .int (lk s r1.2))] []
          have hq : isCmp (lk s r1.2) = true := by simp [isCmp, c17, c23, c29]
          have hl := lk_lt (by decide) hq; have a2 := a1.adv hl
          refine g_aload_n h dX5_compared_34 rfl ?_
          refine g_dup h dX5_compared_35 rfl ?_
          refine g_get h in_X5 0 rfl rfl 5 rfl q1379 rfl rfl dX5_compared_36 ?_
          show G X 0 0 (mW (xT X) o a s (paS S u r1.2)) 39 [(0, .ref o), (1, .int (lk s r1.2))] [.int (nI r1.2.1), .ref o]
          refine g_iconst (v := nI 1) h dX5_compared_39 (by decide) ?_
          refine g_iaddN h dX5_compared_40 ?_
          refine g_put (ws' := mW (xT X) o a s (paS S u (adv r1.2))) h hE.1 in_X5 tyX5 tyX5_ok nmX5 0 rfl rfl 5 rfl q1379 rfl rfl rfl rfl rfl rfl dX5_compared_41 rfl ?_
          refine g_aload_n h dX5_compared_44 rfl ?_
          refine g_callVW0 h hE (m5_sum_1 _ _ _ o a s S u (adv r1.2) h0 (by first | assumption | omega) (by first | assumption | omega)) 0 rfl rfl (lw_V q1574 q1576 qs51 q95 q1577) gy_X5_sum ⟨Nat.le_of_ble_eq_true rfl, Nat.le_of_ble_eq_true rfl⟩ ⟨Nat.le_of_ble_eq_true rfl, Nat.le_of_ble_eq_true rfl⟩ rfl rfl (Nat.le_of_ble_eq_true rfl) dX5_compared_45 (st' := [.int (bI (((pSum (pOne u s 1) s) (adv r1.2)).1))]) rfl (fun _ e45 => ?_)
          subst e45
          show G X 0 0 (mW (xT X) o a s (paS S u (((pSum (pOne u s 1) s) (adv r1.2)).2))) 48 [(0, .ref o), (1, .int (lk s r1.2))] [.int (bI (((pSum (pOne u s 1) s) (adv r1.2)).1))]
          generalize er45 : (pSum (pOne u s 1) s) (adv r1.2) = r45
          refine g_if_neB h 53 dX5_compared_48 (by decide) (fun c48 => ?_) (fun c48 => ?_)
          · skip
            show G X 0 0 (mW (xT X) o a s (paS S u r45.2)) 53 [(0, .ref o), (1, .int (lk s r1.2))] []
            have e : (pCmp (pOne u s 1) s) p = (true, lay2 3 (lk s r1.2) r45.2) := (by subst er45; subst er1; exact pCmp_t c4 hq c48); have n2 : At s 4 r45.2 := (by subst er45; exact At.ok a2 ((pSum_ok (pOne_ok u s 1)) (adv r1.2) a2.1) c48); have n3 := n2.st h0
            refine g_aload_n h dX5_compared_53 rfl ?_
            refine g_iconst (v := nI 3) h dX5_compared_54 (by decide) ?_
            refine g_iload_n h dX5_compared_55 rfl ?_
            refine g_callVW0 h hE (m5_lays _ _ _ o a s S u r45.2 3 (lk s r1.2) (by first | assumption | omega)) 0 rfl rfl (lw_V q1594 q1596 qs56 q95 q1597) gy_X5_lays ⟨Nat.le_of_ble_eq_true rfl, Nat.le_of_ble_eq_true rfl⟩ ⟨Nat.le_of_ble_eq_true rfl, Nat.le_of_ble_eq_true rfl⟩ rfl rfl (Nat.le_of_ble_eq_true rfl) dX5_compared_56 (st' := []) rfl (fun _ e56 => ?_)
            subst e56
            refine g_iconst (v := nI 1) h dX5_compared_59 (by decide) ?_
            exact g_zretWv h hE dX5_compared_60 (by rw [e]; rfl) (paW_eq (by rw [e]))
          · skip
            show G X 0 0 (mW (xT X) o a s (paS S u r45.2)) 51 [(0, .ref o), (1, .int (lk s r1.2))] []
            have e : (pCmp (pOne u s 1) s) p = (false, r45.2) := (by subst er45; subst er1; exact pCmp_e c4 hq c48)
            refine g_iconst (v := nI 0) h dX5_compared_51 (by decide) ?_
            exact g_zretWv h hE dX5_compared_52 (by rw [e]; rfl) (paW_eq (by rw [e]))
        · skip
          show G X 0 0 (mW (xT X) o a s (paS S u r1.2)) 32 [(0, .ref o), (1, .int (lk s r1.2))] []
          have hq : isCmp (lk s r1.2) = false := by simp [isCmp, c17, c23, c29]
          have e : (pCmp (pOne u s 1) s) p = (true, r1.2) := (by subst er1; exact pCmp_n c4 hq)
          refine g_iconst (v := nI 1) h dX5_compared_32 (by decide) ?_
          exact g_zretWv h hE dX5_compared_33 (by rw [e]; rfl) (paW_eq (by rw [e]))
  · skip
    show G X 0 0 (mW (xT X) o a s (paS S u r1.2)) 7 [(0, .ref o)] []
    have e : (pCmp (pOne u s 1) s) p = (false, r1.2) := (by subst er1; exact pCmp_f c4)
    refine g_iconst (v := nI 0) h dX5_compared_7 (by decide) ?_
    exact g_zretWv h hE dX5_compared_8 (by rw [e]; rfl) (paW_eq (by rw [e]))
set_option maxHeartbeats 4000000 in
set_option maxRecDepth 100000 in
theorem m5_both_1 (l : Launch) (D : va_G) (T : Nat → ClassId) (o : Nat) (a : Nat → Nat) (s : Nat → Int32) (S : Nat → Nat → Int32) (u : Nat) (p : PS) (h0 : Inv s) (h1 : u < 2) (h2 : At s 4 p) : MetW l D T yX5_both cX5_both 1 (some .boolean) 11 234 0 0 [.ref o] (mW T o a s (paS S u p)) (fun r_ w_ => r_ = some (.int (bI (((pBoth (pOne u s 1) s) p).1))) ∧ (w_ = mW T o a s (paS S u (((pBoth (pOne u s 1) s) p).2)))) := by
  refine metW (own := RX5) rfl (by decide) rfl (fun X h hl hDx hTx hnm hE => ?_)
  subst hl; subst hDx; subst hTx
  have hnp := h0.npl; have hnt := h0.ntl; have hnq := h0.nql
  have hnc := h0.ncl; have l0 := h2.1; have b0 := h2.2.1; have z0 := h2.2.2; have y0 := h2.st h0
  show G X 0 0 (mW (xT X) o a s (paS S u p)) 0 [(0, .ref o)] []
  refine g_aload_n h dX5_both_0 rfl ?_
  refine g_callVW0 h hE (m5_compared_1 _ _ _ o a s S u p h0 (by first | assumption | omega) (by first | assumption | omega)) 0 rfl rfl (lw_V q1570 q1572 qs50 q95 q1573) gy_X5_compared ⟨Nat.le_of_ble_eq_true rfl, Nat.le_of_ble_eq_true rfl⟩ ⟨Nat.le_of_ble_eq_true rfl, Nat.le_of_ble_eq_true rfl⟩ rfl rfl (Nat.le_of_ble_eq_true rfl) dX5_both_1 (st' := [.int (bI (((pCmp (pOne u s 1) s) p).1))]) rfl (fun _ e1 => ?_)
  subst e1
  show G X 0 0 (mW (xT X) o a s (paS S u (((pCmp (pOne u s 1) s) p).2))) 4 [(0, .ref o)] [.int (bI (((pCmp (pOne u s 1) s) p).1))]
  generalize er1 : (pCmp (pOne u s 1) s) p = r1
  refine g_if_neB h 9 dX5_both_4 (by decide) (fun c4 => ?_) (fun c4 => ?_)
  · skip
    show G X 0 0 (mW (xT X) o a s (paS S u r1.2)) 9 [(0, .ref o)] []
    have a0 : At s 4 r1.2 := (by subst er1; exact h2.ok ((pCmp_ok (pOne_ok u s 1)) p l0) c4); have l1 := a0.1
    have lw : ∀ q_ : (PS) × (Nat), (match q_ with | (q, m) => ((pBoth (pOne u s 1) s) p = pR (pCmp (pOne u s 1) s) s isAnd m q) → (At s 4 q) → (nC s - q.1 < m) → G X 0 0 (mW (xT X) o a s (paS S u q)) 9 [(0, .ref o)] []) := by
      refine g_rec (fun q_ => match q_ with | (q, m) => m) ?_
      rintro ⟨q, m⟩ ih_lw e0_lw e1_lw e2_lw
      skip
      have a1 := e1_lw; have l2 := a1.1; have y2 := a1.st h0
      refine g_aload_n h dX5_both_9 rfl ?_
      refine g_callVR h (m5_look _ _ _ o a s S u q h0 (by first | assumption | omega)) (fun _ q => q) 0 rfl rfl (lw_V q1586 q1588 qs54 q95 q1589) gy_X5_look ⟨Nat.le_of_ble_eq_true rfl, Nat.le_of_ble_eq_true rfl⟩ ⟨Nat.le_of_ble_eq_true rfl, Nat.le_of_ble_eq_true rfl⟩ rfl rfl (Nat.le_of_ble_eq_true rfl) dX5_both_10 ?_
      refine g_bipush (v := nI 38) h dX5_both_13 (by decide) ?_
      refine g_toI (y := 38) rfl ?_
      refine g_icmp_ne h 47 dX5_both_15 (by decide) (fun c15 => ?_) (fun c15 => ?_)
      · skip
        show G X 0 0 (mW (xT X) o a s (paS S u q)) 47 [(0, .ref o)] []
        have hq : isAnd (lk s q) = false := by simp [isAnd, c15]
        have e : (pBoth (pOne u s 1) s) p = (true, q) := e0_lw.trans (pR_n hq)
        refine g_iconst (v := nI 1) h dX5_both_47 (by decide) ?_
        exact g_zretWv h hE dX5_both_48 (by rw [e]; rfl) (paW_eq (by rw [e]))
      · skip
        show G X 0 0 (mW (xT X) o a s (paS S u q)) 18 [(0, .ref o)] []
        have hq : isAnd (lk s q) = true := by simp [isAnd, c15]
        have hl := lk_lt (by decide) hq; obtain ⟨m0, rfl⟩ : ∃ k, m = k + 1 := ⟨m - 1, by omega⟩; have a2 := a1.adv hl
        refine g_aload_n h dX5_both_18 rfl ?_
        refine g_dup h dX5_both_19 rfl ?_
        refine g_get h in_X5 0 rfl rfl 5 rfl q1379 rfl rfl dX5_both_20 ?_
        show G X 0 0 (mW (xT X) o a s (paS S u q)) 23 [(0, .ref o)] [.int (nI q.1), .ref o]
        refine g_iconst (v := nI 1) h dX5_both_23 (by decide) ?_
        refine g_iaddN h dX5_both_24 ?_
        refine g_put (ws' := mW (xT X) o a s (paS S u (adv q))) h hE.1 in_X5 tyX5 tyX5_ok nmX5 0 rfl rfl 5 rfl q1379 rfl rfl rfl rfl rfl rfl dX5_both_25 rfl ?_
        refine g_aload_n h dX5_both_28 rfl ?_
        refine g_callVW0 h hE (m5_compared_1 _ _ _ o a s S u (adv q) h0 (by first | assumption | omega) (by first | assumption | omega)) 0 rfl rfl (lw_V q1570 q1572 qs50 q95 q1573) gy_X5_compared ⟨Nat.le_of_ble_eq_true rfl, Nat.le_of_ble_eq_true rfl⟩ ⟨Nat.le_of_ble_eq_true rfl, Nat.le_of_ble_eq_true rfl⟩ rfl rfl (Nat.le_of_ble_eq_true rfl) dX5_both_29 (st' := [.int (bI (((pCmp (pOne u s 1) s) (adv q)).1))]) rfl (fun _ e29 => ?_)
        subst e29
        show G X 0 0 (mW (xT X) o a s (paS S u (((pCmp (pOne u s 1) s) (adv q)).2))) 32 [(0, .ref o)] [.int (bI (((pCmp (pOne u s 1) s) (adv q)).1))]
        generalize er29 : (pCmp (pOne u s 1) s) (adv q) = r29
        refine g_if_neB h 37 dX5_both_32 (by decide) (fun c32 => ?_) (fun c32 => ?_)
        · skip
          show G X 0 0 (mW (xT X) o a s (paS S u r29.2)) 37 [(0, .ref o)] []
          have n0 : OKp s q (true, lay2 3 (lk s q) r29.2) := (by subst er29; exact adv_ok (pCmp_ok (pOne_ok u s 1)) 3 (lk s q) hl c32); have n1 := At.ok a1 n0 rfl; have n2 : At s 4 r29.2 := (by subst er29; exact At.ok a2 ((pCmp_ok (pOne_ok u s 1)) (adv q) a2.1) c32); have n3 := n2.st h0
          refine g_aload_n h dX5_both_37 rfl ?_
          refine g_iconst (v := nI 3) h dX5_both_38 (by decide) ?_
          refine g_bipush (v := nI 38) h dX5_both_39 (by decide) ?_
          refine g_toI (y := lk s q) c15.symm ?_
          refine g_callVW0 h hE (m5_lays _ _ _ o a s S u r29.2 3 (lk s q) (by first | assumption | omega)) 0 rfl rfl (lw_V q1594 q1596 qs56 q95 q1597) gy_X5_lays ⟨Nat.le_of_ble_eq_true rfl, Nat.le_of_ble_eq_true rfl⟩ ⟨Nat.le_of_ble_eq_true rfl, Nat.le_of_ble_eq_true rfl⟩ rfl rfl (Nat.le_of_ble_eq_true rfl) dX5_both_41 (st' := []) rfl (fun _ e41 => ?_)
          subst e41
          refine g_goto h 9 dX5_both_44 (by decide) ?_
          exact ih_lw (lay2 3 (lk s q) r29.2, m0) (by show m0 < m0 + 1; omega) (by subst er29; exact e0_lw.trans (pR_t hq c32)) n1 (by subst er29; exact mu_ok ((pCmp_ok (pOne_ok u s 1)) (adv q) a2.1) hl e2_lw)
        · skip
          show G X 0 0 (mW (xT X) o a s (paS S u r29.2)) 35 [(0, .ref o)] []
          have e : (pBoth (pOne u s 1) s) p = (false, r29.2) := (by subst er29; exact e0_lw.trans (pR_f hq c32))
          refine g_iconst (v := nI 0) h dX5_both_35 (by decide) ?_
          exact g_zretWv h hE dX5_both_36 (by rw [e]; rfl) (paW_eq (by rw [e]))
    exact lw (r1.2, 61) (by subst er1; exact pBoth_t c4) a0 (by omega)
  · skip
    show G X 0 0 (mW (xT X) o a s (paS S u r1.2)) 7 [(0, .ref o)] []
    have e : (pBoth (pOne u s 1) s) p = (false, r1.2) := (by subst er1; exact pBoth_f c4)
    refine g_iconst (v := nI 0) h dX5_both_7 (by decide) ?_
    exact g_zretWv h hE dX5_both_8 (by rw [e]; rfl) (paW_eq (by rw [e]))
set_option maxHeartbeats 4000000 in
set_option maxRecDepth 100000 in
theorem m5_whole_1 (l : Launch) (D : va_G) (T : Nat → ClassId) (o : Nat) (a : Nat → Nat) (s : Nat → Int32) (S : Nat → Nat → Int32) (u : Nat) (p : PS) (h0 : Inv s) (h1 : u < 2) (h2 : At s 4 p) : MetW l D T yX5_whole cX5_whole 1 (some .boolean) 12 254 0 0 [.ref o] (mW T o a s (paS S u p)) (fun r_ w_ => r_ = some (.int (bI (((pWhole (pOne u s 1) s) p).1))) ∧ (w_ = mW T o a s (paS S u (((pWhole (pOne u s 1) s) p).2)))) := by
  refine metW (own := RX5) rfl (by decide) rfl (fun X h hl hDx hTx hnm hE => ?_)
  subst hl; subst hDx; subst hTx
  have hnp := h0.npl; have hnt := h0.ntl; have hnq := h0.nql
  have hnc := h0.ncl; have l0 := h2.1; have b0 := h2.2.1; have z0 := h2.2.2; have y0 := h2.st h0
  show G X 0 0 (mW (xT X) o a s (paS S u p)) 0 [(0, .ref o)] []
  refine g_aload_n h dX5_whole_0 rfl ?_
  refine g_callVW0 h hE (m5_both_1 _ _ _ o a s S u p h0 (by first | assumption | omega) (by first | assumption | omega)) 0 rfl rfl (lw_V q1566 q1568 qs49 q95 q1569) gy_X5_both ⟨Nat.le_of_ble_eq_true rfl, Nat.le_of_ble_eq_true rfl⟩ ⟨Nat.le_of_ble_eq_true rfl, Nat.le_of_ble_eq_true rfl⟩ rfl rfl (Nat.le_of_ble_eq_true rfl) dX5_whole_1 (st' := [.int (bI (((pBoth (pOne u s 1) s) p).1))]) rfl (fun _ e1 => ?_)
  subst e1
  show G X 0 0 (mW (xT X) o a s (paS S u (((pBoth (pOne u s 1) s) p).2))) 4 [(0, .ref o)] [.int (bI (((pBoth (pOne u s 1) s) p).1))]
  generalize er1 : (pBoth (pOne u s 1) s) p = r1
  refine g_if_neB h 9 dX5_whole_4 (by decide) (fun c4 => ?_) (fun c4 => ?_)
  · skip
    show G X 0 0 (mW (xT X) o a s (paS S u r1.2)) 9 [(0, .ref o)] []
    have a0 : At s 4 r1.2 := (by subst er1; exact h2.ok ((pBoth_ok (pOne_ok u s 1)) p l0) c4); have l1 := a0.1
    have lw : ∀ q_ : (PS) × (Nat), (match q_ with | (q, m) => ((pWhole (pOne u s 1) s) p = pR (pBoth (pOne u s 1) s) s isOr m q) → (At s 4 q) → (nC s - q.1 < m) → G X 0 0 (mW (xT X) o a s (paS S u q)) 9 [(0, .ref o)] []) := by
      refine g_rec (fun q_ => match q_ with | (q, m) => m) ?_
      rintro ⟨q, m⟩ ih_lw e0_lw e1_lw e2_lw
      skip
      have a1 := e1_lw; have l2 := a1.1; have y2 := a1.st h0
      refine g_aload_n h dX5_whole_9 rfl ?_
      refine g_callVR h (m5_look _ _ _ o a s S u q h0 (by first | assumption | omega)) (fun _ q => q) 0 rfl rfl (lw_V q1586 q1588 qs54 q95 q1589) gy_X5_look ⟨Nat.le_of_ble_eq_true rfl, Nat.le_of_ble_eq_true rfl⟩ ⟨Nat.le_of_ble_eq_true rfl, Nat.le_of_ble_eq_true rfl⟩ rfl rfl (Nat.le_of_ble_eq_true rfl) dX5_whole_10 ?_
      refine g_bipush (v := nI 124) h dX5_whole_13 (by decide) ?_
      refine g_toI (y := 124) rfl ?_
      refine g_icmp_ne h 47 dX5_whole_15 (by decide) (fun c15 => ?_) (fun c15 => ?_)
      · skip
        show G X 0 0 (mW (xT X) o a s (paS S u q)) 47 [(0, .ref o)] []
        have hq : isOr (lk s q) = false := by simp [isOr, c15]
        have e : (pWhole (pOne u s 1) s) p = (true, q) := e0_lw.trans (pR_n hq)
        refine g_iconst (v := nI 1) h dX5_whole_47 (by decide) ?_
        exact g_zretWv h hE dX5_whole_48 (by rw [e]; rfl) (paW_eq (by rw [e]))
      · skip
        show G X 0 0 (mW (xT X) o a s (paS S u q)) 18 [(0, .ref o)] []
        have hq : isOr (lk s q) = true := by simp [isOr, c15]
        have hl := lk_lt (by decide) hq; obtain ⟨m0, rfl⟩ : ∃ k, m = k + 1 := ⟨m - 1, by omega⟩; have a2 := a1.adv hl
        refine g_aload_n h dX5_whole_18 rfl ?_
        refine g_dup h dX5_whole_19 rfl ?_
        refine g_get h in_X5 0 rfl rfl 5 rfl q1379 rfl rfl dX5_whole_20 ?_
        show G X 0 0 (mW (xT X) o a s (paS S u q)) 23 [(0, .ref o)] [.int (nI q.1), .ref o]
        refine g_iconst (v := nI 1) h dX5_whole_23 (by decide) ?_
        refine g_iaddN h dX5_whole_24 ?_
        refine g_put (ws' := mW (xT X) o a s (paS S u (adv q))) h hE.1 in_X5 tyX5 tyX5_ok nmX5 0 rfl rfl 5 rfl q1379 rfl rfl rfl rfl rfl rfl dX5_whole_25 rfl ?_
        refine g_aload_n h dX5_whole_28 rfl ?_
        refine g_callVW0 h hE (m5_both_1 _ _ _ o a s S u (adv q) h0 (by first | assumption | omega) (by first | assumption | omega)) 0 rfl rfl (lw_V q1566 q1568 qs49 q95 q1569) gy_X5_both ⟨Nat.le_of_ble_eq_true rfl, Nat.le_of_ble_eq_true rfl⟩ ⟨Nat.le_of_ble_eq_true rfl, Nat.le_of_ble_eq_true rfl⟩ rfl rfl (Nat.le_of_ble_eq_true rfl) dX5_whole_29 (st' := [.int (bI (((pBoth (pOne u s 1) s) (adv q)).1))]) rfl (fun _ e29 => ?_)
        subst e29
        show G X 0 0 (mW (xT X) o a s (paS S u (((pBoth (pOne u s 1) s) (adv q)).2))) 32 [(0, .ref o)] [.int (bI (((pBoth (pOne u s 1) s) (adv q)).1))]
        generalize er29 : (pBoth (pOne u s 1) s) (adv q) = r29
        refine g_if_neB h 37 dX5_whole_32 (by decide) (fun c32 => ?_) (fun c32 => ?_)
        · skip
          show G X 0 0 (mW (xT X) o a s (paS S u r29.2)) 37 [(0, .ref o)] []
          have n0 : OKp s q (true, lay2 3 (lk s q) r29.2) := (by subst er29; exact adv_ok (pBoth_ok (pOne_ok u s 1)) 3 (lk s q) hl c32); have n1 := At.ok a1 n0 rfl; have n2 : At s 4 r29.2 := (by subst er29; exact At.ok a2 ((pBoth_ok (pOne_ok u s 1)) (adv q) a2.1) c32); have n3 := n2.st h0
          refine g_aload_n h dX5_whole_37 rfl ?_
          refine g_iconst (v := nI 3) h dX5_whole_38 (by decide) ?_
          refine g_bipush (v := nI 124) h dX5_whole_39 (by decide) ?_
          refine g_toI (y := lk s q) c15.symm ?_
          refine g_callVW0 h hE (m5_lays _ _ _ o a s S u r29.2 3 (lk s q) (by first | assumption | omega)) 0 rfl rfl (lw_V q1594 q1596 qs56 q95 q1597) gy_X5_lays ⟨Nat.le_of_ble_eq_true rfl, Nat.le_of_ble_eq_true rfl⟩ ⟨Nat.le_of_ble_eq_true rfl, Nat.le_of_ble_eq_true rfl⟩ rfl rfl (Nat.le_of_ble_eq_true rfl) dX5_whole_41 (st' := []) rfl (fun _ e41 => ?_)
          subst e41
          refine g_goto h 9 dX5_whole_44 (by decide) ?_
          exact ih_lw (lay2 3 (lk s q) r29.2, m0) (by show m0 < m0 + 1; omega) (by subst er29; exact e0_lw.trans (pR_t hq c32)) n1 (by subst er29; exact mu_ok ((pBoth_ok (pOne_ok u s 1)) (adv q) a2.1) hl e2_lw)
        · skip
          show G X 0 0 (mW (xT X) o a s (paS S u r29.2)) 35 [(0, .ref o)] []
          have e : (pWhole (pOne u s 1) s) p = (false, r29.2) := (by subst er29; exact e0_lw.trans (pR_f hq c32))
          refine g_iconst (v := nI 0) h dX5_whole_35 (by decide) ?_
          exact g_zretWv h hE dX5_whole_36 (by rw [e]; rfl) (paW_eq (by rw [e]))
    exact lw (r1.2, 61) (by subst er1; exact pWhole_t c4) a0 (by omega)
  · skip
    show G X 0 0 (mW (xT X) o a s (paS S u r1.2)) 7 [(0, .ref o)] []
    have e : (pWhole (pOne u s 1) s) p = (false, r1.2) := (by subst er1; exact pWhole_f c4)
    refine g_iconst (v := nI 0) h dX5_whole_7 (by decide) ?_
    exact g_zretWv h hE dX5_whole_8 (by rw [e]; rfl) (paW_eq (by rw [e]))
set_option maxHeartbeats 4000000 in
set_option maxRecDepth 100000 in
theorem m5_one_2 (l : Launch) (D : va_G) (T : Nat → ClassId) (o : Nat) (a : Nat → Nat) (s : Nat → Int32) (S : Nat → Nat → Int32) (u : Nat) (p : PS) (h0 : Inv s) (h1 : u < 2) (h2 : At s 3 p) : MetW l D T yX5_one cX5_one 4 (some .boolean) 13 274 0 0 [.ref o] (mW T o a s (paS S u p)) (fun r_ w_ => r_ = some (.int (bI (((pOne u s 2) p).1))) ∧ (w_ = mW T o a s (paS S u (((pOne u s 2) p).2)))) := by
  refine metW (own := RX5) rfl (by decide) rfl (fun X h hl hDx hTx hnm hE => ?_)
  subst hl; subst hDx; subst hTx
  have hnp := h0.npl; have hnt := h0.ntl; have hnq := h0.nql
  have hnc := h0.ncl; have l0 := h2.1; have b0 := h2.2.1; have z0 := h2.2.2; have y0 := h2.st h0
  show G X 0 0 (mW (xT X) o a s (paS S u p)) 0 [(0, .ref o)] []
  refine g_aload_n h dX5_one_0 rfl ?_
  refine g_callVR h (m5_look _ _ _ o a s S u p h0 (by first | assumption | omega)) (fun _ q => q) 0 rfl rfl (lw_V q1586 q1588 qs54 q95 q1589) gy_X5_look ⟨Nat.le_of_ble_eq_true rfl, Nat.le_of_ble_eq_true rfl⟩ ⟨Nat.le_of_ble_eq_true rfl, Nat.le_of_ble_eq_true rfl⟩ rfl rfl (Nat.le_of_ble_eq_true rfl) dX5_one_1 ?_
  refine g_istore_n (lv' := [(0, .ref o), (1, .int (lk s p))]) h dX5_one_4 (by decide) rfl ?_
  refine g_aload_n h dX5_one_5 rfl ?_
  refine g_iload_n h dX5_one_6 rfl ?_
  refine g_callVR h (m5_isName _ _ _ o a s S u p (lk s p) (by first | assumption | omega)) (fun _ q => q) 0 rfl rfl (lw_V q1590 q1592 qs55 q95 q1593) gy_X5_isName ⟨Nat.le_of_ble_eq_true rfl, Nat.le_of_ble_eq_true rfl⟩ ⟨Nat.le_of_ble_eq_true rfl, Nat.le_of_ble_eq_true rfl⟩ rfl rfl (Nat.le_of_ble_eq_true rfl) dX5_one_7 ?_
  refine g_if_eqB h 31 dX5_one_10 (by decide) (fun c10 => ?_) (fun c10 => ?_)
  · skip
    show G X 0 0 (mW (xT X) o a s (paS S u p)) 31 [(0, .ref o), (1, .int (lk s p))] []
    refine g_iload_n h dX5_one_31 rfl ?_
    refine g_bipush (v := nI 48) h dX5_one_32 (by decide) ?_
    refine g_bipush (v := nI 57) h dX5_one_34 (by decide) ?_
    refine g_callSR h (m5_in _ _ _ (lk s p) 48 57 ) (fun _ q => nomatch q) (lw_S q1439 q1440 q95 q1441) gy_X5_in ⟨Nat.le_of_ble_eq_true rfl, Nat.le_of_ble_eq_true rfl⟩ ⟨Nat.le_of_ble_eq_true rfl, Nat.le_of_ble_eq_true rfl⟩ rfl rfl (Nat.le_of_ble_eq_true rfl) dX5_one_36 ?_
    refine g_if_eqB h 102 dX5_one_39 (by decide) (fun c39 => ?_) (fun c39 => ?_)
    · skip
      show G X 0 0 (mW (xT X) o a s (paS S u p)) 102 [(0, .ref o), (1, .int (lk s p))] []
      refine g_iload_n h dX5_one_102 rfl ?_
      refine g_bipush (v := nI 33) h dX5_one_103 (by decide) ?_
      refine g_toI (y := 33) rfl ?_
      refine g_icmp_ne h 142 dX5_one_105 (by decide) (fun c105 => ?_) (fun c105 => ?_)
      · skip
        show G X 0 0 (mW (xT X) o a s (paS S u p)) 142 [(0, .ref o), (1, .int (lk s p))] []
        refine g_iload_n h dX5_one_142 rfl ?_
        refine g_bipush (v := nI 40) h dX5_one_143 (by decide) ?_
        refine g_toI (y := 40) rfl ?_
        refine g_icmp_ne h 171 dX5_one_145 (by decide) (fun c145 => ?_) (fun c145 => ?_)
        · skip
          show G X 0 0 (mW (xT X) o a s (paS S u p)) 171 [(0, .ref o), (1, .int (lk s p))] []
          have e : (pOne u s 2) p = (false, p) := pOne_xn c10 c39 c105 c145
          refine g_iconst (v := nI 0) h dX5_one_171 (by decide) ?_
          exact g_zretWv h hE dX5_one_172 (by rw [e]; rfl) (paW_eq (by rw [e]))
        · skip
          show G X 0 0 (mW (xT X) o a s (paS S u p)) 148 [(0, .ref o), (1, .int (lk s p))] []
          have hl : p.1 < nC s := lk_lt (Q := fun z => decide (z = 40)) (by decide) (decide_eq_true c145); have z1 : p.2.1 < 5 := (by omega); have a2 := h2.opn hl
          refine g_aload_n h dX5_one_148 rfl ?_
          refine g_callVW0 h hE (m5_opens_1 _ _ _ o a s S u p (by first | assumption | omega)) 0 rfl rfl (lw_V q1598 q1600 qs57 q95 q1601) gy_X5_opens ⟨Nat.le_of_ble_eq_true rfl, Nat.le_of_ble_eq_true rfl⟩ ⟨Nat.le_of_ble_eq_true rfl, Nat.le_of_ble_eq_true rfl⟩ rfl rfl (Nat.le_of_ble_eq_true rfl) dX5_one_149 (st' := [.int (bI true)]) rfl (fun _ e149 => ?_)
          subst e149
          refine g_if_eqB h 171 dX5_one_152 (by decide) (fun c152 => ?_) (fun c152 => ?_)
          · skip
            show G X 0 0 (mW (xT X) o a s (paS S u (opn p))) 171 [(0, .ref o), (1, .int (lk s p))] []
            exact absurd c152 (by decide)
          · skip
            show G X 0 0 (mW (xT X) o a s (paS S u (opn p))) 155 [(0, .ref o), (1, .int (lk s p))] []
            refine g_aload_n h dX5_one_155 rfl ?_
            refine g_callVW0 h hE (m5_whole_1 _ _ _ o a s S u (opn p) h0 (by first | assumption | omega) (by first | assumption | omega)) 0 rfl rfl (lw_V q1562 q1564 qs48 q95 q1565) gy_X5_whole ⟨Nat.le_of_ble_eq_true rfl, Nat.le_of_ble_eq_true rfl⟩ ⟨Nat.le_of_ble_eq_true rfl, Nat.le_of_ble_eq_true rfl⟩ rfl rfl (Nat.le_of_ble_eq_true rfl) dX5_one_156 (st' := [.int (bI (((pWhole (pOne u s 1) s) (opn p)).1))]) rfl (fun _ e156 => ?_)
            subst e156
            show G X 0 0 (mW (xT X) o a s (paS S u (((pWhole (pOne u s 1) s) (opn p)).2))) 159 [(0, .ref o), (1, .int (lk s p))] [.int (bI (((pWhole (pOne u s 1) s) (opn p)).1))]
            generalize er156 : (pWhole (pOne u s 1) s) (opn p) = r156
            refine g_if_eqB h 171 dX5_one_159 (by decide) (fun c159 => ?_) (fun c159 => ?_)
            · skip
              show G X 0 0 (mW (xT X) o a s (paS S u r156.2)) 171 [(0, .ref o), (1, .int (lk s p))] []
              have e : (pOne u s 2) p = (false, r156.2) := (by subst er156; exact pOne_40f c10 c39 c105 c145 c159)
              refine g_iconst (v := nI 0) h dX5_one_171 (by decide) ?_
              exact g_zretWv h hE dX5_one_172 (by rw [e]; rfl) (paW_eq (by rw [e]))
            · skip
              show G X 0 0 (mW (xT X) o a s (paS S u r156.2)) 162 [(0, .ref o), (1, .int (lk s p))] []
              have n2 : At s 4 r156.2 := (by subst er156; exact At.ok a2 (pWhole_ok (pOne_ok u s 1) (opn p) a2.1) c159); have n3 := n2.1; have n4 := n2.2.2
              refine g_aload_n h dX5_one_162 rfl ?_
              refine g_callVR h (m5_look _ _ _ o a s S u r156.2 h0 (by first | assumption | omega)) (fun _ q => q) 0 rfl rfl (lw_V q1586 q1588 qs54 q95 q1589) gy_X5_look ⟨Nat.le_of_ble_eq_true rfl, Nat.le_of_ble_eq_true rfl⟩ ⟨Nat.le_of_ble_eq_true rfl, Nat.le_of_ble_eq_true rfl⟩ rfl rfl (Nat.le_of_ble_eq_true rfl) dX5_one_163 ?_
              refine g_bipush (v := nI 41) h dX5_one_166 (by decide) ?_
              refine g_toI (y := 41) rfl ?_
              refine g_icmp_eq h 173 dX5_one_168 (by decide) (fun c168 => ?_) (fun c168 => ?_)
              · skip
                show G X 0 0 (mW (xT X) o a s (paS S u r156.2)) 173 [(0, .ref o), (1, .int (lk s p))] []
                have e : (pOne u s 2) p = (true, cls (adv r156.2)) := (by subst er156; exact pOne_41t c10 c39 c105 c145 c159 c168); have n4 : 1 ≤ (adv r156.2).2.1 := (by show 1 ≤ r156.2.2.1; omega)
                refine g_aload_n h dX5_one_173 rfl ?_
                refine g_dup h dX5_one_174 rfl ?_
                refine g_get h in_X5 0 rfl rfl 5 rfl q1379 rfl rfl dX5_one_175 ?_
                show G X 0 0 (mW (xT X) o a s (paS S u r156.2)) 178 [(0, .ref o), (1, .int (lk s p))] [.int (nI r156.2.1), .ref o]
                refine g_iconst (v := nI 1) h dX5_one_178 (by decide) ?_
                refine g_iaddN h dX5_one_179 ?_
                refine g_put (ws' := mW (xT X) o a s (paS S u (adv r156.2))) h hE.1 in_X5 tyX5 tyX5_ok nmX5 0 rfl rfl 5 rfl q1379 rfl rfl rfl rfl rfl rfl dX5_one_180 rfl ?_
                refine g_aload_n h dX5_one_183 rfl ?_
                refine g_dup h dX5_one_184 rfl ?_
                refine g_get h in_X5 0 rfl rfl 6 rfl q1380 rfl rfl dX5_one_185 ?_
                show G X 0 0 (mW (xT X) o a s (paS S u (adv r156.2))) 188 [(0, .ref o), (1, .int (lk s p))] [.int (nI ((adv r156.2).2.1)), .ref o]
                refine g_iconst (v := nI 1) h dX5_one_188 (by decide) ?_
                refine g_isubN h (by omega) dX5_one_189 ?_
                refine g_put (ws' := mW (xT X) o a s (paS S u (cls (adv r156.2)))) h hE.1 in_X5 tyX5 tyX5_ok nmX5 0 rfl rfl 6 rfl q1380 rfl rfl rfl rfl rfl rfl dX5_one_190 rfl ?_
                refine g_iconst (v := nI 1) h dX5_one_193 (by decide) ?_
                exact g_zretWv h hE dX5_one_194 (by rw [e]; rfl) (paW_eq (by rw [e]))
              · skip
                show G X 0 0 (mW (xT X) o a s (paS S u r156.2)) 171 [(0, .ref o), (1, .int (lk s p))] []
                have e : (pOne u s 2) p = (false, r156.2) := (by subst er156; exact pOne_41f c10 c39 c105 c145 c159 c168)
                refine g_iconst (v := nI 0) h dX5_one_171 (by decide) ?_
                exact g_zretWv h hE dX5_one_172 (by rw [e]; rfl) (paW_eq (by rw [e]))
      · skip
        show G X 0 0 (mW (xT X) o a s (paS S u p)) 108 [(0, .ref o), (1, .int (lk s p))] []
        have hl : p.1 < nC s := lk_lt (Q := fun z => decide (z = 33)) (by decide) (decide_eq_true c105); have z1 : p.2.1 < 5 := (by omega); have a2 := h2.opn hl
        refine g_aload_n h dX5_one_108 rfl ?_
        refine g_callVW0 h hE (m5_opens_1 _ _ _ o a s S u p (by first | assumption | omega)) 0 rfl rfl (lw_V q1598 q1600 qs57 q95 q1601) gy_X5_opens ⟨Nat.le_of_ble_eq_true rfl, Nat.le_of_ble_eq_true rfl⟩ ⟨Nat.le_of_ble_eq_true rfl, Nat.le_of_ble_eq_true rfl⟩ rfl rfl (Nat.le_of_ble_eq_true rfl) dX5_one_109 (st' := [.int (bI true)]) rfl (fun _ e109 => ?_)
        subst e109
        refine g_if_eqB h 122 dX5_one_112 (by decide) (fun c112 => ?_) (fun c112 => ?_)
        · skip
          show G X 0 0 (mW (xT X) o a s (paS S u (opn p))) 122 [(0, .ref o), (1, .int (lk s p))] []
          exact absurd c112 (by decide)
        · skip
          show G X 0 0 (mW (xT X) o a s (paS S u (opn p))) 115 [(0, .ref o), (1, .int (lk s p))] []
          refine g_aload_n h dX5_one_115 rfl ?_
          refine g_callVW0 h hE (m5_one_1 _ _ _ o a s S u (opn p) h0 (by first | assumption | omega) (by first | assumption | omega)) 0 rfl rfl (lw_V q1582 q1584 qs53 q95 q1585) gy_X5_one ⟨Nat.le_of_ble_eq_true rfl, Nat.le_of_ble_eq_true rfl⟩ ⟨Nat.le_of_ble_eq_true rfl, Nat.le_of_ble_eq_true rfl⟩ rfl rfl (Nat.le_of_ble_eq_true rfl) dX5_one_116 (st' := [.int (bI (((pOne u s 1) (opn p)).1))]) rfl (fun _ e116 => ?_)
          subst e116
          show G X 0 0 (mW (xT X) o a s (paS S u (((pOne u s 1) (opn p)).2))) 119 [(0, .ref o), (1, .int (lk s p))] [.int (bI (((pOne u s 1) (opn p)).1))]
          generalize er116 : (pOne u s 1) (opn p) = r116
          refine g_if_neB h 124 dX5_one_119 (by decide) (fun c119 => ?_) (fun c119 => ?_)
          · skip
            show G X 0 0 (mW (xT X) o a s (paS S u r116.2)) 124 [(0, .ref o), (1, .int (lk s p))] []
            have e : (pOne u s 2) p = (true, lay2 2 0 (cls r116.2)) := (by subst er116; exact pOne_33t c10 c39 c105 c119); have n2 : At s 4 r116.2 := (by subst er116; exact At.ok a2 (pOne_ok u s 1 (opn p) a2.1) c119); have n3 : (cls r116.2).2.2.1 < 62 := (show r116.2.2.2.1 < 62 from n2.st h0); have n4 := n2.2.2
            refine g_aload_n h dX5_one_124 rfl ?_
            refine g_dup h dX5_one_125 rfl ?_
            refine g_get h in_X5 0 rfl rfl 6 rfl q1380 rfl rfl dX5_one_126 ?_
            show G X 0 0 (mW (xT X) o a s (paS S u r116.2)) 129 [(0, .ref o), (1, .int (lk s p))] [.int (nI r116.2.2.1), .ref o]
            refine g_iconst (v := nI 1) h dX5_one_129 (by decide) ?_
            refine g_isubN h (by omega) dX5_one_130 ?_
            refine g_put (ws' := mW (xT X) o a s (paS S u (cls r116.2))) h hE.1 in_X5 tyX5 tyX5_ok nmX5 0 rfl rfl 6 rfl q1380 rfl rfl rfl rfl rfl rfl dX5_one_131 rfl ?_
            refine g_aload_n h dX5_one_134 rfl ?_
            refine g_iconst (v := nI 2) h dX5_one_135 (by decide) ?_
            refine g_iconst (v := nI 0) h dX5_one_136 (by decide) ?_
            refine g_callVW0 h hE (m5_lays _ _ _ o a s S u (cls r116.2) 2 0 (by first | assumption | omega)) 0 rfl rfl (lw_V q1594 q1596 qs56 q95 q1597) gy_X5_lays ⟨Nat.le_of_ble_eq_true rfl, Nat.le_of_ble_eq_true rfl⟩ ⟨Nat.le_of_ble_eq_true rfl, Nat.le_of_ble_eq_true rfl⟩ rfl rfl (Nat.le_of_ble_eq_true rfl) dX5_one_137 (st' := []) rfl (fun _ e137 => ?_)
            subst e137
            refine g_iconst (v := nI 1) h dX5_one_140 (by decide) ?_
            exact g_zretWv h hE dX5_one_141 (by rw [e]; rfl) (paW_eq (by rw [e]))
          · skip
            show G X 0 0 (mW (xT X) o a s (paS S u r116.2)) 122 [(0, .ref o), (1, .int (lk s p))] []
            have e : (pOne u s 2) p = (false, r116.2) := (by subst er116; exact pOne_33f c10 c39 c105 c119)
            refine g_iconst (v := nI 0) h dX5_one_122 (by decide) ?_
            exact g_zretWv h hE dX5_one_123 (by rw [e]; rfl) (paW_eq (by rw [e]))
    · skip
      show G X 0 0 (mW (xT X) o a s (paS S u p)) 42 [(0, .ref o), (1, .int (lk s p))] []
      have e : (pOne u s 2) p = (true, lay2 0 (numR s 4 0 p).1 (numR s 4 0 p).2) := pOne_m c10 c39
      refine g_iconst (v := nI 0) h dX5_one_42 (by decide) ?_
      refine g_istore_n (lv' := [(0, .ref o), (1, .int (lk s p)), (2, .int (nI 0))]) h dX5_one_43 (by decide) rfl ?_
      refine g_iconst (v := nI 0) h dX5_one_44 (by decide) ?_
      refine g_istore_n (lv' := [(0, .ref o), (1, .int (lk s p)), (2, .int (nI 0)), (3, .int (nI 0))]) h dX5_one_45 (by decide) rfl ?_
      have lp : ∀ i, i ≤ 4 → ∀ (_u : Unit) (x : Int32) (q : PS), (numR s 4 0 p = numR s (4 - i) x q) → (q.1 ≤ nC s) → (q.2 = p.2) → G X 0 0 (mW (xT X) o a s (paS S u q)) 46 [(0, .ref o), (1, .int (lk s p)), (2, .int x), (3, .int (nI i))] [] := by
        refine g_ind (N := 4) (fun i hi_i ih_lp => ?_)
        intro _u x q e0_lp e1_lp e2_lp
        refine g_iload_n h dX5_one_46 rfl ?_
        refine g_iconst (v := nI 4) h dX5_one_47 (by decide) ?_
        refine g_icmp_geN h 94 dX5_one_48 (by decide) (by first | omega | decide) (by first | omega | decide) (fun c48 => ?_) (fun c48 => ?_)
        · skip
          show G X 0 0 (mW (xT X) o a s (paS S u q)) 94 [(0, .ref o), (1, .int (lk s p)), (2, .int x), (3, .int (nI i))] []
          have f : numR s 4 0 p = (x, q) := by first | exact e0_lp.trans (numR_e (by omega)) | exact e0_lp.trans (numR_f c62)
          rw [f] at e; have yq : q.2.2.1 < 62 := by rw [e2_lp]; exact y0
          refine g_aload_n h dX5_one_94 rfl ?_
          refine g_iconst (v := nI 0) h dX5_one_95 (by decide) ?_
          refine g_iload_n h dX5_one_96 rfl ?_
          refine g_callVW0 h hE (m5_lays _ _ _ o a s S u q 0 x (by first | assumption | omega)) 0 rfl rfl (lw_V q1594 q1596 qs56 q95 q1597) gy_X5_lays ⟨Nat.le_of_ble_eq_true rfl, Nat.le_of_ble_eq_true rfl⟩ ⟨Nat.le_of_ble_eq_true rfl, Nat.le_of_ble_eq_true rfl⟩ rfl rfl (Nat.le_of_ble_eq_true rfl) dX5_one_97 (st' := []) rfl (fun _ e97 => ?_)
          subst e97
          refine g_iconst (v := nI 1) h dX5_one_100 (by decide) ?_
          exact g_zretWv h hE dX5_one_101 (by rw [e]; rfl) (paW_eq (by rw [e]))
        · skip
          show G X 0 0 (mW (xT X) o a s (paS S u q)) 51 [(0, .ref o), (1, .int (lk s p)), (2, .int x), (3, .int (nI i))] []
          refine g_aload_n h dX5_one_51 rfl ?_
          refine g_callVR h (m5_look _ _ _ o a s S u q h0 (by first | assumption | omega)) (fun _ q => q) 0 rfl rfl (lw_V q1586 q1588 qs54 q95 q1589) gy_X5_look ⟨Nat.le_of_ble_eq_true rfl, Nat.le_of_ble_eq_true rfl⟩ ⟨Nat.le_of_ble_eq_true rfl, Nat.le_of_ble_eq_true rfl⟩ rfl rfl (Nat.le_of_ble_eq_true rfl) dX5_one_52 ?_
          refine g_bipush (v := nI 48) h dX5_one_55 (by decide) ?_
          refine g_bipush (v := nI 57) h dX5_one_57 (by decide) ?_
          refine g_callSR h (m5_in _ _ _ (lk s q) 48 57 ) (fun _ q => nomatch q) (lw_S q1439 q1440 q95 q1441) gy_X5_in ⟨Nat.le_of_ble_eq_true rfl, Nat.le_of_ble_eq_true rfl⟩ ⟨Nat.le_of_ble_eq_true rfl, Nat.le_of_ble_eq_true rfl⟩ rfl rfl (Nat.le_of_ble_eq_true rfl) dX5_one_59 ?_
          refine g_if_eqB h 94 dX5_one_62 (by decide) (fun c62 => ?_) (fun c62 => ?_)
          · skip
            show G X 0 0 (mW (xT X) o a s (paS S u q)) 94 [(0, .ref o), (1, .int (lk s p)), (2, .int x), (3, .int (nI i))] []
            have f : numR s 4 0 p = (x, q) := by first | exact e0_lp.trans (numR_e (by omega)) | exact e0_lp.trans (numR_f c62)
            rw [f] at e; have yq : q.2.2.1 < 62 := by rw [e2_lp]; exact y0
            refine g_aload_n h dX5_one_94 rfl ?_
            refine g_iconst (v := nI 0) h dX5_one_95 (by decide) ?_
            refine g_iload_n h dX5_one_96 rfl ?_
            refine g_callVW0 h hE (m5_lays _ _ _ o a s S u q 0 x (by first | assumption | omega)) 0 rfl rfl (lw_V q1594 q1596 qs56 q95 q1597) gy_X5_lays ⟨Nat.le_of_ble_eq_true rfl, Nat.le_of_ble_eq_true rfl⟩ ⟨Nat.le_of_ble_eq_true rfl, Nat.le_of_ble_eq_true rfl⟩ rfl rfl (Nat.le_of_ble_eq_true rfl) dX5_one_97 (st' := []) rfl (fun _ e97 => ?_)
            subst e97
            refine g_iconst (v := nI 1) h dX5_one_100 (by decide) ?_
            exact g_zretWv h hE dX5_one_101 (by rw [e]; rfl) (paW_eq (by rw [e]))
          · skip
            show G X 0 0 (mW (xT X) o a s (paS S u q)) 65 [(0, .ref o), (1, .int (lk s p)), (2, .int x), (3, .int (nI i))] []
            have hl := lk_lt (Q := fun c => inB c 48 57) (by decide) c62
            refine g_bipush (v := nI 10) h dX5_one_65 (by decide) ?_
            refine g_iload_n h dX5_one_67 rfl ?_
            refine g_toI2 (y := 10) rfl ?_
            refine g_imul h dX5_one_68 ?_
            refine g_aload_n h dX5_one_69 rfl ?_
            refine g_callVR h (m5_look _ _ _ o a s S u q h0 (by first | assumption | omega)) (fun _ q => q) 0 rfl rfl (lw_V q1586 q1588 qs54 q95 q1589) gy_X5_look ⟨Nat.le_of_ble_eq_true rfl, Nat.le_of_ble_eq_true rfl⟩ ⟨Nat.le_of_ble_eq_true rfl, Nat.le_of_ble_eq_true rfl⟩ rfl rfl (Nat.le_of_ble_eq_true rfl) dX5_one_70 ?_
            refine g_iadd h dX5_one_73 ?_
            refine g_bipush (v := nI 48) h dX5_one_74 (by decide) ?_
            refine g_toI (y := 48) rfl ?_
            refine g_isub h dX5_one_76 ?_
            refine g_istore_n (lv' := [(0, .ref o), (1, .int (lk s p)), (2, .int (((10 * x) + (lk s q)) - 48)), (3, .int (nI i))]) h dX5_one_77 (by decide) rfl ?_
            refine g_aload_n h dX5_one_78 rfl ?_
            refine g_dup h dX5_one_79 rfl ?_
            refine g_get h in_X5 0 rfl rfl 5 rfl q1379 rfl rfl dX5_one_80 ?_
            show G X 0 0 (mW (xT X) o a s (paS S u q)) 83 [(0, .ref o), (1, .int (lk s p)), (2, .int (((10 * x) + (lk s q)) - 48)), (3, .int (nI i))] [.int (nI q.1), .ref o]
            refine g_iconst (v := nI 1) h dX5_one_83 (by decide) ?_
            refine g_iaddN h dX5_one_84 ?_
            refine g_put (ws' := mW (xT X) o a s (paS S u (adv q))) h hE.1 in_X5 tyX5 tyX5_ok nmX5 0 rfl rfl 5 rfl q1379 rfl rfl rfl rfl rfl rfl dX5_one_85 rfl ?_
            refine g_iincN (b := 1) (lv' := [(0, .ref o), (1, .int (lk s p)), (2, .int (((10 * x) + (lk s q)) - 48)), (3, .int (nI (i + 1)))]) h dX5_one_88 rfl rfl (by decide) rfl ?_
            refine g_goto h 46 dX5_one_91 (by decide) ?_
            exact ih_lp (i + 1) (by omega) (by omega) () (((10 * x) + (lk s q)) - 48) (adv q) (e0_lp.trans (numR_t (by omega) c62)) hl e2_lp
      exact lp (0) (by omega) () 0 p rfl l0 rfl
  · skip
    show G X 0 0 (mW (xT X) o a s (paS S u p)) 13 [(0, .ref o), (1, .int (lk s p))] []
    have e : (pOne u s 2) p = (true, lay2 1 (lk s p) (adv p)) := pOne_n c10; have hl := lk_lt (isNm_0 h1) c10; have a2 := (h2.adv hl).st h0
    refine g_aload_n h dX5_one_13 rfl ?_
    refine g_dup h dX5_one_14 rfl ?_
    refine g_get h in_X5 0 rfl rfl 5 rfl q1379 rfl rfl dX5_one_15 ?_
    show G X 0 0 (mW (xT X) o a s (paS S u p)) 18 [(0, .ref o), (1, .int (lk s p))] [.int (nI p.1), .ref o]
    refine g_iconst (v := nI 1) h dX5_one_18 (by decide) ?_
    refine g_iaddN h dX5_one_19 ?_
    refine g_put (ws' := mW (xT X) o a s (paS S u (adv p))) h hE.1 in_X5 tyX5 tyX5_ok nmX5 0 rfl rfl 5 rfl q1379 rfl rfl rfl rfl rfl rfl dX5_one_20 rfl ?_
    refine g_aload_n h dX5_one_23 rfl ?_
    refine g_iconst (v := nI 1) h dX5_one_24 (by decide) ?_
    refine g_iload_n h dX5_one_25 rfl ?_
    refine g_callVW0 h hE (m5_lays _ _ _ o a s S u (adv p) 1 (lk s p) (by first | assumption | omega)) 0 rfl rfl (lw_V q1594 q1596 qs56 q95 q1597) gy_X5_lays ⟨Nat.le_of_ble_eq_true rfl, Nat.le_of_ble_eq_true rfl⟩ ⟨Nat.le_of_ble_eq_true rfl, Nat.le_of_ble_eq_true rfl⟩ rfl rfl (Nat.le_of_ble_eq_true rfl) dX5_one_26 (st' := []) rfl (fun _ e26 => ?_)
    subst e26
    refine g_iconst (v := nI 1) h dX5_one_29 (by decide) ?_
    exact g_zretWv h hE dX5_one_30 (by rw [e]; rfl) (paW_eq (by rw [e]))
set_option maxHeartbeats 4000000 in
set_option maxRecDepth 100000 in
theorem m5_product_2 (l : Launch) (D : va_G) (T : Nat → ClassId) (o : Nat) (a : Nat → Nat) (s : Nat → Int32) (S : Nat → Nat → Int32) (u : Nat) (p : PS) (h0 : Inv s) (h1 : u < 2) (h2 : At s 3 p) : MetW l D T yX5_product cX5_product 2 (some .boolean) 14 297 0 0 [.ref o] (mW T o a s (paS S u p)) (fun r_ w_ => r_ = some (.int (bI (((pProd (pOne u s 2) s) p).1))) ∧ (w_ = mW T o a s (paS S u (((pProd (pOne u s 2) s) p).2)))) := by
  refine metW (own := RX5) rfl (by decide) rfl (fun X h hl hDx hTx hnm hE => ?_)
  subst hl; subst hDx; subst hTx
  have hnp := h0.npl; have hnt := h0.ntl; have hnq := h0.nql
  have hnc := h0.ncl; have l0 := h2.1; have b0 := h2.2.1; have z0 := h2.2.2; have y0 := h2.st h0
  show G X 0 0 (mW (xT X) o a s (paS S u p)) 0 [(0, .ref o)] []
  refine g_aload_n h dX5_product_0 rfl ?_
  refine g_callVW0 h hE (m5_one_2 _ _ _ o a s S u p h0 (by first | assumption | omega) (by first | assumption | omega)) 0 rfl rfl (lw_V q1582 q1584 qs53 q95 q1585) gy_X5_one ⟨Nat.le_of_ble_eq_true rfl, Nat.le_of_ble_eq_true rfl⟩ ⟨Nat.le_of_ble_eq_true rfl, Nat.le_of_ble_eq_true rfl⟩ rfl rfl (Nat.le_of_ble_eq_true rfl) dX5_product_1 (st' := [.int (bI (((pOne u s 2) p).1))]) rfl (fun _ e1 => ?_)
  subst e1
  show G X 0 0 (mW (xT X) o a s (paS S u (((pOne u s 2) p).2))) 4 [(0, .ref o)] [.int (bI (((pOne u s 2) p).1))]
  generalize er1 : (pOne u s 2) p = r1
  refine g_if_neB h 9 dX5_product_4 (by decide) (fun c4 => ?_) (fun c4 => ?_)
  · skip
    show G X 0 0 (mW (xT X) o a s (paS S u r1.2)) 9 [(0, .ref o)] []
    have a0 : At s 3 r1.2 := (by subst er1; exact h2.ok ((pOne_ok u s 2) p l0) c4); have l1 := a0.1
    have lw : ∀ q_ : (PS) × (Nat), (match q_ with | (q, m) => ((pProd (pOne u s 2) s) p = pR (pOne u s 2) s isMul m q) → (At s 3 q) → (nC s - q.1 < m) → G X 0 0 (mW (xT X) o a s (paS S u q)) 9 [(0, .ref o)] []) := by
      refine g_rec (fun q_ => match q_ with | (q, m) => m) ?_
      rintro ⟨q, m⟩ ih_lw e0_lw e1_lw e2_lw
      skip
      have a1 := e1_lw; have l2 := a1.1; have y2 := a1.st h0
      refine g_aload_n h dX5_product_9 rfl ?_
      refine g_callVR h (m5_look _ _ _ o a s S u q h0 (by first | assumption | omega)) (fun _ q => q) 0 rfl rfl (lw_V q1586 q1588 qs54 q95 q1589) gy_X5_look ⟨Nat.le_of_ble_eq_true rfl, Nat.le_of_ble_eq_true rfl⟩ ⟨Nat.le_of_ble_eq_true rfl, Nat.le_of_ble_eq_true rfl⟩ rfl rfl (Nat.le_of_ble_eq_true rfl) dX5_product_10 ?_
      refine g_bipush (v := nI 42) h dX5_product_13 (by decide) ?_
      refine g_toI (y := 42) rfl ?_
      refine g_icmp_eq h 36 dX5_product_15 (by decide) (fun c15 => ?_) (fun c15 => ?_)
      · skip
        show G X 0 0 (mW (xT X) o a s (paS S u q)) 36 [(0, .ref o)] []
        have hq : isMul (lk s q) = true := by simp [isMul, c15]
        have hl := lk_lt (by decide) hq; obtain ⟨m0, rfl⟩ : ∃ k, m = k + 1 := ⟨m - 1, by omega⟩; have a2 := a1.adv hl
        refine g_aload_n h dX5_product_36 rfl ?_
        refine g_callVR h (m5_look _ _ _ o a s S u q h0 (by first | assumption | omega)) (fun _ q => q) 0 rfl rfl (lw_V q1586 q1588 qs54 q95 q1589) gy_X5_look ⟨Nat.le_of_ble_eq_true rfl, Nat.le_of_ble_eq_true rfl⟩ ⟨Nat.le_of_ble_eq_true rfl, Nat.le_of_ble_eq_true rfl⟩ rfl rfl (Nat.le_of_ble_eq_true rfl) dX5_product_37 ?_
        refine g_istore_n (lv' := [(0, .ref o), (1, .int (lk s q))]) h dX5_product_40 (by decide) rfl ?_
        refine g_aload_n h dX5_product_41 rfl ?_
        refine g_dup h dX5_product_42 rfl ?_
        refine g_get h in_X5 0 rfl rfl 5 rfl q1379 rfl rfl dX5_product_43 ?_
        show G X 0 0 (mW (xT X) o a s (paS S u q)) 46 [(0, .ref o), (1, .int (lk s q))] [.int (nI q.1), .ref o]
        refine g_iconst (v := nI 1) h dX5_product_46 (by decide) ?_
        refine g_iaddN h dX5_product_47 ?_
        refine g_put (ws' := mW (xT X) o a s (paS S u (adv q))) h hE.1 in_X5 tyX5 tyX5_ok nmX5 0 rfl rfl 5 rfl q1379 rfl rfl rfl rfl rfl rfl dX5_product_48 rfl ?_
        refine g_aload_n h dX5_product_51 rfl ?_
        refine g_callVW0 h hE (m5_one_2 _ _ _ o a s S u (adv q) h0 (by first | assumption | omega) (by first | assumption | omega)) 0 rfl rfl (lw_V q1582 q1584 qs53 q95 q1585) gy_X5_one ⟨Nat.le_of_ble_eq_true rfl, Nat.le_of_ble_eq_true rfl⟩ ⟨Nat.le_of_ble_eq_true rfl, Nat.le_of_ble_eq_true rfl⟩ rfl rfl (Nat.le_of_ble_eq_true rfl) dX5_product_52 (st' := [.int (bI (((pOne u s 2) (adv q)).1))]) rfl (fun _ e52 => ?_)
        subst e52
        show G X 0 0 (mW (xT X) o a s (paS S u (((pOne u s 2) (adv q)).2))) 55 [(0, .ref o), (1, .int (lk s q))] [.int (bI (((pOne u s 2) (adv q)).1))]
        generalize er52 : (pOne u s 2) (adv q) = r52
        refine g_if_neB h 60 dX5_product_55 (by decide) (fun c55 => ?_) (fun c55 => ?_)
        · skip
          show G X 0 0 (mW (xT X) o a s (paS S u r52.2)) 60 [(0, .ref o), (1, .int (lk s q))] []
          have n0 : OKp s q (true, lay2 3 (lk s q) r52.2) := (by subst er52; exact adv_ok (pOne_ok u s 2) 3 (lk s q) hl c55); have n1 := At.ok a1 n0 rfl; have n2 : At s 3 r52.2 := (by subst er52; exact At.ok a2 ((pOne_ok u s 2) (adv q) a2.1) c55); have n3 := n2.st h0
          refine g_aload_n h dX5_product_60 rfl ?_
          refine g_iconst (v := nI 3) h dX5_product_61 (by decide) ?_
          refine g_iload_n h dX5_product_62 rfl ?_
          refine g_callVW0 h hE (m5_lays _ _ _ o a s S u r52.2 3 (lk s q) (by first | assumption | omega)) 0 rfl rfl (lw_V q1594 q1596 qs56 q95 q1597) gy_X5_lays ⟨Nat.le_of_ble_eq_true rfl, Nat.le_of_ble_eq_true rfl⟩ ⟨Nat.le_of_ble_eq_true rfl, Nat.le_of_ble_eq_true rfl⟩ rfl rfl (Nat.le_of_ble_eq_true rfl) dX5_product_63 (st' := []) rfl (fun _ e63 => ?_)
          subst e63
          refine g_goto h 9 dX5_product_66 (by decide) ?_
          refine g_lv (lv' := [(0, .ref o)]) (lvle_cons rfl (lvle_nil)) ?_
          exact ih_lw (lay2 3 (lk s q) r52.2, m0) (by show m0 < m0 + 1; omega) (by subst er52; exact e0_lw.trans (pR_t hq c55)) n1 (by subst er52; exact mu_ok ((pOne_ok u s 2) (adv q) a2.1) hl e2_lw)
        · skip
          show G X 0 0 (mW (xT X) o a s (paS S u r52.2)) 58 [(0, .ref o), (1, .int (lk s q))] []
          have e : (pProd (pOne u s 2) s) p = (false, r52.2) := (by subst er52; exact e0_lw.trans (pR_f hq c55))
          refine g_iconst (v := nI 0) h dX5_product_58 (by decide) ?_
          exact g_zretWv h hE dX5_product_59 (by rw [e]; rfl) (paW_eq (by rw [e]))
      · skip
        show G X 0 0 (mW (xT X) o a s (paS S u q)) 18 [(0, .ref o)] []
        refine g_aload_n h dX5_product_18 rfl ?_
        refine g_callVR h (m5_look _ _ _ o a s S u q h0 (by first | assumption | omega)) (fun _ q => q) 0 rfl rfl (lw_V q1586 q1588 qs54 q95 q1589) gy_X5_look ⟨Nat.le_of_ble_eq_true rfl, Nat.le_of_ble_eq_true rfl⟩ ⟨Nat.le_of_ble_eq_true rfl, Nat.le_of_ble_eq_true rfl⟩ rfl rfl (Nat.le_of_ble_eq_true rfl) dX5_product_19 ?_
        refine g_bipush (v := nI 47) h dX5_product_22 (by decide) ?_
        refine g_toI (y := 47) rfl ?_
        refine g_icmp_eq h 36 dX5_product_24 (by decide) (fun c24 => ?_) (fun c24 => ?_)
        · skip
          show G X 0 0 (mW (xT X) o a s (paS S u q)) 36 [(0, .ref o)] []
          have hq : isMul (lk s q) = true := by simp [isMul, c15, c24]
          have hl := lk_lt (by decide) hq; obtain ⟨m0, rfl⟩ : ∃ k, m = k + 1 := ⟨m - 1, by omega⟩; have a2 := a1.adv hl
          refine g_aload_n h dX5_product_36 rfl ?_
          refine g_callVR h (m5_look _ _ _ o a s S u q h0 (by first | assumption | omega)) (fun _ q => q) 0 rfl rfl (lw_V q1586 q1588 qs54 q95 q1589) gy_X5_look ⟨Nat.le_of_ble_eq_true rfl, Nat.le_of_ble_eq_true rfl⟩ ⟨Nat.le_of_ble_eq_true rfl, Nat.le_of_ble_eq_true rfl⟩ rfl rfl (Nat.le_of_ble_eq_true rfl) dX5_product_37 ?_
          refine g_istore_n (lv' := [(0, .ref o), (1, .int (lk s q))]) h dX5_product_40 (by decide) rfl ?_
          refine g_aload_n h dX5_product_41 rfl ?_
          refine g_dup h dX5_product_42 rfl ?_
          refine g_get h in_X5 0 rfl rfl 5 rfl q1379 rfl rfl dX5_product_43 ?_
          show G X 0 0 (mW (xT X) o a s (paS S u q)) 46 [(0, .ref o), (1, .int (lk s q))] [.int (nI q.1), .ref o]
          refine g_iconst (v := nI 1) h dX5_product_46 (by decide) ?_
          refine g_iaddN h dX5_product_47 ?_
          refine g_put (ws' := mW (xT X) o a s (paS S u (adv q))) h hE.1 in_X5 tyX5 tyX5_ok nmX5 0 rfl rfl 5 rfl q1379 rfl rfl rfl rfl rfl rfl dX5_product_48 rfl ?_
          refine g_aload_n h dX5_product_51 rfl ?_
          refine g_callVW0 h hE (m5_one_2 _ _ _ o a s S u (adv q) h0 (by first | assumption | omega) (by first | assumption | omega)) 0 rfl rfl (lw_V q1582 q1584 qs53 q95 q1585) gy_X5_one ⟨Nat.le_of_ble_eq_true rfl, Nat.le_of_ble_eq_true rfl⟩ ⟨Nat.le_of_ble_eq_true rfl, Nat.le_of_ble_eq_true rfl⟩ rfl rfl (Nat.le_of_ble_eq_true rfl) dX5_product_52 (st' := [.int (bI (((pOne u s 2) (adv q)).1))]) rfl (fun _ e52 => ?_)
          subst e52
          show G X 0 0 (mW (xT X) o a s (paS S u (((pOne u s 2) (adv q)).2))) 55 [(0, .ref o), (1, .int (lk s q))] [.int (bI (((pOne u s 2) (adv q)).1))]
          generalize er52 : (pOne u s 2) (adv q) = r52
          refine g_if_neB h 60 dX5_product_55 (by decide) (fun c55 => ?_) (fun c55 => ?_)
          · skip
            show G X 0 0 (mW (xT X) o a s (paS S u r52.2)) 60 [(0, .ref o), (1, .int (lk s q))] []
            have n0 : OKp s q (true, lay2 3 (lk s q) r52.2) := (by subst er52; exact adv_ok (pOne_ok u s 2) 3 (lk s q) hl c55); have n1 := At.ok a1 n0 rfl; have n2 : At s 3 r52.2 := (by subst er52; exact At.ok a2 ((pOne_ok u s 2) (adv q) a2.1) c55); have n3 := n2.st h0
            refine g_aload_n h dX5_product_60 rfl ?_
            refine g_iconst (v := nI 3) h dX5_product_61 (by decide) ?_
            refine g_iload_n h dX5_product_62 rfl ?_
            refine g_callVW0 h hE (m5_lays _ _ _ o a s S u r52.2 3 (lk s q) (by first | assumption | omega)) 0 rfl rfl (lw_V q1594 q1596 qs56 q95 q1597) gy_X5_lays ⟨Nat.le_of_ble_eq_true rfl, Nat.le_of_ble_eq_true rfl⟩ ⟨Nat.le_of_ble_eq_true rfl, Nat.le_of_ble_eq_true rfl⟩ rfl rfl (Nat.le_of_ble_eq_true rfl) dX5_product_63 (st' := []) rfl (fun _ e63 => ?_)
            subst e63
            refine g_goto h 9 dX5_product_66 (by decide) ?_
            refine g_lv (lv' := [(0, .ref o)]) (lvle_cons rfl (lvle_nil)) ?_
            exact ih_lw (lay2 3 (lk s q) r52.2, m0) (by show m0 < m0 + 1; omega) (by subst er52; exact e0_lw.trans (pR_t hq c55)) n1 (by subst er52; exact mu_ok ((pOne_ok u s 2) (adv q) a2.1) hl e2_lw)
          · skip
            show G X 0 0 (mW (xT X) o a s (paS S u r52.2)) 58 [(0, .ref o), (1, .int (lk s q))] []
            have e : (pProd (pOne u s 2) s) p = (false, r52.2) := (by subst er52; exact e0_lw.trans (pR_f hq c55))
            refine g_iconst (v := nI 0) h dX5_product_58 (by decide) ?_
            exact g_zretWv h hE dX5_product_59 (by rw [e]; rfl) (paW_eq (by rw [e]))
        · skip
          show G X 0 0 (mW (xT X) o a s (paS S u q)) 27 [(0, .ref o)] []
          refine g_aload_n h dX5_product_27 rfl ?_
          refine g_callVR h (m5_look _ _ _ o a s S u q h0 (by first | assumption | omega)) (fun _ q => q) 0 rfl rfl (lw_V q1586 q1588 qs54 q95 q1589) gy_X5_look ⟨Nat.le_of_ble_eq_true rfl, Nat.le_of_ble_eq_true rfl⟩ ⟨Nat.le_of_ble_eq_true rfl, Nat.le_of_ble_eq_true rfl⟩ rfl rfl (Nat.le_of_ble_eq_true rfl) dX5_product_28 ?_
          refine g_bipush (v := nI 37) h dX5_product_31 (by decide) ?_
          refine g_toI (y := 37) rfl ?_
          refine g_icmp_ne h 69 dX5_product_33 (by decide) (fun c33 => ?_) (fun c33 => ?_)
          · skip
            show G X 0 0 (mW (xT X) o a s (paS S u q)) 69 [(0, .ref o)] []
            have hq : isMul (lk s q) = false := by simp [isMul, c15, c24, c33]
            have e : (pProd (pOne u s 2) s) p = (true, q) := e0_lw.trans (pR_n hq)
            refine g_iconst (v := nI 1) h dX5_product_69 (by decide) ?_
            exact g_zretWv h hE dX5_product_70 (by rw [e]; rfl) (paW_eq (by rw [e]))
          · skip
            show G X 0 0 (mW (xT X) o a s (paS S u q)) 36 [(0, .ref o)] []
            have hq : isMul (lk s q) = true := by simp [isMul, c15, c24, c33]
            have hl := lk_lt (by decide) hq; obtain ⟨m0, rfl⟩ : ∃ k, m = k + 1 := ⟨m - 1, by omega⟩; have a2 := a1.adv hl
            refine g_aload_n h dX5_product_36 rfl ?_
            refine g_callVR h (m5_look _ _ _ o a s S u q h0 (by first | assumption | omega)) (fun _ q => q) 0 rfl rfl (lw_V q1586 q1588 qs54 q95 q1589) gy_X5_look ⟨Nat.le_of_ble_eq_true rfl, Nat.le_of_ble_eq_true rfl⟩ ⟨Nat.le_of_ble_eq_true rfl, Nat.le_of_ble_eq_true rfl⟩ rfl rfl (Nat.le_of_ble_eq_true rfl) dX5_product_37 ?_
            refine g_istore_n (lv' := [(0, .ref o), (1, .int (lk s q))]) h dX5_product_40 (by decide) rfl ?_
            refine g_aload_n h dX5_product_41 rfl ?_
            refine g_dup h dX5_product_42 rfl ?_
            refine g_get h in_X5 0 rfl rfl 5 rfl q1379 rfl rfl dX5_product_43 ?_
            show G X 0 0 (mW (xT X) o a s (paS S u q)) 46 [(0, .ref o), (1, .int (lk s q))] [.int (nI q.1), .ref o]
            refine g_iconst (v := nI 1) h dX5_product_46 (by decide) ?_
            refine g_iaddN h dX5_product_47 ?_
            refine g_put (ws' := mW (xT X) o a s (paS S u (adv q))) h hE.1 in_X5 tyX5 tyX5_ok nmX5 0 rfl rfl 5 rfl q1379 rfl rfl rfl rfl rfl rfl dX5_product_48 rfl ?_
            refine g_aload_n h dX5_product_51 rfl ?_
            refine g_callVW0 h hE (m5_one_2 _ _ _ o a s S u (adv q) h0 (by first | assumption | omega) (by first | assumption | omega)) 0 rfl rfl (lw_V q1582 q1584 qs53 q95 q1585) gy_X5_one ⟨Nat.le_of_ble_eq_true rfl, Nat.le_of_ble_eq_true rfl⟩ ⟨Nat.le_of_ble_eq_true rfl, Nat.le_of_ble_eq_true rfl⟩ rfl rfl (Nat.le_of_ble_eq_true rfl) dX5_product_52 (st' := [.int (bI (((pOne u s 2) (adv q)).1))]) rfl (fun _ e52 => ?_)
            subst e52
            show G X 0 0 (mW (xT X) o a s (paS S u (((pOne u s 2) (adv q)).2))) 55 [(0, .ref o), (1, .int (lk s q))] [.int (bI (((pOne u s 2) (adv q)).1))]
            generalize er52 : (pOne u s 2) (adv q) = r52
            refine g_if_neB h 60 dX5_product_55 (by decide) (fun c55 => ?_) (fun c55 => ?_)
            · skip
              show G X 0 0 (mW (xT X) o a s (paS S u r52.2)) 60 [(0, .ref o), (1, .int (lk s q))] []
              have n0 : OKp s q (true, lay2 3 (lk s q) r52.2) := (by subst er52; exact adv_ok (pOne_ok u s 2) 3 (lk s q) hl c55); have n1 := At.ok a1 n0 rfl; have n2 : At s 3 r52.2 := (by subst er52; exact At.ok a2 ((pOne_ok u s 2) (adv q) a2.1) c55); have n3 := n2.st h0
              refine g_aload_n h dX5_product_60 rfl ?_
              refine g_iconst (v := nI 3) h dX5_product_61 (by decide) ?_
              refine g_iload_n h dX5_product_62 rfl ?_
              refine g_callVW0 h hE (m5_lays _ _ _ o a s S u r52.2 3 (lk s q) (by first | assumption | omega)) 0 rfl rfl (lw_V q1594 q1596 qs56 q95 q1597) gy_X5_lays ⟨Nat.le_of_ble_eq_true rfl, Nat.le_of_ble_eq_true rfl⟩ ⟨Nat.le_of_ble_eq_true rfl, Nat.le_of_ble_eq_true rfl⟩ rfl rfl (Nat.le_of_ble_eq_true rfl) dX5_product_63 (st' := []) rfl (fun _ e63 => ?_)
              subst e63
              refine g_goto h 9 dX5_product_66 (by decide) ?_
              refine g_lv (lv' := [(0, .ref o)]) (lvle_cons rfl (lvle_nil)) ?_
              exact ih_lw (lay2 3 (lk s q) r52.2, m0) (by show m0 < m0 + 1; omega) (by subst er52; exact e0_lw.trans (pR_t hq c55)) n1 (by subst er52; exact mu_ok ((pOne_ok u s 2) (adv q) a2.1) hl e2_lw)
            · skip
              show G X 0 0 (mW (xT X) o a s (paS S u r52.2)) 58 [(0, .ref o), (1, .int (lk s q))] []
              have e : (pProd (pOne u s 2) s) p = (false, r52.2) := (by subst er52; exact e0_lw.trans (pR_f hq c55))
              refine g_iconst (v := nI 0) h dX5_product_58 (by decide) ?_
              exact g_zretWv h hE dX5_product_59 (by rw [e]; rfl) (paW_eq (by rw [e]))
    exact lw (r1.2, 61) (by subst er1; exact pProd_t c4) a0 (by omega)
  · skip
    show G X 0 0 (mW (xT X) o a s (paS S u r1.2)) 7 [(0, .ref o)] []
    have e : (pProd (pOne u s 2) s) p = (false, r1.2) := (by subst er1; exact pProd_f c4)
    refine g_iconst (v := nI 0) h dX5_product_7 (by decide) ?_
    exact g_zretWv h hE dX5_product_8 (by rw [e]; rfl) (paW_eq (by rw [e]))
set_option maxHeartbeats 4000000 in
set_option maxRecDepth 100000 in
theorem m5_sum_2 (l : Launch) (D : va_G) (T : Nat → ClassId) (o : Nat) (a : Nat → Nat) (s : Nat → Int32) (S : Nat → Nat → Int32) (u : Nat) (p : PS) (h0 : Inv s) (h1 : u < 2) (h2 : At s 3 p) : MetW l D T yX5_sum cX5_sum 2 (some .boolean) 15 318 0 0 [.ref o] (mW T o a s (paS S u p)) (fun r_ w_ => r_ = some (.int (bI (((pSum (pOne u s 2) s) p).1))) ∧ (w_ = mW T o a s (paS S u (((pSum (pOne u s 2) s) p).2)))) := by
  refine metW (own := RX5) rfl (by decide) rfl (fun X h hl hDx hTx hnm hE => ?_)
  subst hl; subst hDx; subst hTx
  have hnp := h0.npl; have hnt := h0.ntl; have hnq := h0.nql
  have hnc := h0.ncl; have l0 := h2.1; have b0 := h2.2.1; have z0 := h2.2.2; have y0 := h2.st h0
  show G X 0 0 (mW (xT X) o a s (paS S u p)) 0 [(0, .ref o)] []
  refine g_aload_n h dX5_sum_0 rfl ?_
  refine g_callVW0 h hE (m5_product_2 _ _ _ o a s S u p h0 (by first | assumption | omega) (by first | assumption | omega)) 0 rfl rfl (lw_V q1578 q1580 qs52 q95 q1581) gy_X5_product ⟨Nat.le_of_ble_eq_true rfl, Nat.le_of_ble_eq_true rfl⟩ ⟨Nat.le_of_ble_eq_true rfl, Nat.le_of_ble_eq_true rfl⟩ rfl rfl (Nat.le_of_ble_eq_true rfl) dX5_sum_1 (st' := [.int (bI (((pProd (pOne u s 2) s) p).1))]) rfl (fun _ e1 => ?_)
  subst e1
  show G X 0 0 (mW (xT X) o a s (paS S u (((pProd (pOne u s 2) s) p).2))) 4 [(0, .ref o)] [.int (bI (((pProd (pOne u s 2) s) p).1))]
  generalize er1 : (pProd (pOne u s 2) s) p = r1
  refine g_if_neB h 9 dX5_sum_4 (by decide) (fun c4 => ?_) (fun c4 => ?_)
  · skip
    show G X 0 0 (mW (xT X) o a s (paS S u r1.2)) 9 [(0, .ref o)] []
    have a0 : At s 3 r1.2 := (by subst er1; exact h2.ok ((pProd_ok (pOne_ok u s 2)) p l0) c4); have l1 := a0.1
    have lw : ∀ q_ : (PS) × (Nat), (match q_ with | (q, m) => ((pSum (pOne u s 2) s) p = pR (pProd (pOne u s 2) s) s isAdd m q) → (At s 3 q) → (nC s - q.1 < m) → G X 0 0 (mW (xT X) o a s (paS S u q)) 9 [(0, .ref o)] []) := by
      refine g_rec (fun q_ => match q_ with | (q, m) => m) ?_
      rintro ⟨q, m⟩ ih_lw e0_lw e1_lw e2_lw
      skip
      have a1 := e1_lw; have l2 := a1.1; have y2 := a1.st h0
      refine g_aload_n h dX5_sum_9 rfl ?_
      refine g_callVR h (m5_look _ _ _ o a s S u q h0 (by first | assumption | omega)) (fun _ q => q) 0 rfl rfl (lw_V q1586 q1588 qs54 q95 q1589) gy_X5_look ⟨Nat.le_of_ble_eq_true rfl, Nat.le_of_ble_eq_true rfl⟩ ⟨Nat.le_of_ble_eq_true rfl, Nat.le_of_ble_eq_true rfl⟩ rfl rfl (Nat.le_of_ble_eq_true rfl) dX5_sum_10 ?_
      refine g_bipush (v := nI 43) h dX5_sum_13 (by decide) ?_
      refine g_toI (y := 43) rfl ?_
      refine g_icmp_eq h 27 dX5_sum_15 (by decide) (fun c15 => ?_) (fun c15 => ?_)
      · skip
        show G X 0 0 (mW (xT X) o a s (paS S u q)) 27 [(0, .ref o)] []
        have hq : isAdd (lk s q) = true := by simp [isAdd, c15]
        have hl := lk_lt (by decide) hq; obtain ⟨m0, rfl⟩ : ∃ k, m = k + 1 := ⟨m - 1, by omega⟩; have a2 := a1.adv hl
        refine g_aload_n h dX5_sum_27 rfl ?_
        refine g_callVR h (m5_look _ _ _ o a s S u q h0 (by first | assumption | omega)) (fun _ q => q) 0 rfl rfl (lw_V q1586 q1588 qs54 q95 q1589) gy_X5_look ⟨Nat.le_of_ble_eq_true rfl, Nat.le_of_ble_eq_true rfl⟩ ⟨Nat.le_of_ble_eq_true rfl, Nat.le_of_ble_eq_true rfl⟩ rfl rfl (Nat.le_of_ble_eq_true rfl) dX5_sum_28 ?_
        refine g_istore_n (lv' := [(0, .ref o), (1, .int (lk s q))]) h dX5_sum_31 (by decide) rfl ?_
        refine g_aload_n h dX5_sum_32 rfl ?_
        refine g_dup h dX5_sum_33 rfl ?_
        refine g_get h in_X5 0 rfl rfl 5 rfl q1379 rfl rfl dX5_sum_34 ?_
        show G X 0 0 (mW (xT X) o a s (paS S u q)) 37 [(0, .ref o), (1, .int (lk s q))] [.int (nI q.1), .ref o]
        refine g_iconst (v := nI 1) h dX5_sum_37 (by decide) ?_
        refine g_iaddN h dX5_sum_38 ?_
        refine g_put (ws' := mW (xT X) o a s (paS S u (adv q))) h hE.1 in_X5 tyX5 tyX5_ok nmX5 0 rfl rfl 5 rfl q1379 rfl rfl rfl rfl rfl rfl dX5_sum_39 rfl ?_
        refine g_aload_n h dX5_sum_42 rfl ?_
        refine g_callVW0 h hE (m5_product_2 _ _ _ o a s S u (adv q) h0 (by first | assumption | omega) (by first | assumption | omega)) 0 rfl rfl (lw_V q1578 q1580 qs52 q95 q1581) gy_X5_product ⟨Nat.le_of_ble_eq_true rfl, Nat.le_of_ble_eq_true rfl⟩ ⟨Nat.le_of_ble_eq_true rfl, Nat.le_of_ble_eq_true rfl⟩ rfl rfl (Nat.le_of_ble_eq_true rfl) dX5_sum_43 (st' := [.int (bI (((pProd (pOne u s 2) s) (adv q)).1))]) rfl (fun _ e43 => ?_)
        subst e43
        show G X 0 0 (mW (xT X) o a s (paS S u (((pProd (pOne u s 2) s) (adv q)).2))) 46 [(0, .ref o), (1, .int (lk s q))] [.int (bI (((pProd (pOne u s 2) s) (adv q)).1))]
        generalize er43 : (pProd (pOne u s 2) s) (adv q) = r43
        refine g_if_neB h 51 dX5_sum_46 (by decide) (fun c46 => ?_) (fun c46 => ?_)
        · skip
          show G X 0 0 (mW (xT X) o a s (paS S u r43.2)) 51 [(0, .ref o), (1, .int (lk s q))] []
          have n0 : OKp s q (true, lay2 3 (lk s q) r43.2) := (by subst er43; exact adv_ok (pProd_ok (pOne_ok u s 2)) 3 (lk s q) hl c46); have n1 := At.ok a1 n0 rfl; have n2 : At s 3 r43.2 := (by subst er43; exact At.ok a2 ((pProd_ok (pOne_ok u s 2)) (adv q) a2.1) c46); have n3 := n2.st h0
          refine g_aload_n h dX5_sum_51 rfl ?_
          refine g_iconst (v := nI 3) h dX5_sum_52 (by decide) ?_
          refine g_iload_n h dX5_sum_53 rfl ?_
          refine g_callVW0 h hE (m5_lays _ _ _ o a s S u r43.2 3 (lk s q) (by first | assumption | omega)) 0 rfl rfl (lw_V q1594 q1596 qs56 q95 q1597) gy_X5_lays ⟨Nat.le_of_ble_eq_true rfl, Nat.le_of_ble_eq_true rfl⟩ ⟨Nat.le_of_ble_eq_true rfl, Nat.le_of_ble_eq_true rfl⟩ rfl rfl (Nat.le_of_ble_eq_true rfl) dX5_sum_54 (st' := []) rfl (fun _ e54 => ?_)
          subst e54
          refine g_goto h 9 dX5_sum_57 (by decide) ?_
          refine g_lv (lv' := [(0, .ref o)]) (lvle_cons rfl (lvle_nil)) ?_
          exact ih_lw (lay2 3 (lk s q) r43.2, m0) (by show m0 < m0 + 1; omega) (by subst er43; exact e0_lw.trans (pR_t hq c46)) n1 (by subst er43; exact mu_ok ((pProd_ok (pOne_ok u s 2)) (adv q) a2.1) hl e2_lw)
        · skip
          show G X 0 0 (mW (xT X) o a s (paS S u r43.2)) 49 [(0, .ref o), (1, .int (lk s q))] []
          have e : (pSum (pOne u s 2) s) p = (false, r43.2) := (by subst er43; exact e0_lw.trans (pR_f hq c46))
          refine g_iconst (v := nI 0) h dX5_sum_49 (by decide) ?_
          exact g_zretWv h hE dX5_sum_50 (by rw [e]; rfl) (paW_eq (by rw [e]))
      · skip
        show G X 0 0 (mW (xT X) o a s (paS S u q)) 18 [(0, .ref o)] []
        refine g_aload_n h dX5_sum_18 rfl ?_
        refine g_callVR h (m5_look _ _ _ o a s S u q h0 (by first | assumption | omega)) (fun _ q => q) 0 rfl rfl (lw_V q1586 q1588 qs54 q95 q1589) gy_X5_look ⟨Nat.le_of_ble_eq_true rfl, Nat.le_of_ble_eq_true rfl⟩ ⟨Nat.le_of_ble_eq_true rfl, Nat.le_of_ble_eq_true rfl⟩ rfl rfl (Nat.le_of_ble_eq_true rfl) dX5_sum_19 ?_
        refine g_bipush (v := nI 45) h dX5_sum_22 (by decide) ?_
        refine g_toI (y := 45) rfl ?_
        refine g_icmp_ne h 60 dX5_sum_24 (by decide) (fun c24 => ?_) (fun c24 => ?_)
        · skip
          show G X 0 0 (mW (xT X) o a s (paS S u q)) 60 [(0, .ref o)] []
          have hq : isAdd (lk s q) = false := by simp [isAdd, c15, c24]
          have e : (pSum (pOne u s 2) s) p = (true, q) := e0_lw.trans (pR_n hq)
          refine g_iconst (v := nI 1) h dX5_sum_60 (by decide) ?_
          exact g_zretWv h hE dX5_sum_61 (by rw [e]; rfl) (paW_eq (by rw [e]))
        · skip
          show G X 0 0 (mW (xT X) o a s (paS S u q)) 27 [(0, .ref o)] []
          have hq : isAdd (lk s q) = true := by simp [isAdd, c15, c24]
          have hl := lk_lt (by decide) hq; obtain ⟨m0, rfl⟩ : ∃ k, m = k + 1 := ⟨m - 1, by omega⟩; have a2 := a1.adv hl
          refine g_aload_n h dX5_sum_27 rfl ?_
          refine g_callVR h (m5_look _ _ _ o a s S u q h0 (by first | assumption | omega)) (fun _ q => q) 0 rfl rfl (lw_V q1586 q1588 qs54 q95 q1589) gy_X5_look ⟨Nat.le_of_ble_eq_true rfl, Nat.le_of_ble_eq_true rfl⟩ ⟨Nat.le_of_ble_eq_true rfl, Nat.le_of_ble_eq_true rfl⟩ rfl rfl (Nat.le_of_ble_eq_true rfl) dX5_sum_28 ?_
          refine g_istore_n (lv' := [(0, .ref o), (1, .int (lk s q))]) h dX5_sum_31 (by decide) rfl ?_
          refine g_aload_n h dX5_sum_32 rfl ?_
          refine g_dup h dX5_sum_33 rfl ?_
          refine g_get h in_X5 0 rfl rfl 5 rfl q1379 rfl rfl dX5_sum_34 ?_
          show G X 0 0 (mW (xT X) o a s (paS S u q)) 37 [(0, .ref o), (1, .int (lk s q))] [.int (nI q.1), .ref o]
          refine g_iconst (v := nI 1) h dX5_sum_37 (by decide) ?_
          refine g_iaddN h dX5_sum_38 ?_
          refine g_put (ws' := mW (xT X) o a s (paS S u (adv q))) h hE.1 in_X5 tyX5 tyX5_ok nmX5 0 rfl rfl 5 rfl q1379 rfl rfl rfl rfl rfl rfl dX5_sum_39 rfl ?_
          refine g_aload_n h dX5_sum_42 rfl ?_
          refine g_callVW0 h hE (m5_product_2 _ _ _ o a s S u (adv q) h0 (by first | assumption | omega) (by first | assumption | omega)) 0 rfl rfl (lw_V q1578 q1580 qs52 q95 q1581) gy_X5_product ⟨Nat.le_of_ble_eq_true rfl, Nat.le_of_ble_eq_true rfl⟩ ⟨Nat.le_of_ble_eq_true rfl, Nat.le_of_ble_eq_true rfl⟩ rfl rfl (Nat.le_of_ble_eq_true rfl) dX5_sum_43 (st' := [.int (bI (((pProd (pOne u s 2) s) (adv q)).1))]) rfl (fun _ e43 => ?_)
          subst e43
          show G X 0 0 (mW (xT X) o a s (paS S u (((pProd (pOne u s 2) s) (adv q)).2))) 46 [(0, .ref o), (1, .int (lk s q))] [.int (bI (((pProd (pOne u s 2) s) (adv q)).1))]
          generalize er43 : (pProd (pOne u s 2) s) (adv q) = r43
          refine g_if_neB h 51 dX5_sum_46 (by decide) (fun c46 => ?_) (fun c46 => ?_)
          · skip
            show G X 0 0 (mW (xT X) o a s (paS S u r43.2)) 51 [(0, .ref o), (1, .int (lk s q))] []
            have n0 : OKp s q (true, lay2 3 (lk s q) r43.2) := (by subst er43; exact adv_ok (pProd_ok (pOne_ok u s 2)) 3 (lk s q) hl c46); have n1 := At.ok a1 n0 rfl; have n2 : At s 3 r43.2 := (by subst er43; exact At.ok a2 ((pProd_ok (pOne_ok u s 2)) (adv q) a2.1) c46); have n3 := n2.st h0
            refine g_aload_n h dX5_sum_51 rfl ?_
            refine g_iconst (v := nI 3) h dX5_sum_52 (by decide) ?_
            refine g_iload_n h dX5_sum_53 rfl ?_
            refine g_callVW0 h hE (m5_lays _ _ _ o a s S u r43.2 3 (lk s q) (by first | assumption | omega)) 0 rfl rfl (lw_V q1594 q1596 qs56 q95 q1597) gy_X5_lays ⟨Nat.le_of_ble_eq_true rfl, Nat.le_of_ble_eq_true rfl⟩ ⟨Nat.le_of_ble_eq_true rfl, Nat.le_of_ble_eq_true rfl⟩ rfl rfl (Nat.le_of_ble_eq_true rfl) dX5_sum_54 (st' := []) rfl (fun _ e54 => ?_)
            subst e54
            refine g_goto h 9 dX5_sum_57 (by decide) ?_
            refine g_lv (lv' := [(0, .ref o)]) (lvle_cons rfl (lvle_nil)) ?_
            exact ih_lw (lay2 3 (lk s q) r43.2, m0) (by show m0 < m0 + 1; omega) (by subst er43; exact e0_lw.trans (pR_t hq c46)) n1 (by subst er43; exact mu_ok ((pProd_ok (pOne_ok u s 2)) (adv q) a2.1) hl e2_lw)
          · skip
            show G X 0 0 (mW (xT X) o a s (paS S u r43.2)) 49 [(0, .ref o), (1, .int (lk s q))] []
            have e : (pSum (pOne u s 2) s) p = (false, r43.2) := (by subst er43; exact e0_lw.trans (pR_f hq c46))
            refine g_iconst (v := nI 0) h dX5_sum_49 (by decide) ?_
            exact g_zretWv h hE dX5_sum_50 (by rw [e]; rfl) (paW_eq (by rw [e]))
    exact lw (r1.2, 61) (by subst er1; exact pSum_t c4) a0 (by omega)
  · skip
    show G X 0 0 (mW (xT X) o a s (paS S u r1.2)) 7 [(0, .ref o)] []
    have e : (pSum (pOne u s 2) s) p = (false, r1.2) := (by subst er1; exact pSum_f c4)
    refine g_iconst (v := nI 0) h dX5_sum_7 (by decide) ?_
    exact g_zretWv h hE dX5_sum_8 (by rw [e]; rfl) (paW_eq (by rw [e]))
set_option maxHeartbeats 4000000 in
set_option maxRecDepth 100000 in
theorem m5_compared_2 (l : Launch) (D : va_G) (T : Nat → ClassId) (o : Nat) (a : Nat → Nat) (s : Nat → Int32) (S : Nat → Nat → Int32) (u : Nat) (p : PS) (h0 : Inv s) (h1 : u < 2) (h2 : At s 3 p) : MetW l D T yX5_compared cX5_compared 2 (some .boolean) 16 339 0 0 [.ref o] (mW T o a s (paS S u p)) (fun r_ w_ => r_ = some (.int (bI (((pCmp (pOne u s 2) s) p).1))) ∧ (w_ = mW T o a s (paS S u (((pCmp (pOne u s 2) s) p).2)))) := by
  refine metW (own := RX5) rfl (by decide) rfl (fun X h hl hDx hTx hnm hE => ?_)
  subst hl; subst hDx; subst hTx
  have hnp := h0.npl; have hnt := h0.ntl; have hnq := h0.nql
  have hnc := h0.ncl; have l0 := h2.1; have b0 := h2.2.1; have z0 := h2.2.2; have y0 := h2.st h0
  show G X 0 0 (mW (xT X) o a s (paS S u p)) 0 [(0, .ref o)] []
  refine g_aload_n h dX5_compared_0 rfl ?_
  refine g_callVW0 h hE (m5_sum_2 _ _ _ o a s S u p h0 (by first | assumption | omega) (by first | assumption | omega)) 0 rfl rfl (lw_V q1574 q1576 qs51 q95 q1577) gy_X5_sum ⟨Nat.le_of_ble_eq_true rfl, Nat.le_of_ble_eq_true rfl⟩ ⟨Nat.le_of_ble_eq_true rfl, Nat.le_of_ble_eq_true rfl⟩ rfl rfl (Nat.le_of_ble_eq_true rfl) dX5_compared_1 (st' := [.int (bI (((pSum (pOne u s 2) s) p).1))]) rfl (fun _ e1 => ?_)
  subst e1
  show G X 0 0 (mW (xT X) o a s (paS S u (((pSum (pOne u s 2) s) p).2))) 4 [(0, .ref o)] [.int (bI (((pSum (pOne u s 2) s) p).1))]
  generalize er1 : (pSum (pOne u s 2) s) p = r1
  refine g_if_neB h 9 dX5_compared_4 (by decide) (fun c4 => ?_) (fun c4 => ?_)
  · skip
    show G X 0 0 (mW (xT X) o a s (paS S u r1.2)) 9 [(0, .ref o)] []
    have a1 : At s 3 r1.2 := (by subst er1; exact h2.ok ((pSum_ok (pOne_ok u s 2)) p l0) c4); have l1 := a1.1
    refine g_aload_n h dX5_compared_9 rfl ?_
    refine g_callVR h (m5_look _ _ _ o a s S u r1.2 h0 (by first | assumption | omega)) (fun _ q => q) 0 rfl rfl (lw_V q1586 q1588 qs54 q95 q1589) gy_X5_look ⟨Nat.le_of_ble_eq_true rfl, Nat.le_of_ble_eq_true rfl⟩ ⟨Nat.le_of_ble_eq_true rfl, Nat.le_of_ble_eq_true rfl⟩ rfl rfl (Nat.le_of_ble_eq_true rfl) dX5_compared_10 ?_
    refine g_istore_n (lv' := [(0, .ref o), (1, .int (lk s r1.2))]) h dX5_compared_13 (by decide) rfl ?_
    refine g_iload_n h dX5_compared_14 rfl ?_
    refine g_bipush (v := nI 60) h dX5_compared_15 (by decide) ?_
    refine g_toI (y := 60) rfl ?_
    refine g_icmp_eq h 34 dX5_compared_17 (by decide) (fun c17 => ?_) (fun c17 => ?_)
    · skip
      show G X 0 0 (mW (xT X) o a s (paS S u r1.2)) 34 [(0, .ref o), (1, .int (lk s r1.2))] []
      have hq : isCmp (lk s r1.2) = true := by simp [isCmp, c17]
      have hl := lk_lt (by decide) hq; have a2 := a1.adv hl
      refine g_aload_n h dX5_compared_34 rfl ?_
      refine g_dup h dX5_compared_35 rfl ?_
      refine g_get h in_X5 0 rfl rfl 5 rfl q1379 rfl rfl dX5_compared_36 ?_
      show G X 0 0 (mW (xT X) o a s (paS S u r1.2)) 39 [(0, .ref o), (1, .int (lk s r1.2))] [.int (nI r1.2.1), .ref o]
      refine g_iconst (v := nI 1) h dX5_compared_39 (by decide) ?_
      refine g_iaddN h dX5_compared_40 ?_
      refine g_put (ws' := mW (xT X) o a s (paS S u (adv r1.2))) h hE.1 in_X5 tyX5 tyX5_ok nmX5 0 rfl rfl 5 rfl q1379 rfl rfl rfl rfl rfl rfl dX5_compared_41 rfl ?_
      refine g_aload_n h dX5_compared_44 rfl ?_
      refine g_callVW0 h hE (m5_sum_2 _ _ _ o a s S u (adv r1.2) h0 (by first | assumption | omega) (by first | assumption | omega)) 0 rfl rfl (lw_V q1574 q1576 qs51 q95 q1577) gy_X5_sum ⟨Nat.le_of_ble_eq_true rfl, Nat.le_of_ble_eq_true rfl⟩ ⟨Nat.le_of_ble_eq_true rfl, Nat.le_of_ble_eq_true rfl⟩ rfl rfl (Nat.le_of_ble_eq_true rfl) dX5_compared_45 (st' := [.int (bI (((pSum (pOne u s 2) s) (adv r1.2)).1))]) rfl (fun _ e45 => ?_)
      subst e45
      show G X 0 0 (mW (xT X) o a s (paS S u (((pSum (pOne u s 2) s) (adv r1.2)).2))) 48 [(0, .ref o), (1, .int (lk s r1.2))] [.int (bI (((pSum (pOne u s 2) s) (adv r1.2)).1))]
      generalize er45 : (pSum (pOne u s 2) s) (adv r1.2) = r45
      refine g_if_neB h 53 dX5_compared_48 (by decide) (fun c48 => ?_) (fun c48 => ?_)
      · skip
        show G X 0 0 (mW (xT X) o a s (paS S u r45.2)) 53 [(0, .ref o), (1, .int (lk s r1.2))] []
        have e : (pCmp (pOne u s 2) s) p = (true, lay2 3 (lk s r1.2) r45.2) := (by subst er45; subst er1; exact pCmp_t c4 hq c48); have n2 : At s 3 r45.2 := (by subst er45; exact At.ok a2 ((pSum_ok (pOne_ok u s 2)) (adv r1.2) a2.1) c48); have n3 := n2.st h0
        refine g_aload_n h dX5_compared_53 rfl ?_
        refine g_iconst (v := nI 3) h dX5_compared_54 (by decide) ?_
        refine g_iload_n h dX5_compared_55 rfl ?_
        refine g_callVW0 h hE (m5_lays _ _ _ o a s S u r45.2 3 (lk s r1.2) (by first | assumption | omega)) 0 rfl rfl (lw_V q1594 q1596 qs56 q95 q1597) gy_X5_lays ⟨Nat.le_of_ble_eq_true rfl, Nat.le_of_ble_eq_true rfl⟩ ⟨Nat.le_of_ble_eq_true rfl, Nat.le_of_ble_eq_true rfl⟩ rfl rfl (Nat.le_of_ble_eq_true rfl) dX5_compared_56 (st' := []) rfl (fun _ e56 => ?_)
        subst e56
        refine g_iconst (v := nI 1) h dX5_compared_59 (by decide) ?_
        exact g_zretWv h hE dX5_compared_60 (by rw [e]; rfl) (paW_eq (by rw [e]))
      · skip
        show G X 0 0 (mW (xT X) o a s (paS S u r45.2)) 51 [(0, .ref o), (1, .int (lk s r1.2))] []
        have e : (pCmp (pOne u s 2) s) p = (false, r45.2) := (by subst er45; subst er1; exact pCmp_e c4 hq c48)
        refine g_iconst (v := nI 0) h dX5_compared_51 (by decide) ?_
        exact g_zretWv h hE dX5_compared_52 (by rw [e]; rfl) (paW_eq (by rw [e]))
    · skip
      show G X 0 0 (mW (xT X) o a s (paS S u r1.2)) 20 [(0, .ref o), (1, .int (lk s r1.2))] []
      refine g_iload_n h dX5_compared_20 rfl ?_
      refine g_bipush (v := nI 61) h dX5_compared_21 (by decide) ?_
      refine g_toI (y := 61) rfl ?_
      refine g_icmp_eq h 34 dX5_compared_23 (by decide) (fun c23 => ?_) (fun c23 => ?_)
      · skip
        show G X 0 0 (mW (xT X) o a s (paS S u r1.2)) 34 [(0, .ref o), (1, .int (lk s r1.2))] []
        have hq : isCmp (lk s r1.2) = true := by simp [isCmp, c17, c23]
        have hl := lk_lt (by decide) hq; have a2 := a1.adv hl
        refine g_aload_n h dX5_compared_34 rfl ?_
        refine g_dup h dX5_compared_35 rfl ?_
        refine g_get h in_X5 0 rfl rfl 5 rfl q1379 rfl rfl dX5_compared_36 ?_
        show G X 0 0 (mW (xT X) o a s (paS S u r1.2)) 39 [(0, .ref o), (1, .int (lk s r1.2))] [.int (nI r1.2.1), .ref o]
        refine g_iconst (v := nI 1) h dX5_compared_39 (by decide) ?_
        refine g_iaddN h dX5_compared_40 ?_
        refine g_put (ws' := mW (xT X) o a s (paS S u (adv r1.2))) h hE.1 in_X5 tyX5 tyX5_ok nmX5 0 rfl rfl 5 rfl q1379 rfl rfl rfl rfl rfl rfl dX5_compared_41 rfl ?_
        refine g_aload_n h dX5_compared_44 rfl ?_
        refine g_callVW0 h hE (m5_sum_2 _ _ _ o a s S u (adv r1.2) h0 (by first | assumption | omega) (by first | assumption | omega)) 0 rfl rfl (lw_V q1574 q1576 qs51 q95 q1577) gy_X5_sum ⟨Nat.le_of_ble_eq_true rfl, Nat.le_of_ble_eq_true rfl⟩ ⟨Nat.le_of_ble_eq_true rfl, Nat.le_of_ble_eq_true rfl⟩ rfl rfl (Nat.le_of_ble_eq_true rfl) dX5_compared_45 (st' := [.int (bI (((pSum (pOne u s 2) s) (adv r1.2)).1))]) rfl (fun _ e45 => ?_)
        subst e45
        show G X 0 0 (mW (xT X) o a s (paS S u (((pSum (pOne u s 2) s) (adv r1.2)).2))) 48 [(0, .ref o), (1, .int (lk s r1.2))] [.int (bI (((pSum (pOne u s 2) s) (adv r1.2)).1))]
        generalize er45 : (pSum (pOne u s 2) s) (adv r1.2) = r45
        refine g_if_neB h 53 dX5_compared_48 (by decide) (fun c48 => ?_) (fun c48 => ?_)
        · skip
          show G X 0 0 (mW (xT X) o a s (paS S u r45.2)) 53 [(0, .ref o), (1, .int (lk s r1.2))] []
          have e : (pCmp (pOne u s 2) s) p = (true, lay2 3 (lk s r1.2) r45.2) := (by subst er45; subst er1; exact pCmp_t c4 hq c48); have n2 : At s 3 r45.2 := (by subst er45; exact At.ok a2 ((pSum_ok (pOne_ok u s 2)) (adv r1.2) a2.1) c48); have n3 := n2.st h0
          refine g_aload_n h dX5_compared_53 rfl ?_
          refine g_iconst (v := nI 3) h dX5_compared_54 (by decide) ?_
          refine g_iload_n h dX5_compared_55 rfl ?_
          refine g_callVW0 h hE (m5_lays _ _ _ o a s S u r45.2 3 (lk s r1.2) (by first | assumption | omega)) 0 rfl rfl (lw_V q1594 q1596 qs56 q95 q1597) gy_X5_lays ⟨Nat.le_of_ble_eq_true rfl, Nat.le_of_ble_eq_true rfl⟩ ⟨Nat.le_of_ble_eq_true rfl, Nat.le_of_ble_eq_true rfl⟩ rfl rfl (Nat.le_of_ble_eq_true rfl) dX5_compared_56 (st' := []) rfl (fun _ e56 => ?_)
          subst e56
          refine g_iconst (v := nI 1) h dX5_compared_59 (by decide) ?_
          exact g_zretWv h hE dX5_compared_60 (by rw [e]; rfl) (paW_eq (by rw [e]))
        · skip
          show G X 0 0 (mW (xT X) o a s (paS S u r45.2)) 51 [(0, .ref o), (1, .int (lk s r1.2))] []
          have e : (pCmp (pOne u s 2) s) p = (false, r45.2) := (by subst er45; subst er1; exact pCmp_e c4 hq c48)
          refine g_iconst (v := nI 0) h dX5_compared_51 (by decide) ?_
          exact g_zretWv h hE dX5_compared_52 (by rw [e]; rfl) (paW_eq (by rw [e]))
      · skip
        show G X 0 0 (mW (xT X) o a s (paS S u r1.2)) 26 [(0, .ref o), (1, .int (lk s r1.2))] []
        refine g_iload_n h dX5_compared_26 rfl ?_
        refine g_bipush (v := nI 62) h dX5_compared_27 (by decide) ?_
        refine g_toI (y := 62) rfl ?_
        refine g_icmp_eq h 34 dX5_compared_29 (by decide) (fun c29 => ?_) (fun c29 => ?_)
        · skip
          show G X 0 0 (mW (xT X) o a s (paS S u r1.2)) 34 [(0, .ref o), (1, .int (lk s r1.2))] []
          have hq : isCmp (lk s r1.2) = true := by simp [isCmp, c17, c23, c29]
          have hl := lk_lt (by decide) hq; have a2 := a1.adv hl
          refine g_aload_n h dX5_compared_34 rfl ?_
          refine g_dup h dX5_compared_35 rfl ?_
          refine g_get h in_X5 0 rfl rfl 5 rfl q1379 rfl rfl dX5_compared_36 ?_
          show G X 0 0 (mW (xT X) o a s (paS S u r1.2)) 39 [(0, .ref o), (1, .int (lk s r1.2))] [.int (nI r1.2.1), .ref o]
          refine g_iconst (v := nI 1) h dX5_compared_39 (by decide) ?_
          refine g_iaddN h dX5_compared_40 ?_
          refine g_put (ws' := mW (xT X) o a s (paS S u (adv r1.2))) h hE.1 in_X5 tyX5 tyX5_ok nmX5 0 rfl rfl 5 rfl q1379 rfl rfl rfl rfl rfl rfl dX5_compared_41 rfl ?_
          refine g_aload_n h dX5_compared_44 rfl ?_
          refine g_callVW0 h hE (m5_sum_2 _ _ _ o a s S u (adv r1.2) h0 (by first | assumption | omega) (by first | assumption | omega)) 0 rfl rfl (lw_V q1574 q1576 qs51 q95 q1577) gy_X5_sum ⟨Nat.le_of_ble_eq_true rfl, Nat.le_of_ble_eq_true rfl⟩ ⟨Nat.le_of_ble_eq_true rfl, Nat.le_of_ble_eq_true rfl⟩ rfl rfl (Nat.le_of_ble_eq_true rfl) dX5_compared_45 (st' := [.int (bI (((pSum (pOne u s 2) s) (adv r1.2)).1))]) rfl (fun _ e45 => ?_)
          subst e45
          show G X 0 0 (mW (xT X) o a s (paS S u (((pSum (pOne u s 2) s) (adv r1.2)).2))) 48 [(0, .ref o), (1, .int (lk s r1.2))] [.int (bI (((pSum (pOne u s 2) s) (adv r1.2)).1))]
          generalize er45 : (pSum (pOne u s 2) s) (adv r1.2) = r45
          refine g_if_neB h 53 dX5_compared_48 (by decide) (fun c48 => ?_) (fun c48 => ?_)
          · skip
            show G X 0 0 (mW (xT X) o a s (paS S u r45.2)) 53 [(0, .ref o), (1, .int (lk s r1.2))] []
            have e : (pCmp (pOne u s 2) s) p = (true, lay2 3 (lk s r1.2) r45.2) := (by subst er45; subst er1; exact pCmp_t c4 hq c48); have n2 : At s 3 r45.2 := (by subst er45; exact At.ok a2 ((pSum_ok (pOne_ok u s 2)) (adv r1.2) a2.1) c48); have n3 := n2.st h0
            refine g_aload_n h dX5_compared_53 rfl ?_
            refine g_iconst (v := nI 3) h dX5_compared_54 (by decide) ?_
            refine g_iload_n h dX5_compared_55 rfl ?_
            refine g_callVW0 h hE (m5_lays _ _ _ o a s S u r45.2 3 (lk s r1.2) (by first | assumption | omega)) 0 rfl rfl (lw_V q1594 q1596 qs56 q95 q1597) gy_X5_lays ⟨Nat.le_of_ble_eq_true rfl, Nat.le_of_ble_eq_true rfl⟩ ⟨Nat.le_of_ble_eq_true rfl, Nat.le_of_ble_eq_true rfl⟩ rfl rfl (Nat.le_of_ble_eq_true rfl) dX5_compared_56 (st' := []) rfl (fun _ e56 => ?_)
            subst e56
            refine g_iconst (v := nI 1) h dX5_compared_59 (by decide) ?_
            exact g_zretWv h hE dX5_compared_60 (by rw [e]; rfl) (paW_eq (by rw [e]))
          · skip
            show G X 0 0 (mW (xT X) o a s (paS S u r45.2)) 51 [(0, .ref o), (1, .int (lk s r1.2))] []
            have e : (pCmp (pOne u s 2) s) p = (false, r45.2) := (by subst er45; subst er1; exact pCmp_e c4 hq c48)
            refine g_iconst (v := nI 0) h dX5_compared_51 (by decide) ?_
            exact g_zretWv h hE dX5_compared_52 (by rw [e]; rfl) (paW_eq (by rw [e]))
        · skip
          show G X 0 0 (mW (xT X) o a s (paS S u r1.2)) 32 [(0, .ref o), (1, .int (lk s r1.2))] []
          have hq : isCmp (lk s r1.2) = false := by simp [isCmp, c17, c23, c29]
          have e : (pCmp (pOne u s 2) s) p = (true, r1.2) := (by subst er1; exact pCmp_n c4 hq)
          refine g_iconst (v := nI 1) h dX5_compared_32 (by decide) ?_
          exact g_zretWv h hE dX5_compared_33 (by rw [e]; rfl) (paW_eq (by rw [e]))
  · skip
    show G X 0 0 (mW (xT X) o a s (paS S u r1.2)) 7 [(0, .ref o)] []
    have e : (pCmp (pOne u s 2) s) p = (false, r1.2) := (by subst er1; exact pCmp_f c4)
    refine g_iconst (v := nI 0) h dX5_compared_7 (by decide) ?_
    exact g_zretWv h hE dX5_compared_8 (by rw [e]; rfl) (paW_eq (by rw [e]))
set_option maxHeartbeats 4000000 in
set_option maxRecDepth 100000 in
theorem m5_both_2 (l : Launch) (D : va_G) (T : Nat → ClassId) (o : Nat) (a : Nat → Nat) (s : Nat → Int32) (S : Nat → Nat → Int32) (u : Nat) (p : PS) (h0 : Inv s) (h1 : u < 2) (h2 : At s 3 p) : MetW l D T yX5_both cX5_both 1 (some .boolean) 17 360 0 0 [.ref o] (mW T o a s (paS S u p)) (fun r_ w_ => r_ = some (.int (bI (((pBoth (pOne u s 2) s) p).1))) ∧ (w_ = mW T o a s (paS S u (((pBoth (pOne u s 2) s) p).2)))) := by
  refine metW (own := RX5) rfl (by decide) rfl (fun X h hl hDx hTx hnm hE => ?_)
  subst hl; subst hDx; subst hTx
  have hnp := h0.npl; have hnt := h0.ntl; have hnq := h0.nql
  have hnc := h0.ncl; have l0 := h2.1; have b0 := h2.2.1; have z0 := h2.2.2; have y0 := h2.st h0
  show G X 0 0 (mW (xT X) o a s (paS S u p)) 0 [(0, .ref o)] []
  refine g_aload_n h dX5_both_0 rfl ?_
  refine g_callVW0 h hE (m5_compared_2 _ _ _ o a s S u p h0 (by first | assumption | omega) (by first | assumption | omega)) 0 rfl rfl (lw_V q1570 q1572 qs50 q95 q1573) gy_X5_compared ⟨Nat.le_of_ble_eq_true rfl, Nat.le_of_ble_eq_true rfl⟩ ⟨Nat.le_of_ble_eq_true rfl, Nat.le_of_ble_eq_true rfl⟩ rfl rfl (Nat.le_of_ble_eq_true rfl) dX5_both_1 (st' := [.int (bI (((pCmp (pOne u s 2) s) p).1))]) rfl (fun _ e1 => ?_)
  subst e1
  show G X 0 0 (mW (xT X) o a s (paS S u (((pCmp (pOne u s 2) s) p).2))) 4 [(0, .ref o)] [.int (bI (((pCmp (pOne u s 2) s) p).1))]
  generalize er1 : (pCmp (pOne u s 2) s) p = r1
  refine g_if_neB h 9 dX5_both_4 (by decide) (fun c4 => ?_) (fun c4 => ?_)
  · skip
    show G X 0 0 (mW (xT X) o a s (paS S u r1.2)) 9 [(0, .ref o)] []
    have a0 : At s 3 r1.2 := (by subst er1; exact h2.ok ((pCmp_ok (pOne_ok u s 2)) p l0) c4); have l1 := a0.1
    have lw : ∀ q_ : (PS) × (Nat), (match q_ with | (q, m) => ((pBoth (pOne u s 2) s) p = pR (pCmp (pOne u s 2) s) s isAnd m q) → (At s 3 q) → (nC s - q.1 < m) → G X 0 0 (mW (xT X) o a s (paS S u q)) 9 [(0, .ref o)] []) := by
      refine g_rec (fun q_ => match q_ with | (q, m) => m) ?_
      rintro ⟨q, m⟩ ih_lw e0_lw e1_lw e2_lw
      skip
      have a1 := e1_lw; have l2 := a1.1; have y2 := a1.st h0
      refine g_aload_n h dX5_both_9 rfl ?_
      refine g_callVR h (m5_look _ _ _ o a s S u q h0 (by first | assumption | omega)) (fun _ q => q) 0 rfl rfl (lw_V q1586 q1588 qs54 q95 q1589) gy_X5_look ⟨Nat.le_of_ble_eq_true rfl, Nat.le_of_ble_eq_true rfl⟩ ⟨Nat.le_of_ble_eq_true rfl, Nat.le_of_ble_eq_true rfl⟩ rfl rfl (Nat.le_of_ble_eq_true rfl) dX5_both_10 ?_
      refine g_bipush (v := nI 38) h dX5_both_13 (by decide) ?_
      refine g_toI (y := 38) rfl ?_
      refine g_icmp_ne h 47 dX5_both_15 (by decide) (fun c15 => ?_) (fun c15 => ?_)
      · skip
        show G X 0 0 (mW (xT X) o a s (paS S u q)) 47 [(0, .ref o)] []
        have hq : isAnd (lk s q) = false := by simp [isAnd, c15]
        have e : (pBoth (pOne u s 2) s) p = (true, q) := e0_lw.trans (pR_n hq)
        refine g_iconst (v := nI 1) h dX5_both_47 (by decide) ?_
        exact g_zretWv h hE dX5_both_48 (by rw [e]; rfl) (paW_eq (by rw [e]))
      · skip
        show G X 0 0 (mW (xT X) o a s (paS S u q)) 18 [(0, .ref o)] []
        have hq : isAnd (lk s q) = true := by simp [isAnd, c15]
        have hl := lk_lt (by decide) hq; obtain ⟨m0, rfl⟩ : ∃ k, m = k + 1 := ⟨m - 1, by omega⟩; have a2 := a1.adv hl
        refine g_aload_n h dX5_both_18 rfl ?_
        refine g_dup h dX5_both_19 rfl ?_
        refine g_get h in_X5 0 rfl rfl 5 rfl q1379 rfl rfl dX5_both_20 ?_
        show G X 0 0 (mW (xT X) o a s (paS S u q)) 23 [(0, .ref o)] [.int (nI q.1), .ref o]
        refine g_iconst (v := nI 1) h dX5_both_23 (by decide) ?_
        refine g_iaddN h dX5_both_24 ?_
        refine g_put (ws' := mW (xT X) o a s (paS S u (adv q))) h hE.1 in_X5 tyX5 tyX5_ok nmX5 0 rfl rfl 5 rfl q1379 rfl rfl rfl rfl rfl rfl dX5_both_25 rfl ?_
        refine g_aload_n h dX5_both_28 rfl ?_
        refine g_callVW0 h hE (m5_compared_2 _ _ _ o a s S u (adv q) h0 (by first | assumption | omega) (by first | assumption | omega)) 0 rfl rfl (lw_V q1570 q1572 qs50 q95 q1573) gy_X5_compared ⟨Nat.le_of_ble_eq_true rfl, Nat.le_of_ble_eq_true rfl⟩ ⟨Nat.le_of_ble_eq_true rfl, Nat.le_of_ble_eq_true rfl⟩ rfl rfl (Nat.le_of_ble_eq_true rfl) dX5_both_29 (st' := [.int (bI (((pCmp (pOne u s 2) s) (adv q)).1))]) rfl (fun _ e29 => ?_)
        subst e29
        show G X 0 0 (mW (xT X) o a s (paS S u (((pCmp (pOne u s 2) s) (adv q)).2))) 32 [(0, .ref o)] [.int (bI (((pCmp (pOne u s 2) s) (adv q)).1))]
        generalize er29 : (pCmp (pOne u s 2) s) (adv q) = r29
        refine g_if_neB h 37 dX5_both_32 (by decide) (fun c32 => ?_) (fun c32 => ?_)
        · skip
          show G X 0 0 (mW (xT X) o a s (paS S u r29.2)) 37 [(0, .ref o)] []
          have n0 : OKp s q (true, lay2 3 (lk s q) r29.2) := (by subst er29; exact adv_ok (pCmp_ok (pOne_ok u s 2)) 3 (lk s q) hl c32); have n1 := At.ok a1 n0 rfl; have n2 : At s 3 r29.2 := (by subst er29; exact At.ok a2 ((pCmp_ok (pOne_ok u s 2)) (adv q) a2.1) c32); have n3 := n2.st h0
          refine g_aload_n h dX5_both_37 rfl ?_
          refine g_iconst (v := nI 3) h dX5_both_38 (by decide) ?_
          refine g_bipush (v := nI 38) h dX5_both_39 (by decide) ?_
          refine g_toI (y := lk s q) c15.symm ?_
          refine g_callVW0 h hE (m5_lays _ _ _ o a s S u r29.2 3 (lk s q) (by first | assumption | omega)) 0 rfl rfl (lw_V q1594 q1596 qs56 q95 q1597) gy_X5_lays ⟨Nat.le_of_ble_eq_true rfl, Nat.le_of_ble_eq_true rfl⟩ ⟨Nat.le_of_ble_eq_true rfl, Nat.le_of_ble_eq_true rfl⟩ rfl rfl (Nat.le_of_ble_eq_true rfl) dX5_both_41 (st' := []) rfl (fun _ e41 => ?_)
          subst e41
          refine g_goto h 9 dX5_both_44 (by decide) ?_
          exact ih_lw (lay2 3 (lk s q) r29.2, m0) (by show m0 < m0 + 1; omega) (by subst er29; exact e0_lw.trans (pR_t hq c32)) n1 (by subst er29; exact mu_ok ((pCmp_ok (pOne_ok u s 2)) (adv q) a2.1) hl e2_lw)
        · skip
          show G X 0 0 (mW (xT X) o a s (paS S u r29.2)) 35 [(0, .ref o)] []
          have e : (pBoth (pOne u s 2) s) p = (false, r29.2) := (by subst er29; exact e0_lw.trans (pR_f hq c32))
          refine g_iconst (v := nI 0) h dX5_both_35 (by decide) ?_
          exact g_zretWv h hE dX5_both_36 (by rw [e]; rfl) (paW_eq (by rw [e]))
    exact lw (r1.2, 61) (by subst er1; exact pBoth_t c4) a0 (by omega)
  · skip
    show G X 0 0 (mW (xT X) o a s (paS S u r1.2)) 7 [(0, .ref o)] []
    have e : (pBoth (pOne u s 2) s) p = (false, r1.2) := (by subst er1; exact pBoth_f c4)
    refine g_iconst (v := nI 0) h dX5_both_7 (by decide) ?_
    exact g_zretWv h hE dX5_both_8 (by rw [e]; rfl) (paW_eq (by rw [e]))
set_option maxHeartbeats 4000000 in
set_option maxRecDepth 100000 in
theorem m5_whole_2 (l : Launch) (D : va_G) (T : Nat → ClassId) (o : Nat) (a : Nat → Nat) (s : Nat → Int32) (S : Nat → Nat → Int32) (u : Nat) (p : PS) (h0 : Inv s) (h1 : u < 2) (h2 : At s 3 p) : MetW l D T yX5_whole cX5_whole 1 (some .boolean) 18 380 0 0 [.ref o] (mW T o a s (paS S u p)) (fun r_ w_ => r_ = some (.int (bI (((pWhole (pOne u s 2) s) p).1))) ∧ (w_ = mW T o a s (paS S u (((pWhole (pOne u s 2) s) p).2)))) := by
  refine metW (own := RX5) rfl (by decide) rfl (fun X h hl hDx hTx hnm hE => ?_)
  subst hl; subst hDx; subst hTx
  have hnp := h0.npl; have hnt := h0.ntl; have hnq := h0.nql
  have hnc := h0.ncl; have l0 := h2.1; have b0 := h2.2.1; have z0 := h2.2.2; have y0 := h2.st h0
  show G X 0 0 (mW (xT X) o a s (paS S u p)) 0 [(0, .ref o)] []
  refine g_aload_n h dX5_whole_0 rfl ?_
  refine g_callVW0 h hE (m5_both_2 _ _ _ o a s S u p h0 (by first | assumption | omega) (by first | assumption | omega)) 0 rfl rfl (lw_V q1566 q1568 qs49 q95 q1569) gy_X5_both ⟨Nat.le_of_ble_eq_true rfl, Nat.le_of_ble_eq_true rfl⟩ ⟨Nat.le_of_ble_eq_true rfl, Nat.le_of_ble_eq_true rfl⟩ rfl rfl (Nat.le_of_ble_eq_true rfl) dX5_whole_1 (st' := [.int (bI (((pBoth (pOne u s 2) s) p).1))]) rfl (fun _ e1 => ?_)
  subst e1
  show G X 0 0 (mW (xT X) o a s (paS S u (((pBoth (pOne u s 2) s) p).2))) 4 [(0, .ref o)] [.int (bI (((pBoth (pOne u s 2) s) p).1))]
  generalize er1 : (pBoth (pOne u s 2) s) p = r1
  refine g_if_neB h 9 dX5_whole_4 (by decide) (fun c4 => ?_) (fun c4 => ?_)
  · skip
    show G X 0 0 (mW (xT X) o a s (paS S u r1.2)) 9 [(0, .ref o)] []
    have a0 : At s 3 r1.2 := (by subst er1; exact h2.ok ((pBoth_ok (pOne_ok u s 2)) p l0) c4); have l1 := a0.1
    have lw : ∀ q_ : (PS) × (Nat), (match q_ with | (q, m) => ((pWhole (pOne u s 2) s) p = pR (pBoth (pOne u s 2) s) s isOr m q) → (At s 3 q) → (nC s - q.1 < m) → G X 0 0 (mW (xT X) o a s (paS S u q)) 9 [(0, .ref o)] []) := by
      refine g_rec (fun q_ => match q_ with | (q, m) => m) ?_
      rintro ⟨q, m⟩ ih_lw e0_lw e1_lw e2_lw
      skip
      have a1 := e1_lw; have l2 := a1.1; have y2 := a1.st h0
      refine g_aload_n h dX5_whole_9 rfl ?_
      refine g_callVR h (m5_look _ _ _ o a s S u q h0 (by first | assumption | omega)) (fun _ q => q) 0 rfl rfl (lw_V q1586 q1588 qs54 q95 q1589) gy_X5_look ⟨Nat.le_of_ble_eq_true rfl, Nat.le_of_ble_eq_true rfl⟩ ⟨Nat.le_of_ble_eq_true rfl, Nat.le_of_ble_eq_true rfl⟩ rfl rfl (Nat.le_of_ble_eq_true rfl) dX5_whole_10 ?_
      refine g_bipush (v := nI 124) h dX5_whole_13 (by decide) ?_
      refine g_toI (y := 124) rfl ?_
      refine g_icmp_ne h 47 dX5_whole_15 (by decide) (fun c15 => ?_) (fun c15 => ?_)
      · skip
        show G X 0 0 (mW (xT X) o a s (paS S u q)) 47 [(0, .ref o)] []
        have hq : isOr (lk s q) = false := by simp [isOr, c15]
        have e : (pWhole (pOne u s 2) s) p = (true, q) := e0_lw.trans (pR_n hq)
        refine g_iconst (v := nI 1) h dX5_whole_47 (by decide) ?_
        exact g_zretWv h hE dX5_whole_48 (by rw [e]; rfl) (paW_eq (by rw [e]))
      · skip
        show G X 0 0 (mW (xT X) o a s (paS S u q)) 18 [(0, .ref o)] []
        have hq : isOr (lk s q) = true := by simp [isOr, c15]
        have hl := lk_lt (by decide) hq; obtain ⟨m0, rfl⟩ : ∃ k, m = k + 1 := ⟨m - 1, by omega⟩; have a2 := a1.adv hl
        refine g_aload_n h dX5_whole_18 rfl ?_
        refine g_dup h dX5_whole_19 rfl ?_
        refine g_get h in_X5 0 rfl rfl 5 rfl q1379 rfl rfl dX5_whole_20 ?_
        show G X 0 0 (mW (xT X) o a s (paS S u q)) 23 [(0, .ref o)] [.int (nI q.1), .ref o]
        refine g_iconst (v := nI 1) h dX5_whole_23 (by decide) ?_
        refine g_iaddN h dX5_whole_24 ?_
        refine g_put (ws' := mW (xT X) o a s (paS S u (adv q))) h hE.1 in_X5 tyX5 tyX5_ok nmX5 0 rfl rfl 5 rfl q1379 rfl rfl rfl rfl rfl rfl dX5_whole_25 rfl ?_
        refine g_aload_n h dX5_whole_28 rfl ?_
        refine g_callVW0 h hE (m5_both_2 _ _ _ o a s S u (adv q) h0 (by first | assumption | omega) (by first | assumption | omega)) 0 rfl rfl (lw_V q1566 q1568 qs49 q95 q1569) gy_X5_both ⟨Nat.le_of_ble_eq_true rfl, Nat.le_of_ble_eq_true rfl⟩ ⟨Nat.le_of_ble_eq_true rfl, Nat.le_of_ble_eq_true rfl⟩ rfl rfl (Nat.le_of_ble_eq_true rfl) dX5_whole_29 (st' := [.int (bI (((pBoth (pOne u s 2) s) (adv q)).1))]) rfl (fun _ e29 => ?_)
        subst e29
        show G X 0 0 (mW (xT X) o a s (paS S u (((pBoth (pOne u s 2) s) (adv q)).2))) 32 [(0, .ref o)] [.int (bI (((pBoth (pOne u s 2) s) (adv q)).1))]
        generalize er29 : (pBoth (pOne u s 2) s) (adv q) = r29
        refine g_if_neB h 37 dX5_whole_32 (by decide) (fun c32 => ?_) (fun c32 => ?_)
        · skip
          show G X 0 0 (mW (xT X) o a s (paS S u r29.2)) 37 [(0, .ref o)] []
          have n0 : OKp s q (true, lay2 3 (lk s q) r29.2) := (by subst er29; exact adv_ok (pBoth_ok (pOne_ok u s 2)) 3 (lk s q) hl c32); have n1 := At.ok a1 n0 rfl; have n2 : At s 3 r29.2 := (by subst er29; exact At.ok a2 ((pBoth_ok (pOne_ok u s 2)) (adv q) a2.1) c32); have n3 := n2.st h0
          refine g_aload_n h dX5_whole_37 rfl ?_
          refine g_iconst (v := nI 3) h dX5_whole_38 (by decide) ?_
          refine g_bipush (v := nI 124) h dX5_whole_39 (by decide) ?_
          refine g_toI (y := lk s q) c15.symm ?_
          refine g_callVW0 h hE (m5_lays _ _ _ o a s S u r29.2 3 (lk s q) (by first | assumption | omega)) 0 rfl rfl (lw_V q1594 q1596 qs56 q95 q1597) gy_X5_lays ⟨Nat.le_of_ble_eq_true rfl, Nat.le_of_ble_eq_true rfl⟩ ⟨Nat.le_of_ble_eq_true rfl, Nat.le_of_ble_eq_true rfl⟩ rfl rfl (Nat.le_of_ble_eq_true rfl) dX5_whole_41 (st' := []) rfl (fun _ e41 => ?_)
          subst e41
          refine g_goto h 9 dX5_whole_44 (by decide) ?_
          exact ih_lw (lay2 3 (lk s q) r29.2, m0) (by show m0 < m0 + 1; omega) (by subst er29; exact e0_lw.trans (pR_t hq c32)) n1 (by subst er29; exact mu_ok ((pBoth_ok (pOne_ok u s 2)) (adv q) a2.1) hl e2_lw)
        · skip
          show G X 0 0 (mW (xT X) o a s (paS S u r29.2)) 35 [(0, .ref o)] []
          have e : (pWhole (pOne u s 2) s) p = (false, r29.2) := (by subst er29; exact e0_lw.trans (pR_f hq c32))
          refine g_iconst (v := nI 0) h dX5_whole_35 (by decide) ?_
          exact g_zretWv h hE dX5_whole_36 (by rw [e]; rfl) (paW_eq (by rw [e]))
    exact lw (r1.2, 61) (by subst er1; exact pWhole_t c4) a0 (by omega)
  · skip
    show G X 0 0 (mW (xT X) o a s (paS S u r1.2)) 7 [(0, .ref o)] []
    have e : (pWhole (pOne u s 2) s) p = (false, r1.2) := (by subst er1; exact pWhole_f c4)
    refine g_iconst (v := nI 0) h dX5_whole_7 (by decide) ?_
    exact g_zretWv h hE dX5_whole_8 (by rw [e]; rfl) (paW_eq (by rw [e]))
set_option maxHeartbeats 4000000 in
set_option maxRecDepth 100000 in
theorem m5_one_3 (l : Launch) (D : va_G) (T : Nat → ClassId) (o : Nat) (a : Nat → Nat) (s : Nat → Int32) (S : Nat → Nat → Int32) (u : Nat) (p : PS) (h0 : Inv s) (h1 : u < 2) (h2 : At s 2 p) : MetW l D T yX5_one cX5_one 4 (some .boolean) 19 400 0 0 [.ref o] (mW T o a s (paS S u p)) (fun r_ w_ => r_ = some (.int (bI (((pOne u s 3) p).1))) ∧ (w_ = mW T o a s (paS S u (((pOne u s 3) p).2)))) := by
  refine metW (own := RX5) rfl (by decide) rfl (fun X h hl hDx hTx hnm hE => ?_)
  subst hl; subst hDx; subst hTx
  have hnp := h0.npl; have hnt := h0.ntl; have hnq := h0.nql
  have hnc := h0.ncl; have l0 := h2.1; have b0 := h2.2.1; have z0 := h2.2.2; have y0 := h2.st h0
  show G X 0 0 (mW (xT X) o a s (paS S u p)) 0 [(0, .ref o)] []
  refine g_aload_n h dX5_one_0 rfl ?_
  refine g_callVR h (m5_look _ _ _ o a s S u p h0 (by first | assumption | omega)) (fun _ q => q) 0 rfl rfl (lw_V q1586 q1588 qs54 q95 q1589) gy_X5_look ⟨Nat.le_of_ble_eq_true rfl, Nat.le_of_ble_eq_true rfl⟩ ⟨Nat.le_of_ble_eq_true rfl, Nat.le_of_ble_eq_true rfl⟩ rfl rfl (Nat.le_of_ble_eq_true rfl) dX5_one_1 ?_
  refine g_istore_n (lv' := [(0, .ref o), (1, .int (lk s p))]) h dX5_one_4 (by decide) rfl ?_
  refine g_aload_n h dX5_one_5 rfl ?_
  refine g_iload_n h dX5_one_6 rfl ?_
  refine g_callVR h (m5_isName _ _ _ o a s S u p (lk s p) (by first | assumption | omega)) (fun _ q => q) 0 rfl rfl (lw_V q1590 q1592 qs55 q95 q1593) gy_X5_isName ⟨Nat.le_of_ble_eq_true rfl, Nat.le_of_ble_eq_true rfl⟩ ⟨Nat.le_of_ble_eq_true rfl, Nat.le_of_ble_eq_true rfl⟩ rfl rfl (Nat.le_of_ble_eq_true rfl) dX5_one_7 ?_
  refine g_if_eqB h 31 dX5_one_10 (by decide) (fun c10 => ?_) (fun c10 => ?_)
  · skip
    show G X 0 0 (mW (xT X) o a s (paS S u p)) 31 [(0, .ref o), (1, .int (lk s p))] []
    refine g_iload_n h dX5_one_31 rfl ?_
    refine g_bipush (v := nI 48) h dX5_one_32 (by decide) ?_
    refine g_bipush (v := nI 57) h dX5_one_34 (by decide) ?_
    refine g_callSR h (m5_in _ _ _ (lk s p) 48 57 ) (fun _ q => nomatch q) (lw_S q1439 q1440 q95 q1441) gy_X5_in ⟨Nat.le_of_ble_eq_true rfl, Nat.le_of_ble_eq_true rfl⟩ ⟨Nat.le_of_ble_eq_true rfl, Nat.le_of_ble_eq_true rfl⟩ rfl rfl (Nat.le_of_ble_eq_true rfl) dX5_one_36 ?_
    refine g_if_eqB h 102 dX5_one_39 (by decide) (fun c39 => ?_) (fun c39 => ?_)
    · skip
      show G X 0 0 (mW (xT X) o a s (paS S u p)) 102 [(0, .ref o), (1, .int (lk s p))] []
      refine g_iload_n h dX5_one_102 rfl ?_
      refine g_bipush (v := nI 33) h dX5_one_103 (by decide) ?_
      refine g_toI (y := 33) rfl ?_
      refine g_icmp_ne h 142 dX5_one_105 (by decide) (fun c105 => ?_) (fun c105 => ?_)
      · skip
        show G X 0 0 (mW (xT X) o a s (paS S u p)) 142 [(0, .ref o), (1, .int (lk s p))] []
        refine g_iload_n h dX5_one_142 rfl ?_
        refine g_bipush (v := nI 40) h dX5_one_143 (by decide) ?_
        refine g_toI (y := 40) rfl ?_
        refine g_icmp_ne h 171 dX5_one_145 (by decide) (fun c145 => ?_) (fun c145 => ?_)
        · skip
          show G X 0 0 (mW (xT X) o a s (paS S u p)) 171 [(0, .ref o), (1, .int (lk s p))] []
          have e : (pOne u s 3) p = (false, p) := pOne_xn c10 c39 c105 c145
          refine g_iconst (v := nI 0) h dX5_one_171 (by decide) ?_
          exact g_zretWv h hE dX5_one_172 (by rw [e]; rfl) (paW_eq (by rw [e]))
        · skip
          show G X 0 0 (mW (xT X) o a s (paS S u p)) 148 [(0, .ref o), (1, .int (lk s p))] []
          have hl : p.1 < nC s := lk_lt (Q := fun z => decide (z = 40)) (by decide) (decide_eq_true c145); have z1 : p.2.1 < 5 := (by omega); have a2 := h2.opn hl
          refine g_aload_n h dX5_one_148 rfl ?_
          refine g_callVW0 h hE (m5_opens_1 _ _ _ o a s S u p (by first | assumption | omega)) 0 rfl rfl (lw_V q1598 q1600 qs57 q95 q1601) gy_X5_opens ⟨Nat.le_of_ble_eq_true rfl, Nat.le_of_ble_eq_true rfl⟩ ⟨Nat.le_of_ble_eq_true rfl, Nat.le_of_ble_eq_true rfl⟩ rfl rfl (Nat.le_of_ble_eq_true rfl) dX5_one_149 (st' := [.int (bI true)]) rfl (fun _ e149 => ?_)
          subst e149
          refine g_if_eqB h 171 dX5_one_152 (by decide) (fun c152 => ?_) (fun c152 => ?_)
          · skip
            show G X 0 0 (mW (xT X) o a s (paS S u (opn p))) 171 [(0, .ref o), (1, .int (lk s p))] []
            exact absurd c152 (by decide)
          · skip
            show G X 0 0 (mW (xT X) o a s (paS S u (opn p))) 155 [(0, .ref o), (1, .int (lk s p))] []
            refine g_aload_n h dX5_one_155 rfl ?_
            refine g_callVW0 h hE (m5_whole_2 _ _ _ o a s S u (opn p) h0 (by first | assumption | omega) (by first | assumption | omega)) 0 rfl rfl (lw_V q1562 q1564 qs48 q95 q1565) gy_X5_whole ⟨Nat.le_of_ble_eq_true rfl, Nat.le_of_ble_eq_true rfl⟩ ⟨Nat.le_of_ble_eq_true rfl, Nat.le_of_ble_eq_true rfl⟩ rfl rfl (Nat.le_of_ble_eq_true rfl) dX5_one_156 (st' := [.int (bI (((pWhole (pOne u s 2) s) (opn p)).1))]) rfl (fun _ e156 => ?_)
            subst e156
            show G X 0 0 (mW (xT X) o a s (paS S u (((pWhole (pOne u s 2) s) (opn p)).2))) 159 [(0, .ref o), (1, .int (lk s p))] [.int (bI (((pWhole (pOne u s 2) s) (opn p)).1))]
            generalize er156 : (pWhole (pOne u s 2) s) (opn p) = r156
            refine g_if_eqB h 171 dX5_one_159 (by decide) (fun c159 => ?_) (fun c159 => ?_)
            · skip
              show G X 0 0 (mW (xT X) o a s (paS S u r156.2)) 171 [(0, .ref o), (1, .int (lk s p))] []
              have e : (pOne u s 3) p = (false, r156.2) := (by subst er156; exact pOne_40f c10 c39 c105 c145 c159)
              refine g_iconst (v := nI 0) h dX5_one_171 (by decide) ?_
              exact g_zretWv h hE dX5_one_172 (by rw [e]; rfl) (paW_eq (by rw [e]))
            · skip
              show G X 0 0 (mW (xT X) o a s (paS S u r156.2)) 162 [(0, .ref o), (1, .int (lk s p))] []
              have n2 : At s 3 r156.2 := (by subst er156; exact At.ok a2 (pWhole_ok (pOne_ok u s 2) (opn p) a2.1) c159); have n3 := n2.1; have n4 := n2.2.2
              refine g_aload_n h dX5_one_162 rfl ?_
              refine g_callVR h (m5_look _ _ _ o a s S u r156.2 h0 (by first | assumption | omega)) (fun _ q => q) 0 rfl rfl (lw_V q1586 q1588 qs54 q95 q1589) gy_X5_look ⟨Nat.le_of_ble_eq_true rfl, Nat.le_of_ble_eq_true rfl⟩ ⟨Nat.le_of_ble_eq_true rfl, Nat.le_of_ble_eq_true rfl⟩ rfl rfl (Nat.le_of_ble_eq_true rfl) dX5_one_163 ?_
              refine g_bipush (v := nI 41) h dX5_one_166 (by decide) ?_
              refine g_toI (y := 41) rfl ?_
              refine g_icmp_eq h 173 dX5_one_168 (by decide) (fun c168 => ?_) (fun c168 => ?_)
              · skip
                show G X 0 0 (mW (xT X) o a s (paS S u r156.2)) 173 [(0, .ref o), (1, .int (lk s p))] []
                have e : (pOne u s 3) p = (true, cls (adv r156.2)) := (by subst er156; exact pOne_41t c10 c39 c105 c145 c159 c168); have n4 : 1 ≤ (adv r156.2).2.1 := (by show 1 ≤ r156.2.2.1; omega)
                refine g_aload_n h dX5_one_173 rfl ?_
                refine g_dup h dX5_one_174 rfl ?_
                refine g_get h in_X5 0 rfl rfl 5 rfl q1379 rfl rfl dX5_one_175 ?_
                show G X 0 0 (mW (xT X) o a s (paS S u r156.2)) 178 [(0, .ref o), (1, .int (lk s p))] [.int (nI r156.2.1), .ref o]
                refine g_iconst (v := nI 1) h dX5_one_178 (by decide) ?_
                refine g_iaddN h dX5_one_179 ?_
                refine g_put (ws' := mW (xT X) o a s (paS S u (adv r156.2))) h hE.1 in_X5 tyX5 tyX5_ok nmX5 0 rfl rfl 5 rfl q1379 rfl rfl rfl rfl rfl rfl dX5_one_180 rfl ?_
                refine g_aload_n h dX5_one_183 rfl ?_
                refine g_dup h dX5_one_184 rfl ?_
                refine g_get h in_X5 0 rfl rfl 6 rfl q1380 rfl rfl dX5_one_185 ?_
                show G X 0 0 (mW (xT X) o a s (paS S u (adv r156.2))) 188 [(0, .ref o), (1, .int (lk s p))] [.int (nI ((adv r156.2).2.1)), .ref o]
                refine g_iconst (v := nI 1) h dX5_one_188 (by decide) ?_
                refine g_isubN h (by omega) dX5_one_189 ?_
                refine g_put (ws' := mW (xT X) o a s (paS S u (cls (adv r156.2)))) h hE.1 in_X5 tyX5 tyX5_ok nmX5 0 rfl rfl 6 rfl q1380 rfl rfl rfl rfl rfl rfl dX5_one_190 rfl ?_
                refine g_iconst (v := nI 1) h dX5_one_193 (by decide) ?_
                exact g_zretWv h hE dX5_one_194 (by rw [e]; rfl) (paW_eq (by rw [e]))
              · skip
                show G X 0 0 (mW (xT X) o a s (paS S u r156.2)) 171 [(0, .ref o), (1, .int (lk s p))] []
                have e : (pOne u s 3) p = (false, r156.2) := (by subst er156; exact pOne_41f c10 c39 c105 c145 c159 c168)
                refine g_iconst (v := nI 0) h dX5_one_171 (by decide) ?_
                exact g_zretWv h hE dX5_one_172 (by rw [e]; rfl) (paW_eq (by rw [e]))
      · skip
        show G X 0 0 (mW (xT X) o a s (paS S u p)) 108 [(0, .ref o), (1, .int (lk s p))] []
        have hl : p.1 < nC s := lk_lt (Q := fun z => decide (z = 33)) (by decide) (decide_eq_true c105); have z1 : p.2.1 < 5 := (by omega); have a2 := h2.opn hl
        refine g_aload_n h dX5_one_108 rfl ?_
        refine g_callVW0 h hE (m5_opens_1 _ _ _ o a s S u p (by first | assumption | omega)) 0 rfl rfl (lw_V q1598 q1600 qs57 q95 q1601) gy_X5_opens ⟨Nat.le_of_ble_eq_true rfl, Nat.le_of_ble_eq_true rfl⟩ ⟨Nat.le_of_ble_eq_true rfl, Nat.le_of_ble_eq_true rfl⟩ rfl rfl (Nat.le_of_ble_eq_true rfl) dX5_one_109 (st' := [.int (bI true)]) rfl (fun _ e109 => ?_)
        subst e109
        refine g_if_eqB h 122 dX5_one_112 (by decide) (fun c112 => ?_) (fun c112 => ?_)
        · skip
          show G X 0 0 (mW (xT X) o a s (paS S u (opn p))) 122 [(0, .ref o), (1, .int (lk s p))] []
          exact absurd c112 (by decide)
        · skip
          show G X 0 0 (mW (xT X) o a s (paS S u (opn p))) 115 [(0, .ref o), (1, .int (lk s p))] []
          refine g_aload_n h dX5_one_115 rfl ?_
          refine g_callVW0 h hE (m5_one_2 _ _ _ o a s S u (opn p) h0 (by first | assumption | omega) (by first | assumption | omega)) 0 rfl rfl (lw_V q1582 q1584 qs53 q95 q1585) gy_X5_one ⟨Nat.le_of_ble_eq_true rfl, Nat.le_of_ble_eq_true rfl⟩ ⟨Nat.le_of_ble_eq_true rfl, Nat.le_of_ble_eq_true rfl⟩ rfl rfl (Nat.le_of_ble_eq_true rfl) dX5_one_116 (st' := [.int (bI (((pOne u s 2) (opn p)).1))]) rfl (fun _ e116 => ?_)
          subst e116
          show G X 0 0 (mW (xT X) o a s (paS S u (((pOne u s 2) (opn p)).2))) 119 [(0, .ref o), (1, .int (lk s p))] [.int (bI (((pOne u s 2) (opn p)).1))]
          generalize er116 : (pOne u s 2) (opn p) = r116
          refine g_if_neB h 124 dX5_one_119 (by decide) (fun c119 => ?_) (fun c119 => ?_)
          · skip
            show G X 0 0 (mW (xT X) o a s (paS S u r116.2)) 124 [(0, .ref o), (1, .int (lk s p))] []
            have e : (pOne u s 3) p = (true, lay2 2 0 (cls r116.2)) := (by subst er116; exact pOne_33t c10 c39 c105 c119); have n2 : At s 3 r116.2 := (by subst er116; exact At.ok a2 (pOne_ok u s 2 (opn p) a2.1) c119); have n3 : (cls r116.2).2.2.1 < 62 := (show r116.2.2.2.1 < 62 from n2.st h0); have n4 := n2.2.2
            refine g_aload_n h dX5_one_124 rfl ?_
            refine g_dup h dX5_one_125 rfl ?_
            refine g_get h in_X5 0 rfl rfl 6 rfl q1380 rfl rfl dX5_one_126 ?_
            show G X 0 0 (mW (xT X) o a s (paS S u r116.2)) 129 [(0, .ref o), (1, .int (lk s p))] [.int (nI r116.2.2.1), .ref o]
            refine g_iconst (v := nI 1) h dX5_one_129 (by decide) ?_
            refine g_isubN h (by omega) dX5_one_130 ?_
            refine g_put (ws' := mW (xT X) o a s (paS S u (cls r116.2))) h hE.1 in_X5 tyX5 tyX5_ok nmX5 0 rfl rfl 6 rfl q1380 rfl rfl rfl rfl rfl rfl dX5_one_131 rfl ?_
            refine g_aload_n h dX5_one_134 rfl ?_
            refine g_iconst (v := nI 2) h dX5_one_135 (by decide) ?_
            refine g_iconst (v := nI 0) h dX5_one_136 (by decide) ?_
            refine g_callVW0 h hE (m5_lays _ _ _ o a s S u (cls r116.2) 2 0 (by first | assumption | omega)) 0 rfl rfl (lw_V q1594 q1596 qs56 q95 q1597) gy_X5_lays ⟨Nat.le_of_ble_eq_true rfl, Nat.le_of_ble_eq_true rfl⟩ ⟨Nat.le_of_ble_eq_true rfl, Nat.le_of_ble_eq_true rfl⟩ rfl rfl (Nat.le_of_ble_eq_true rfl) dX5_one_137 (st' := []) rfl (fun _ e137 => ?_)
            subst e137
            refine g_iconst (v := nI 1) h dX5_one_140 (by decide) ?_
            exact g_zretWv h hE dX5_one_141 (by rw [e]; rfl) (paW_eq (by rw [e]))
          · skip
            show G X 0 0 (mW (xT X) o a s (paS S u r116.2)) 122 [(0, .ref o), (1, .int (lk s p))] []
            have e : (pOne u s 3) p = (false, r116.2) := (by subst er116; exact pOne_33f c10 c39 c105 c119)
            refine g_iconst (v := nI 0) h dX5_one_122 (by decide) ?_
            exact g_zretWv h hE dX5_one_123 (by rw [e]; rfl) (paW_eq (by rw [e]))
    · skip
      show G X 0 0 (mW (xT X) o a s (paS S u p)) 42 [(0, .ref o), (1, .int (lk s p))] []
      have e : (pOne u s 3) p = (true, lay2 0 (numR s 4 0 p).1 (numR s 4 0 p).2) := pOne_m c10 c39
      refine g_iconst (v := nI 0) h dX5_one_42 (by decide) ?_
      refine g_istore_n (lv' := [(0, .ref o), (1, .int (lk s p)), (2, .int (nI 0))]) h dX5_one_43 (by decide) rfl ?_
      refine g_iconst (v := nI 0) h dX5_one_44 (by decide) ?_
      refine g_istore_n (lv' := [(0, .ref o), (1, .int (lk s p)), (2, .int (nI 0)), (3, .int (nI 0))]) h dX5_one_45 (by decide) rfl ?_
      have lp : ∀ i, i ≤ 4 → ∀ (_u : Unit) (x : Int32) (q : PS), (numR s 4 0 p = numR s (4 - i) x q) → (q.1 ≤ nC s) → (q.2 = p.2) → G X 0 0 (mW (xT X) o a s (paS S u q)) 46 [(0, .ref o), (1, .int (lk s p)), (2, .int x), (3, .int (nI i))] [] := by
        refine g_ind (N := 4) (fun i hi_i ih_lp => ?_)
        intro _u x q e0_lp e1_lp e2_lp
        refine g_iload_n h dX5_one_46 rfl ?_
        refine g_iconst (v := nI 4) h dX5_one_47 (by decide) ?_
        refine g_icmp_geN h 94 dX5_one_48 (by decide) (by first | omega | decide) (by first | omega | decide) (fun c48 => ?_) (fun c48 => ?_)
        · skip
          show G X 0 0 (mW (xT X) o a s (paS S u q)) 94 [(0, .ref o), (1, .int (lk s p)), (2, .int x), (3, .int (nI i))] []
          have f : numR s 4 0 p = (x, q) := by first | exact e0_lp.trans (numR_e (by omega)) | exact e0_lp.trans (numR_f c62)
          rw [f] at e; have yq : q.2.2.1 < 62 := by rw [e2_lp]; exact y0
          refine g_aload_n h dX5_one_94 rfl ?_
          refine g_iconst (v := nI 0) h dX5_one_95 (by decide) ?_
          refine g_iload_n h dX5_one_96 rfl ?_
          refine g_callVW0 h hE (m5_lays _ _ _ o a s S u q 0 x (by first | assumption | omega)) 0 rfl rfl (lw_V q1594 q1596 qs56 q95 q1597) gy_X5_lays ⟨Nat.le_of_ble_eq_true rfl, Nat.le_of_ble_eq_true rfl⟩ ⟨Nat.le_of_ble_eq_true rfl, Nat.le_of_ble_eq_true rfl⟩ rfl rfl (Nat.le_of_ble_eq_true rfl) dX5_one_97 (st' := []) rfl (fun _ e97 => ?_)
          subst e97
          refine g_iconst (v := nI 1) h dX5_one_100 (by decide) ?_
          exact g_zretWv h hE dX5_one_101 (by rw [e]; rfl) (paW_eq (by rw [e]))
        · skip
          show G X 0 0 (mW (xT X) o a s (paS S u q)) 51 [(0, .ref o), (1, .int (lk s p)), (2, .int x), (3, .int (nI i))] []
          refine g_aload_n h dX5_one_51 rfl ?_
          refine g_callVR h (m5_look _ _ _ o a s S u q h0 (by first | assumption | omega)) (fun _ q => q) 0 rfl rfl (lw_V q1586 q1588 qs54 q95 q1589) gy_X5_look ⟨Nat.le_of_ble_eq_true rfl, Nat.le_of_ble_eq_true rfl⟩ ⟨Nat.le_of_ble_eq_true rfl, Nat.le_of_ble_eq_true rfl⟩ rfl rfl (Nat.le_of_ble_eq_true rfl) dX5_one_52 ?_
          refine g_bipush (v := nI 48) h dX5_one_55 (by decide) ?_
          refine g_bipush (v := nI 57) h dX5_one_57 (by decide) ?_
          refine g_callSR h (m5_in _ _ _ (lk s q) 48 57 ) (fun _ q => nomatch q) (lw_S q1439 q1440 q95 q1441) gy_X5_in ⟨Nat.le_of_ble_eq_true rfl, Nat.le_of_ble_eq_true rfl⟩ ⟨Nat.le_of_ble_eq_true rfl, Nat.le_of_ble_eq_true rfl⟩ rfl rfl (Nat.le_of_ble_eq_true rfl) dX5_one_59 ?_
          refine g_if_eqB h 94 dX5_one_62 (by decide) (fun c62 => ?_) (fun c62 => ?_)
          · skip
            show G X 0 0 (mW (xT X) o a s (paS S u q)) 94 [(0, .ref o), (1, .int (lk s p)), (2, .int x), (3, .int (nI i))] []
            have f : numR s 4 0 p = (x, q) := by first | exact e0_lp.trans (numR_e (by omega)) | exact e0_lp.trans (numR_f c62)
            rw [f] at e; have yq : q.2.2.1 < 62 := by rw [e2_lp]; exact y0
            refine g_aload_n h dX5_one_94 rfl ?_
            refine g_iconst (v := nI 0) h dX5_one_95 (by decide) ?_
            refine g_iload_n h dX5_one_96 rfl ?_
            refine g_callVW0 h hE (m5_lays _ _ _ o a s S u q 0 x (by first | assumption | omega)) 0 rfl rfl (lw_V q1594 q1596 qs56 q95 q1597) gy_X5_lays ⟨Nat.le_of_ble_eq_true rfl, Nat.le_of_ble_eq_true rfl⟩ ⟨Nat.le_of_ble_eq_true rfl, Nat.le_of_ble_eq_true rfl⟩ rfl rfl (Nat.le_of_ble_eq_true rfl) dX5_one_97 (st' := []) rfl (fun _ e97 => ?_)
            subst e97
            refine g_iconst (v := nI 1) h dX5_one_100 (by decide) ?_
            exact g_zretWv h hE dX5_one_101 (by rw [e]; rfl) (paW_eq (by rw [e]))
          · skip
            show G X 0 0 (mW (xT X) o a s (paS S u q)) 65 [(0, .ref o), (1, .int (lk s p)), (2, .int x), (3, .int (nI i))] []
            have hl := lk_lt (Q := fun c => inB c 48 57) (by decide) c62
            refine g_bipush (v := nI 10) h dX5_one_65 (by decide) ?_
            refine g_iload_n h dX5_one_67 rfl ?_
            refine g_toI2 (y := 10) rfl ?_
            refine g_imul h dX5_one_68 ?_
            refine g_aload_n h dX5_one_69 rfl ?_
            refine g_callVR h (m5_look _ _ _ o a s S u q h0 (by first | assumption | omega)) (fun _ q => q) 0 rfl rfl (lw_V q1586 q1588 qs54 q95 q1589) gy_X5_look ⟨Nat.le_of_ble_eq_true rfl, Nat.le_of_ble_eq_true rfl⟩ ⟨Nat.le_of_ble_eq_true rfl, Nat.le_of_ble_eq_true rfl⟩ rfl rfl (Nat.le_of_ble_eq_true rfl) dX5_one_70 ?_
            refine g_iadd h dX5_one_73 ?_
            refine g_bipush (v := nI 48) h dX5_one_74 (by decide) ?_
            refine g_toI (y := 48) rfl ?_
            refine g_isub h dX5_one_76 ?_
            refine g_istore_n (lv' := [(0, .ref o), (1, .int (lk s p)), (2, .int (((10 * x) + (lk s q)) - 48)), (3, .int (nI i))]) h dX5_one_77 (by decide) rfl ?_
            refine g_aload_n h dX5_one_78 rfl ?_
            refine g_dup h dX5_one_79 rfl ?_
            refine g_get h in_X5 0 rfl rfl 5 rfl q1379 rfl rfl dX5_one_80 ?_
            show G X 0 0 (mW (xT X) o a s (paS S u q)) 83 [(0, .ref o), (1, .int (lk s p)), (2, .int (((10 * x) + (lk s q)) - 48)), (3, .int (nI i))] [.int (nI q.1), .ref o]
            refine g_iconst (v := nI 1) h dX5_one_83 (by decide) ?_
            refine g_iaddN h dX5_one_84 ?_
            refine g_put (ws' := mW (xT X) o a s (paS S u (adv q))) h hE.1 in_X5 tyX5 tyX5_ok nmX5 0 rfl rfl 5 rfl q1379 rfl rfl rfl rfl rfl rfl dX5_one_85 rfl ?_
            refine g_iincN (b := 1) (lv' := [(0, .ref o), (1, .int (lk s p)), (2, .int (((10 * x) + (lk s q)) - 48)), (3, .int (nI (i + 1)))]) h dX5_one_88 rfl rfl (by decide) rfl ?_
            refine g_goto h 46 dX5_one_91 (by decide) ?_
            exact ih_lp (i + 1) (by omega) (by omega) () (((10 * x) + (lk s q)) - 48) (adv q) (e0_lp.trans (numR_t (by omega) c62)) hl e2_lp
      exact lp (0) (by omega) () 0 p rfl l0 rfl
  · skip
    show G X 0 0 (mW (xT X) o a s (paS S u p)) 13 [(0, .ref o), (1, .int (lk s p))] []
    have e : (pOne u s 3) p = (true, lay2 1 (lk s p) (adv p)) := pOne_n c10; have hl := lk_lt (isNm_0 h1) c10; have a2 := (h2.adv hl).st h0
    refine g_aload_n h dX5_one_13 rfl ?_
    refine g_dup h dX5_one_14 rfl ?_
    refine g_get h in_X5 0 rfl rfl 5 rfl q1379 rfl rfl dX5_one_15 ?_
    show G X 0 0 (mW (xT X) o a s (paS S u p)) 18 [(0, .ref o), (1, .int (lk s p))] [.int (nI p.1), .ref o]
    refine g_iconst (v := nI 1) h dX5_one_18 (by decide) ?_
    refine g_iaddN h dX5_one_19 ?_
    refine g_put (ws' := mW (xT X) o a s (paS S u (adv p))) h hE.1 in_X5 tyX5 tyX5_ok nmX5 0 rfl rfl 5 rfl q1379 rfl rfl rfl rfl rfl rfl dX5_one_20 rfl ?_
    refine g_aload_n h dX5_one_23 rfl ?_
    refine g_iconst (v := nI 1) h dX5_one_24 (by decide) ?_
    refine g_iload_n h dX5_one_25 rfl ?_
    refine g_callVW0 h hE (m5_lays _ _ _ o a s S u (adv p) 1 (lk s p) (by first | assumption | omega)) 0 rfl rfl (lw_V q1594 q1596 qs56 q95 q1597) gy_X5_lays ⟨Nat.le_of_ble_eq_true rfl, Nat.le_of_ble_eq_true rfl⟩ ⟨Nat.le_of_ble_eq_true rfl, Nat.le_of_ble_eq_true rfl⟩ rfl rfl (Nat.le_of_ble_eq_true rfl) dX5_one_26 (st' := []) rfl (fun _ e26 => ?_)
    subst e26
    refine g_iconst (v := nI 1) h dX5_one_29 (by decide) ?_
    exact g_zretWv h hE dX5_one_30 (by rw [e]; rfl) (paW_eq (by rw [e]))
set_option maxHeartbeats 4000000 in
set_option maxRecDepth 100000 in
theorem m5_product_3 (l : Launch) (D : va_G) (T : Nat → ClassId) (o : Nat) (a : Nat → Nat) (s : Nat → Int32) (S : Nat → Nat → Int32) (u : Nat) (p : PS) (h0 : Inv s) (h1 : u < 2) (h2 : At s 2 p) : MetW l D T yX5_product cX5_product 2 (some .boolean) 20 423 0 0 [.ref o] (mW T o a s (paS S u p)) (fun r_ w_ => r_ = some (.int (bI (((pProd (pOne u s 3) s) p).1))) ∧ (w_ = mW T o a s (paS S u (((pProd (pOne u s 3) s) p).2)))) := by
  refine metW (own := RX5) rfl (by decide) rfl (fun X h hl hDx hTx hnm hE => ?_)
  subst hl; subst hDx; subst hTx
  have hnp := h0.npl; have hnt := h0.ntl; have hnq := h0.nql
  have hnc := h0.ncl; have l0 := h2.1; have b0 := h2.2.1; have z0 := h2.2.2; have y0 := h2.st h0
  show G X 0 0 (mW (xT X) o a s (paS S u p)) 0 [(0, .ref o)] []
  refine g_aload_n h dX5_product_0 rfl ?_
  refine g_callVW0 h hE (m5_one_3 _ _ _ o a s S u p h0 (by first | assumption | omega) (by first | assumption | omega)) 0 rfl rfl (lw_V q1582 q1584 qs53 q95 q1585) gy_X5_one ⟨Nat.le_of_ble_eq_true rfl, Nat.le_of_ble_eq_true rfl⟩ ⟨Nat.le_of_ble_eq_true rfl, Nat.le_of_ble_eq_true rfl⟩ rfl rfl (Nat.le_of_ble_eq_true rfl) dX5_product_1 (st' := [.int (bI (((pOne u s 3) p).1))]) rfl (fun _ e1 => ?_)
  subst e1
  show G X 0 0 (mW (xT X) o a s (paS S u (((pOne u s 3) p).2))) 4 [(0, .ref o)] [.int (bI (((pOne u s 3) p).1))]
  generalize er1 : (pOne u s 3) p = r1
  refine g_if_neB h 9 dX5_product_4 (by decide) (fun c4 => ?_) (fun c4 => ?_)
  · skip
    show G X 0 0 (mW (xT X) o a s (paS S u r1.2)) 9 [(0, .ref o)] []
    have a0 : At s 2 r1.2 := (by subst er1; exact h2.ok ((pOne_ok u s 3) p l0) c4); have l1 := a0.1
    have lw : ∀ q_ : (PS) × (Nat), (match q_ with | (q, m) => ((pProd (pOne u s 3) s) p = pR (pOne u s 3) s isMul m q) → (At s 2 q) → (nC s - q.1 < m) → G X 0 0 (mW (xT X) o a s (paS S u q)) 9 [(0, .ref o)] []) := by
      refine g_rec (fun q_ => match q_ with | (q, m) => m) ?_
      rintro ⟨q, m⟩ ih_lw e0_lw e1_lw e2_lw
      skip
      have a1 := e1_lw; have l2 := a1.1; have y2 := a1.st h0
      refine g_aload_n h dX5_product_9 rfl ?_
      refine g_callVR h (m5_look _ _ _ o a s S u q h0 (by first | assumption | omega)) (fun _ q => q) 0 rfl rfl (lw_V q1586 q1588 qs54 q95 q1589) gy_X5_look ⟨Nat.le_of_ble_eq_true rfl, Nat.le_of_ble_eq_true rfl⟩ ⟨Nat.le_of_ble_eq_true rfl, Nat.le_of_ble_eq_true rfl⟩ rfl rfl (Nat.le_of_ble_eq_true rfl) dX5_product_10 ?_
      refine g_bipush (v := nI 42) h dX5_product_13 (by decide) ?_
      refine g_toI (y := 42) rfl ?_
      refine g_icmp_eq h 36 dX5_product_15 (by decide) (fun c15 => ?_) (fun c15 => ?_)
      · skip
        show G X 0 0 (mW (xT X) o a s (paS S u q)) 36 [(0, .ref o)] []
        have hq : isMul (lk s q) = true := by simp [isMul, c15]
        have hl := lk_lt (by decide) hq; obtain ⟨m0, rfl⟩ : ∃ k, m = k + 1 := ⟨m - 1, by omega⟩; have a2 := a1.adv hl
        refine g_aload_n h dX5_product_36 rfl ?_
        refine g_callVR h (m5_look _ _ _ o a s S u q h0 (by first | assumption | omega)) (fun _ q => q) 0 rfl rfl (lw_V q1586 q1588 qs54 q95 q1589) gy_X5_look ⟨Nat.le_of_ble_eq_true rfl, Nat.le_of_ble_eq_true rfl⟩ ⟨Nat.le_of_ble_eq_true rfl, Nat.le_of_ble_eq_true rfl⟩ rfl rfl (Nat.le_of_ble_eq_true rfl) dX5_product_37 ?_
        refine g_istore_n (lv' := [(0, .ref o), (1, .int (lk s q))]) h dX5_product_40 (by decide) rfl ?_
        refine g_aload_n h dX5_product_41 rfl ?_
        refine g_dup h dX5_product_42 rfl ?_
        refine g_get h in_X5 0 rfl rfl 5 rfl q1379 rfl rfl dX5_product_43 ?_
        show G X 0 0 (mW (xT X) o a s (paS S u q)) 46 [(0, .ref o), (1, .int (lk s q))] [.int (nI q.1), .ref o]
        refine g_iconst (v := nI 1) h dX5_product_46 (by decide) ?_
        refine g_iaddN h dX5_product_47 ?_
        refine g_put (ws' := mW (xT X) o a s (paS S u (adv q))) h hE.1 in_X5 tyX5 tyX5_ok nmX5 0 rfl rfl 5 rfl q1379 rfl rfl rfl rfl rfl rfl dX5_product_48 rfl ?_
        refine g_aload_n h dX5_product_51 rfl ?_
        refine g_callVW0 h hE (m5_one_3 _ _ _ o a s S u (adv q) h0 (by first | assumption | omega) (by first | assumption | omega)) 0 rfl rfl (lw_V q1582 q1584 qs53 q95 q1585) gy_X5_one ⟨Nat.le_of_ble_eq_true rfl, Nat.le_of_ble_eq_true rfl⟩ ⟨Nat.le_of_ble_eq_true rfl, Nat.le_of_ble_eq_true rfl⟩ rfl rfl (Nat.le_of_ble_eq_true rfl) dX5_product_52 (st' := [.int (bI (((pOne u s 3) (adv q)).1))]) rfl (fun _ e52 => ?_)
        subst e52
        show G X 0 0 (mW (xT X) o a s (paS S u (((pOne u s 3) (adv q)).2))) 55 [(0, .ref o), (1, .int (lk s q))] [.int (bI (((pOne u s 3) (adv q)).1))]
        generalize er52 : (pOne u s 3) (adv q) = r52
        refine g_if_neB h 60 dX5_product_55 (by decide) (fun c55 => ?_) (fun c55 => ?_)
        · skip
          show G X 0 0 (mW (xT X) o a s (paS S u r52.2)) 60 [(0, .ref o), (1, .int (lk s q))] []
          have n0 : OKp s q (true, lay2 3 (lk s q) r52.2) := (by subst er52; exact adv_ok (pOne_ok u s 3) 3 (lk s q) hl c55); have n1 := At.ok a1 n0 rfl; have n2 : At s 2 r52.2 := (by subst er52; exact At.ok a2 ((pOne_ok u s 3) (adv q) a2.1) c55); have n3 := n2.st h0
          refine g_aload_n h dX5_product_60 rfl ?_
          refine g_iconst (v := nI 3) h dX5_product_61 (by decide) ?_
          refine g_iload_n h dX5_product_62 rfl ?_
          refine g_callVW0 h hE (m5_lays _ _ _ o a s S u r52.2 3 (lk s q) (by first | assumption | omega)) 0 rfl rfl (lw_V q1594 q1596 qs56 q95 q1597) gy_X5_lays ⟨Nat.le_of_ble_eq_true rfl, Nat.le_of_ble_eq_true rfl⟩ ⟨Nat.le_of_ble_eq_true rfl, Nat.le_of_ble_eq_true rfl⟩ rfl rfl (Nat.le_of_ble_eq_true rfl) dX5_product_63 (st' := []) rfl (fun _ e63 => ?_)
          subst e63
          refine g_goto h 9 dX5_product_66 (by decide) ?_
          refine g_lv (lv' := [(0, .ref o)]) (lvle_cons rfl (lvle_nil)) ?_
          exact ih_lw (lay2 3 (lk s q) r52.2, m0) (by show m0 < m0 + 1; omega) (by subst er52; exact e0_lw.trans (pR_t hq c55)) n1 (by subst er52; exact mu_ok ((pOne_ok u s 3) (adv q) a2.1) hl e2_lw)
        · skip
          show G X 0 0 (mW (xT X) o a s (paS S u r52.2)) 58 [(0, .ref o), (1, .int (lk s q))] []
          have e : (pProd (pOne u s 3) s) p = (false, r52.2) := (by subst er52; exact e0_lw.trans (pR_f hq c55))
          refine g_iconst (v := nI 0) h dX5_product_58 (by decide) ?_
          exact g_zretWv h hE dX5_product_59 (by rw [e]; rfl) (paW_eq (by rw [e]))
      · skip
        show G X 0 0 (mW (xT X) o a s (paS S u q)) 18 [(0, .ref o)] []
        refine g_aload_n h dX5_product_18 rfl ?_
        refine g_callVR h (m5_look _ _ _ o a s S u q h0 (by first | assumption | omega)) (fun _ q => q) 0 rfl rfl (lw_V q1586 q1588 qs54 q95 q1589) gy_X5_look ⟨Nat.le_of_ble_eq_true rfl, Nat.le_of_ble_eq_true rfl⟩ ⟨Nat.le_of_ble_eq_true rfl, Nat.le_of_ble_eq_true rfl⟩ rfl rfl (Nat.le_of_ble_eq_true rfl) dX5_product_19 ?_
        refine g_bipush (v := nI 47) h dX5_product_22 (by decide) ?_
        refine g_toI (y := 47) rfl ?_
        refine g_icmp_eq h 36 dX5_product_24 (by decide) (fun c24 => ?_) (fun c24 => ?_)
        · skip
          show G X 0 0 (mW (xT X) o a s (paS S u q)) 36 [(0, .ref o)] []
          have hq : isMul (lk s q) = true := by simp [isMul, c15, c24]
          have hl := lk_lt (by decide) hq; obtain ⟨m0, rfl⟩ : ∃ k, m = k + 1 := ⟨m - 1, by omega⟩; have a2 := a1.adv hl
          refine g_aload_n h dX5_product_36 rfl ?_
          refine g_callVR h (m5_look _ _ _ o a s S u q h0 (by first | assumption | omega)) (fun _ q => q) 0 rfl rfl (lw_V q1586 q1588 qs54 q95 q1589) gy_X5_look ⟨Nat.le_of_ble_eq_true rfl, Nat.le_of_ble_eq_true rfl⟩ ⟨Nat.le_of_ble_eq_true rfl, Nat.le_of_ble_eq_true rfl⟩ rfl rfl (Nat.le_of_ble_eq_true rfl) dX5_product_37 ?_
          refine g_istore_n (lv' := [(0, .ref o), (1, .int (lk s q))]) h dX5_product_40 (by decide) rfl ?_
          refine g_aload_n h dX5_product_41 rfl ?_
          refine g_dup h dX5_product_42 rfl ?_
          refine g_get h in_X5 0 rfl rfl 5 rfl q1379 rfl rfl dX5_product_43 ?_
          show G X 0 0 (mW (xT X) o a s (paS S u q)) 46 [(0, .ref o), (1, .int (lk s q))] [.int (nI q.1), .ref o]
          refine g_iconst (v := nI 1) h dX5_product_46 (by decide) ?_
          refine g_iaddN h dX5_product_47 ?_
          refine g_put (ws' := mW (xT X) o a s (paS S u (adv q))) h hE.1 in_X5 tyX5 tyX5_ok nmX5 0 rfl rfl 5 rfl q1379 rfl rfl rfl rfl rfl rfl dX5_product_48 rfl ?_
          refine g_aload_n h dX5_product_51 rfl ?_
          refine g_callVW0 h hE (m5_one_3 _ _ _ o a s S u (adv q) h0 (by first | assumption | omega) (by first | assumption | omega)) 0 rfl rfl (lw_V q1582 q1584 qs53 q95 q1585) gy_X5_one ⟨Nat.le_of_ble_eq_true rfl, Nat.le_of_ble_eq_true rfl⟩ ⟨Nat.le_of_ble_eq_true rfl, Nat.le_of_ble_eq_true rfl⟩ rfl rfl (Nat.le_of_ble_eq_true rfl) dX5_product_52 (st' := [.int (bI (((pOne u s 3) (adv q)).1))]) rfl (fun _ e52 => ?_)
          subst e52
          show G X 0 0 (mW (xT X) o a s (paS S u (((pOne u s 3) (adv q)).2))) 55 [(0, .ref o), (1, .int (lk s q))] [.int (bI (((pOne u s 3) (adv q)).1))]
          generalize er52 : (pOne u s 3) (adv q) = r52
          refine g_if_neB h 60 dX5_product_55 (by decide) (fun c55 => ?_) (fun c55 => ?_)
          · skip
            show G X 0 0 (mW (xT X) o a s (paS S u r52.2)) 60 [(0, .ref o), (1, .int (lk s q))] []
            have n0 : OKp s q (true, lay2 3 (lk s q) r52.2) := (by subst er52; exact adv_ok (pOne_ok u s 3) 3 (lk s q) hl c55); have n1 := At.ok a1 n0 rfl; have n2 : At s 2 r52.2 := (by subst er52; exact At.ok a2 ((pOne_ok u s 3) (adv q) a2.1) c55); have n3 := n2.st h0
            refine g_aload_n h dX5_product_60 rfl ?_
            refine g_iconst (v := nI 3) h dX5_product_61 (by decide) ?_
            refine g_iload_n h dX5_product_62 rfl ?_
            refine g_callVW0 h hE (m5_lays _ _ _ o a s S u r52.2 3 (lk s q) (by first | assumption | omega)) 0 rfl rfl (lw_V q1594 q1596 qs56 q95 q1597) gy_X5_lays ⟨Nat.le_of_ble_eq_true rfl, Nat.le_of_ble_eq_true rfl⟩ ⟨Nat.le_of_ble_eq_true rfl, Nat.le_of_ble_eq_true rfl⟩ rfl rfl (Nat.le_of_ble_eq_true rfl) dX5_product_63 (st' := []) rfl (fun _ e63 => ?_)
            subst e63
            refine g_goto h 9 dX5_product_66 (by decide) ?_
            refine g_lv (lv' := [(0, .ref o)]) (lvle_cons rfl (lvle_nil)) ?_
            exact ih_lw (lay2 3 (lk s q) r52.2, m0) (by show m0 < m0 + 1; omega) (by subst er52; exact e0_lw.trans (pR_t hq c55)) n1 (by subst er52; exact mu_ok ((pOne_ok u s 3) (adv q) a2.1) hl e2_lw)
          · skip
            show G X 0 0 (mW (xT X) o a s (paS S u r52.2)) 58 [(0, .ref o), (1, .int (lk s q))] []
            have e : (pProd (pOne u s 3) s) p = (false, r52.2) := (by subst er52; exact e0_lw.trans (pR_f hq c55))
            refine g_iconst (v := nI 0) h dX5_product_58 (by decide) ?_
            exact g_zretWv h hE dX5_product_59 (by rw [e]; rfl) (paW_eq (by rw [e]))
        · skip
          show G X 0 0 (mW (xT X) o a s (paS S u q)) 27 [(0, .ref o)] []
          refine g_aload_n h dX5_product_27 rfl ?_
          refine g_callVR h (m5_look _ _ _ o a s S u q h0 (by first | assumption | omega)) (fun _ q => q) 0 rfl rfl (lw_V q1586 q1588 qs54 q95 q1589) gy_X5_look ⟨Nat.le_of_ble_eq_true rfl, Nat.le_of_ble_eq_true rfl⟩ ⟨Nat.le_of_ble_eq_true rfl, Nat.le_of_ble_eq_true rfl⟩ rfl rfl (Nat.le_of_ble_eq_true rfl) dX5_product_28 ?_
          refine g_bipush (v := nI 37) h dX5_product_31 (by decide) ?_
          refine g_toI (y := 37) rfl ?_
          refine g_icmp_ne h 69 dX5_product_33 (by decide) (fun c33 => ?_) (fun c33 => ?_)
          · skip
            show G X 0 0 (mW (xT X) o a s (paS S u q)) 69 [(0, .ref o)] []
            have hq : isMul (lk s q) = false := by simp [isMul, c15, c24, c33]
            have e : (pProd (pOne u s 3) s) p = (true, q) := e0_lw.trans (pR_n hq)
            refine g_iconst (v := nI 1) h dX5_product_69 (by decide) ?_
            exact g_zretWv h hE dX5_product_70 (by rw [e]; rfl) (paW_eq (by rw [e]))
          · skip
            show G X 0 0 (mW (xT X) o a s (paS S u q)) 36 [(0, .ref o)] []
            have hq : isMul (lk s q) = true := by simp [isMul, c15, c24, c33]
            have hl := lk_lt (by decide) hq; obtain ⟨m0, rfl⟩ : ∃ k, m = k + 1 := ⟨m - 1, by omega⟩; have a2 := a1.adv hl
            refine g_aload_n h dX5_product_36 rfl ?_
            refine g_callVR h (m5_look _ _ _ o a s S u q h0 (by first | assumption | omega)) (fun _ q => q) 0 rfl rfl (lw_V q1586 q1588 qs54 q95 q1589) gy_X5_look ⟨Nat.le_of_ble_eq_true rfl, Nat.le_of_ble_eq_true rfl⟩ ⟨Nat.le_of_ble_eq_true rfl, Nat.le_of_ble_eq_true rfl⟩ rfl rfl (Nat.le_of_ble_eq_true rfl) dX5_product_37 ?_
            refine g_istore_n (lv' := [(0, .ref o), (1, .int (lk s q))]) h dX5_product_40 (by decide) rfl ?_
            refine g_aload_n h dX5_product_41 rfl ?_
            refine g_dup h dX5_product_42 rfl ?_
            refine g_get h in_X5 0 rfl rfl 5 rfl q1379 rfl rfl dX5_product_43 ?_
            show G X 0 0 (mW (xT X) o a s (paS S u q)) 46 [(0, .ref o), (1, .int (lk s q))] [.int (nI q.1), .ref o]
            refine g_iconst (v := nI 1) h dX5_product_46 (by decide) ?_
            refine g_iaddN h dX5_product_47 ?_
            refine g_put (ws' := mW (xT X) o a s (paS S u (adv q))) h hE.1 in_X5 tyX5 tyX5_ok nmX5 0 rfl rfl 5 rfl q1379 rfl rfl rfl rfl rfl rfl dX5_product_48 rfl ?_
            refine g_aload_n h dX5_product_51 rfl ?_
            refine g_callVW0 h hE (m5_one_3 _ _ _ o a s S u (adv q) h0 (by first | assumption | omega) (by first | assumption | omega)) 0 rfl rfl (lw_V q1582 q1584 qs53 q95 q1585) gy_X5_one ⟨Nat.le_of_ble_eq_true rfl, Nat.le_of_ble_eq_true rfl⟩ ⟨Nat.le_of_ble_eq_true rfl, Nat.le_of_ble_eq_true rfl⟩ rfl rfl (Nat.le_of_ble_eq_true rfl) dX5_product_52 (st' := [.int (bI (((pOne u s 3) (adv q)).1))]) rfl (fun _ e52 => ?_)
            subst e52
            show G X 0 0 (mW (xT X) o a s (paS S u (((pOne u s 3) (adv q)).2))) 55 [(0, .ref o), (1, .int (lk s q))] [.int (bI (((pOne u s 3) (adv q)).1))]
            generalize er52 : (pOne u s 3) (adv q) = r52
            refine g_if_neB h 60 dX5_product_55 (by decide) (fun c55 => ?_) (fun c55 => ?_)
            · skip
              show G X 0 0 (mW (xT X) o a s (paS S u r52.2)) 60 [(0, .ref o), (1, .int (lk s q))] []
              have n0 : OKp s q (true, lay2 3 (lk s q) r52.2) := (by subst er52; exact adv_ok (pOne_ok u s 3) 3 (lk s q) hl c55); have n1 := At.ok a1 n0 rfl; have n2 : At s 2 r52.2 := (by subst er52; exact At.ok a2 ((pOne_ok u s 3) (adv q) a2.1) c55); have n3 := n2.st h0
              refine g_aload_n h dX5_product_60 rfl ?_
              refine g_iconst (v := nI 3) h dX5_product_61 (by decide) ?_
              refine g_iload_n h dX5_product_62 rfl ?_
              refine g_callVW0 h hE (m5_lays _ _ _ o a s S u r52.2 3 (lk s q) (by first | assumption | omega)) 0 rfl rfl (lw_V q1594 q1596 qs56 q95 q1597) gy_X5_lays ⟨Nat.le_of_ble_eq_true rfl, Nat.le_of_ble_eq_true rfl⟩ ⟨Nat.le_of_ble_eq_true rfl, Nat.le_of_ble_eq_true rfl⟩ rfl rfl (Nat.le_of_ble_eq_true rfl) dX5_product_63 (st' := []) rfl (fun _ e63 => ?_)
              subst e63
              refine g_goto h 9 dX5_product_66 (by decide) ?_
              refine g_lv (lv' := [(0, .ref o)]) (lvle_cons rfl (lvle_nil)) ?_
              exact ih_lw (lay2 3 (lk s q) r52.2, m0) (by show m0 < m0 + 1; omega) (by subst er52; exact e0_lw.trans (pR_t hq c55)) n1 (by subst er52; exact mu_ok ((pOne_ok u s 3) (adv q) a2.1) hl e2_lw)
            · skip
              show G X 0 0 (mW (xT X) o a s (paS S u r52.2)) 58 [(0, .ref o), (1, .int (lk s q))] []
              have e : (pProd (pOne u s 3) s) p = (false, r52.2) := (by subst er52; exact e0_lw.trans (pR_f hq c55))
              refine g_iconst (v := nI 0) h dX5_product_58 (by decide) ?_
              exact g_zretWv h hE dX5_product_59 (by rw [e]; rfl) (paW_eq (by rw [e]))
    exact lw (r1.2, 61) (by subst er1; exact pProd_t c4) a0 (by omega)
  · skip
    show G X 0 0 (mW (xT X) o a s (paS S u r1.2)) 7 [(0, .ref o)] []
    have e : (pProd (pOne u s 3) s) p = (false, r1.2) := (by subst er1; exact pProd_f c4)
    refine g_iconst (v := nI 0) h dX5_product_7 (by decide) ?_
    exact g_zretWv h hE dX5_product_8 (by rw [e]; rfl) (paW_eq (by rw [e]))
set_option maxHeartbeats 4000000 in
set_option maxRecDepth 100000 in
theorem m5_sum_3 (l : Launch) (D : va_G) (T : Nat → ClassId) (o : Nat) (a : Nat → Nat) (s : Nat → Int32) (S : Nat → Nat → Int32) (u : Nat) (p : PS) (h0 : Inv s) (h1 : u < 2) (h2 : At s 2 p) : MetW l D T yX5_sum cX5_sum 2 (some .boolean) 21 444 0 0 [.ref o] (mW T o a s (paS S u p)) (fun r_ w_ => r_ = some (.int (bI (((pSum (pOne u s 3) s) p).1))) ∧ (w_ = mW T o a s (paS S u (((pSum (pOne u s 3) s) p).2)))) := by
  refine metW (own := RX5) rfl (by decide) rfl (fun X h hl hDx hTx hnm hE => ?_)
  subst hl; subst hDx; subst hTx
  have hnp := h0.npl; have hnt := h0.ntl; have hnq := h0.nql
  have hnc := h0.ncl; have l0 := h2.1; have b0 := h2.2.1; have z0 := h2.2.2; have y0 := h2.st h0
  show G X 0 0 (mW (xT X) o a s (paS S u p)) 0 [(0, .ref o)] []
  refine g_aload_n h dX5_sum_0 rfl ?_
  refine g_callVW0 h hE (m5_product_3 _ _ _ o a s S u p h0 (by first | assumption | omega) (by first | assumption | omega)) 0 rfl rfl (lw_V q1578 q1580 qs52 q95 q1581) gy_X5_product ⟨Nat.le_of_ble_eq_true rfl, Nat.le_of_ble_eq_true rfl⟩ ⟨Nat.le_of_ble_eq_true rfl, Nat.le_of_ble_eq_true rfl⟩ rfl rfl (Nat.le_of_ble_eq_true rfl) dX5_sum_1 (st' := [.int (bI (((pProd (pOne u s 3) s) p).1))]) rfl (fun _ e1 => ?_)
  subst e1
  show G X 0 0 (mW (xT X) o a s (paS S u (((pProd (pOne u s 3) s) p).2))) 4 [(0, .ref o)] [.int (bI (((pProd (pOne u s 3) s) p).1))]
  generalize er1 : (pProd (pOne u s 3) s) p = r1
  refine g_if_neB h 9 dX5_sum_4 (by decide) (fun c4 => ?_) (fun c4 => ?_)
  · skip
    show G X 0 0 (mW (xT X) o a s (paS S u r1.2)) 9 [(0, .ref o)] []
    have a0 : At s 2 r1.2 := (by subst er1; exact h2.ok ((pProd_ok (pOne_ok u s 3)) p l0) c4); have l1 := a0.1
    have lw : ∀ q_ : (PS) × (Nat), (match q_ with | (q, m) => ((pSum (pOne u s 3) s) p = pR (pProd (pOne u s 3) s) s isAdd m q) → (At s 2 q) → (nC s - q.1 < m) → G X 0 0 (mW (xT X) o a s (paS S u q)) 9 [(0, .ref o)] []) := by
      refine g_rec (fun q_ => match q_ with | (q, m) => m) ?_
      rintro ⟨q, m⟩ ih_lw e0_lw e1_lw e2_lw
      skip
      have a1 := e1_lw; have l2 := a1.1; have y2 := a1.st h0
      refine g_aload_n h dX5_sum_9 rfl ?_
      refine g_callVR h (m5_look _ _ _ o a s S u q h0 (by first | assumption | omega)) (fun _ q => q) 0 rfl rfl (lw_V q1586 q1588 qs54 q95 q1589) gy_X5_look ⟨Nat.le_of_ble_eq_true rfl, Nat.le_of_ble_eq_true rfl⟩ ⟨Nat.le_of_ble_eq_true rfl, Nat.le_of_ble_eq_true rfl⟩ rfl rfl (Nat.le_of_ble_eq_true rfl) dX5_sum_10 ?_
      refine g_bipush (v := nI 43) h dX5_sum_13 (by decide) ?_
      refine g_toI (y := 43) rfl ?_
      refine g_icmp_eq h 27 dX5_sum_15 (by decide) (fun c15 => ?_) (fun c15 => ?_)
      · skip
        show G X 0 0 (mW (xT X) o a s (paS S u q)) 27 [(0, .ref o)] []
        have hq : isAdd (lk s q) = true := by simp [isAdd, c15]
        have hl := lk_lt (by decide) hq; obtain ⟨m0, rfl⟩ : ∃ k, m = k + 1 := ⟨m - 1, by omega⟩; have a2 := a1.adv hl
        refine g_aload_n h dX5_sum_27 rfl ?_
        refine g_callVR h (m5_look _ _ _ o a s S u q h0 (by first | assumption | omega)) (fun _ q => q) 0 rfl rfl (lw_V q1586 q1588 qs54 q95 q1589) gy_X5_look ⟨Nat.le_of_ble_eq_true rfl, Nat.le_of_ble_eq_true rfl⟩ ⟨Nat.le_of_ble_eq_true rfl, Nat.le_of_ble_eq_true rfl⟩ rfl rfl (Nat.le_of_ble_eq_true rfl) dX5_sum_28 ?_
        refine g_istore_n (lv' := [(0, .ref o), (1, .int (lk s q))]) h dX5_sum_31 (by decide) rfl ?_
        refine g_aload_n h dX5_sum_32 rfl ?_
        refine g_dup h dX5_sum_33 rfl ?_
        refine g_get h in_X5 0 rfl rfl 5 rfl q1379 rfl rfl dX5_sum_34 ?_
        show G X 0 0 (mW (xT X) o a s (paS S u q)) 37 [(0, .ref o), (1, .int (lk s q))] [.int (nI q.1), .ref o]
        refine g_iconst (v := nI 1) h dX5_sum_37 (by decide) ?_
        refine g_iaddN h dX5_sum_38 ?_
        refine g_put (ws' := mW (xT X) o a s (paS S u (adv q))) h hE.1 in_X5 tyX5 tyX5_ok nmX5 0 rfl rfl 5 rfl q1379 rfl rfl rfl rfl rfl rfl dX5_sum_39 rfl ?_
        refine g_aload_n h dX5_sum_42 rfl ?_
        refine g_callVW0 h hE (m5_product_3 _ _ _ o a s S u (adv q) h0 (by first | assumption | omega) (by first | assumption | omega)) 0 rfl rfl (lw_V q1578 q1580 qs52 q95 q1581) gy_X5_product ⟨Nat.le_of_ble_eq_true rfl, Nat.le_of_ble_eq_true rfl⟩ ⟨Nat.le_of_ble_eq_true rfl, Nat.le_of_ble_eq_true rfl⟩ rfl rfl (Nat.le_of_ble_eq_true rfl) dX5_sum_43 (st' := [.int (bI (((pProd (pOne u s 3) s) (adv q)).1))]) rfl (fun _ e43 => ?_)
        subst e43
        show G X 0 0 (mW (xT X) o a s (paS S u (((pProd (pOne u s 3) s) (adv q)).2))) 46 [(0, .ref o), (1, .int (lk s q))] [.int (bI (((pProd (pOne u s 3) s) (adv q)).1))]
        generalize er43 : (pProd (pOne u s 3) s) (adv q) = r43
        refine g_if_neB h 51 dX5_sum_46 (by decide) (fun c46 => ?_) (fun c46 => ?_)
        · skip
          show G X 0 0 (mW (xT X) o a s (paS S u r43.2)) 51 [(0, .ref o), (1, .int (lk s q))] []
          have n0 : OKp s q (true, lay2 3 (lk s q) r43.2) := (by subst er43; exact adv_ok (pProd_ok (pOne_ok u s 3)) 3 (lk s q) hl c46); have n1 := At.ok a1 n0 rfl; have n2 : At s 2 r43.2 := (by subst er43; exact At.ok a2 ((pProd_ok (pOne_ok u s 3)) (adv q) a2.1) c46); have n3 := n2.st h0
          refine g_aload_n h dX5_sum_51 rfl ?_
          refine g_iconst (v := nI 3) h dX5_sum_52 (by decide) ?_
          refine g_iload_n h dX5_sum_53 rfl ?_
          refine g_callVW0 h hE (m5_lays _ _ _ o a s S u r43.2 3 (lk s q) (by first | assumption | omega)) 0 rfl rfl (lw_V q1594 q1596 qs56 q95 q1597) gy_X5_lays ⟨Nat.le_of_ble_eq_true rfl, Nat.le_of_ble_eq_true rfl⟩ ⟨Nat.le_of_ble_eq_true rfl, Nat.le_of_ble_eq_true rfl⟩ rfl rfl (Nat.le_of_ble_eq_true rfl) dX5_sum_54 (st' := []) rfl (fun _ e54 => ?_)
          subst e54
          refine g_goto h 9 dX5_sum_57 (by decide) ?_
          refine g_lv (lv' := [(0, .ref o)]) (lvle_cons rfl (lvle_nil)) ?_
          exact ih_lw (lay2 3 (lk s q) r43.2, m0) (by show m0 < m0 + 1; omega) (by subst er43; exact e0_lw.trans (pR_t hq c46)) n1 (by subst er43; exact mu_ok ((pProd_ok (pOne_ok u s 3)) (adv q) a2.1) hl e2_lw)
        · skip
          show G X 0 0 (mW (xT X) o a s (paS S u r43.2)) 49 [(0, .ref o), (1, .int (lk s q))] []
          have e : (pSum (pOne u s 3) s) p = (false, r43.2) := (by subst er43; exact e0_lw.trans (pR_f hq c46))
          refine g_iconst (v := nI 0) h dX5_sum_49 (by decide) ?_
          exact g_zretWv h hE dX5_sum_50 (by rw [e]; rfl) (paW_eq (by rw [e]))
      · skip
        show G X 0 0 (mW (xT X) o a s (paS S u q)) 18 [(0, .ref o)] []
        refine g_aload_n h dX5_sum_18 rfl ?_
        refine g_callVR h (m5_look _ _ _ o a s S u q h0 (by first | assumption | omega)) (fun _ q => q) 0 rfl rfl (lw_V q1586 q1588 qs54 q95 q1589) gy_X5_look ⟨Nat.le_of_ble_eq_true rfl, Nat.le_of_ble_eq_true rfl⟩ ⟨Nat.le_of_ble_eq_true rfl, Nat.le_of_ble_eq_true rfl⟩ rfl rfl (Nat.le_of_ble_eq_true rfl) dX5_sum_19 ?_
        refine g_bipush (v := nI 45) h dX5_sum_22 (by decide) ?_
        refine g_toI (y := 45) rfl ?_
        refine g_icmp_ne h 60 dX5_sum_24 (by decide) (fun c24 => ?_) (fun c24 => ?_)
        · skip
          show G X 0 0 (mW (xT X) o a s (paS S u q)) 60 [(0, .ref o)] []
          have hq : isAdd (lk s q) = false := by simp [isAdd, c15, c24]
          have e : (pSum (pOne u s 3) s) p = (true, q) := e0_lw.trans (pR_n hq)
          refine g_iconst (v := nI 1) h dX5_sum_60 (by decide) ?_
          exact g_zretWv h hE dX5_sum_61 (by rw [e]; rfl) (paW_eq (by rw [e]))
        · skip
          show G X 0 0 (mW (xT X) o a s (paS S u q)) 27 [(0, .ref o)] []
          have hq : isAdd (lk s q) = true := by simp [isAdd, c15, c24]
          have hl := lk_lt (by decide) hq; obtain ⟨m0, rfl⟩ : ∃ k, m = k + 1 := ⟨m - 1, by omega⟩; have a2 := a1.adv hl
          refine g_aload_n h dX5_sum_27 rfl ?_
          refine g_callVR h (m5_look _ _ _ o a s S u q h0 (by first | assumption | omega)) (fun _ q => q) 0 rfl rfl (lw_V q1586 q1588 qs54 q95 q1589) gy_X5_look ⟨Nat.le_of_ble_eq_true rfl, Nat.le_of_ble_eq_true rfl⟩ ⟨Nat.le_of_ble_eq_true rfl, Nat.le_of_ble_eq_true rfl⟩ rfl rfl (Nat.le_of_ble_eq_true rfl) dX5_sum_28 ?_
          refine g_istore_n (lv' := [(0, .ref o), (1, .int (lk s q))]) h dX5_sum_31 (by decide) rfl ?_
          refine g_aload_n h dX5_sum_32 rfl ?_
          refine g_dup h dX5_sum_33 rfl ?_
          refine g_get h in_X5 0 rfl rfl 5 rfl q1379 rfl rfl dX5_sum_34 ?_
          show G X 0 0 (mW (xT X) o a s (paS S u q)) 37 [(0, .ref o), (1, .int (lk s q))] [.int (nI q.1), .ref o]
          refine g_iconst (v := nI 1) h dX5_sum_37 (by decide) ?_
          refine g_iaddN h dX5_sum_38 ?_
          refine g_put (ws' := mW (xT X) o a s (paS S u (adv q))) h hE.1 in_X5 tyX5 tyX5_ok nmX5 0 rfl rfl 5 rfl q1379 rfl rfl rfl rfl rfl rfl dX5_sum_39 rfl ?_
          refine g_aload_n h dX5_sum_42 rfl ?_
          refine g_callVW0 h hE (m5_product_3 _ _ _ o a s S u (adv q) h0 (by first | assumption | omega) (by first | assumption | omega)) 0 rfl rfl (lw_V q1578 q1580 qs52 q95 q1581) gy_X5_product ⟨Nat.le_of_ble_eq_true rfl, Nat.le_of_ble_eq_true rfl⟩ ⟨Nat.le_of_ble_eq_true rfl, Nat.le_of_ble_eq_true rfl⟩ rfl rfl (Nat.le_of_ble_eq_true rfl) dX5_sum_43 (st' := [.int (bI (((pProd (pOne u s 3) s) (adv q)).1))]) rfl (fun _ e43 => ?_)
          subst e43
          show G X 0 0 (mW (xT X) o a s (paS S u (((pProd (pOne u s 3) s) (adv q)).2))) 46 [(0, .ref o), (1, .int (lk s q))] [.int (bI (((pProd (pOne u s 3) s) (adv q)).1))]
          generalize er43 : (pProd (pOne u s 3) s) (adv q) = r43
          refine g_if_neB h 51 dX5_sum_46 (by decide) (fun c46 => ?_) (fun c46 => ?_)
          · skip
            show G X 0 0 (mW (xT X) o a s (paS S u r43.2)) 51 [(0, .ref o), (1, .int (lk s q))] []
            have n0 : OKp s q (true, lay2 3 (lk s q) r43.2) := (by subst er43; exact adv_ok (pProd_ok (pOne_ok u s 3)) 3 (lk s q) hl c46); have n1 := At.ok a1 n0 rfl; have n2 : At s 2 r43.2 := (by subst er43; exact At.ok a2 ((pProd_ok (pOne_ok u s 3)) (adv q) a2.1) c46); have n3 := n2.st h0
            refine g_aload_n h dX5_sum_51 rfl ?_
            refine g_iconst (v := nI 3) h dX5_sum_52 (by decide) ?_
            refine g_iload_n h dX5_sum_53 rfl ?_
            refine g_callVW0 h hE (m5_lays _ _ _ o a s S u r43.2 3 (lk s q) (by first | assumption | omega)) 0 rfl rfl (lw_V q1594 q1596 qs56 q95 q1597) gy_X5_lays ⟨Nat.le_of_ble_eq_true rfl, Nat.le_of_ble_eq_true rfl⟩ ⟨Nat.le_of_ble_eq_true rfl, Nat.le_of_ble_eq_true rfl⟩ rfl rfl (Nat.le_of_ble_eq_true rfl) dX5_sum_54 (st' := []) rfl (fun _ e54 => ?_)
            subst e54
            refine g_goto h 9 dX5_sum_57 (by decide) ?_
            refine g_lv (lv' := [(0, .ref o)]) (lvle_cons rfl (lvle_nil)) ?_
            exact ih_lw (lay2 3 (lk s q) r43.2, m0) (by show m0 < m0 + 1; omega) (by subst er43; exact e0_lw.trans (pR_t hq c46)) n1 (by subst er43; exact mu_ok ((pProd_ok (pOne_ok u s 3)) (adv q) a2.1) hl e2_lw)
          · skip
            show G X 0 0 (mW (xT X) o a s (paS S u r43.2)) 49 [(0, .ref o), (1, .int (lk s q))] []
            have e : (pSum (pOne u s 3) s) p = (false, r43.2) := (by subst er43; exact e0_lw.trans (pR_f hq c46))
            refine g_iconst (v := nI 0) h dX5_sum_49 (by decide) ?_
            exact g_zretWv h hE dX5_sum_50 (by rw [e]; rfl) (paW_eq (by rw [e]))
    exact lw (r1.2, 61) (by subst er1; exact pSum_t c4) a0 (by omega)
  · skip
    show G X 0 0 (mW (xT X) o a s (paS S u r1.2)) 7 [(0, .ref o)] []
    have e : (pSum (pOne u s 3) s) p = (false, r1.2) := (by subst er1; exact pSum_f c4)
    refine g_iconst (v := nI 0) h dX5_sum_7 (by decide) ?_
    exact g_zretWv h hE dX5_sum_8 (by rw [e]; rfl) (paW_eq (by rw [e]))
set_option maxHeartbeats 4000000 in
set_option maxRecDepth 100000 in
theorem m5_compared_3 (l : Launch) (D : va_G) (T : Nat → ClassId) (o : Nat) (a : Nat → Nat) (s : Nat → Int32) (S : Nat → Nat → Int32) (u : Nat) (p : PS) (h0 : Inv s) (h1 : u < 2) (h2 : At s 2 p) : MetW l D T yX5_compared cX5_compared 2 (some .boolean) 22 465 0 0 [.ref o] (mW T o a s (paS S u p)) (fun r_ w_ => r_ = some (.int (bI (((pCmp (pOne u s 3) s) p).1))) ∧ (w_ = mW T o a s (paS S u (((pCmp (pOne u s 3) s) p).2)))) := by
  refine metW (own := RX5) rfl (by decide) rfl (fun X h hl hDx hTx hnm hE => ?_)
  subst hl; subst hDx; subst hTx
  have hnp := h0.npl; have hnt := h0.ntl; have hnq := h0.nql
  have hnc := h0.ncl; have l0 := h2.1; have b0 := h2.2.1; have z0 := h2.2.2; have y0 := h2.st h0
  show G X 0 0 (mW (xT X) o a s (paS S u p)) 0 [(0, .ref o)] []
  refine g_aload_n h dX5_compared_0 rfl ?_
  refine g_callVW0 h hE (m5_sum_3 _ _ _ o a s S u p h0 (by first | assumption | omega) (by first | assumption | omega)) 0 rfl rfl (lw_V q1574 q1576 qs51 q95 q1577) gy_X5_sum ⟨Nat.le_of_ble_eq_true rfl, Nat.le_of_ble_eq_true rfl⟩ ⟨Nat.le_of_ble_eq_true rfl, Nat.le_of_ble_eq_true rfl⟩ rfl rfl (Nat.le_of_ble_eq_true rfl) dX5_compared_1 (st' := [.int (bI (((pSum (pOne u s 3) s) p).1))]) rfl (fun _ e1 => ?_)
  subst e1
  show G X 0 0 (mW (xT X) o a s (paS S u (((pSum (pOne u s 3) s) p).2))) 4 [(0, .ref o)] [.int (bI (((pSum (pOne u s 3) s) p).1))]
  generalize er1 : (pSum (pOne u s 3) s) p = r1
  refine g_if_neB h 9 dX5_compared_4 (by decide) (fun c4 => ?_) (fun c4 => ?_)
  · skip
    show G X 0 0 (mW (xT X) o a s (paS S u r1.2)) 9 [(0, .ref o)] []
    have a1 : At s 2 r1.2 := (by subst er1; exact h2.ok ((pSum_ok (pOne_ok u s 3)) p l0) c4); have l1 := a1.1
    refine g_aload_n h dX5_compared_9 rfl ?_
    refine g_callVR h (m5_look _ _ _ o a s S u r1.2 h0 (by first | assumption | omega)) (fun _ q => q) 0 rfl rfl (lw_V q1586 q1588 qs54 q95 q1589) gy_X5_look ⟨Nat.le_of_ble_eq_true rfl, Nat.le_of_ble_eq_true rfl⟩ ⟨Nat.le_of_ble_eq_true rfl, Nat.le_of_ble_eq_true rfl⟩ rfl rfl (Nat.le_of_ble_eq_true rfl) dX5_compared_10 ?_
    refine g_istore_n (lv' := [(0, .ref o), (1, .int (lk s r1.2))]) h dX5_compared_13 (by decide) rfl ?_
    refine g_iload_n h dX5_compared_14 rfl ?_
    refine g_bipush (v := nI 60) h dX5_compared_15 (by decide) ?_
    refine g_toI (y := 60) rfl ?_
    refine g_icmp_eq h 34 dX5_compared_17 (by decide) (fun c17 => ?_) (fun c17 => ?_)
    · skip
      show G X 0 0 (mW (xT X) o a s (paS S u r1.2)) 34 [(0, .ref o), (1, .int (lk s r1.2))] []
      have hq : isCmp (lk s r1.2) = true := by simp [isCmp, c17]
      have hl := lk_lt (by decide) hq; have a2 := a1.adv hl
      refine g_aload_n h dX5_compared_34 rfl ?_
      refine g_dup h dX5_compared_35 rfl ?_
      refine g_get h in_X5 0 rfl rfl 5 rfl q1379 rfl rfl dX5_compared_36 ?_
      show G X 0 0 (mW (xT X) o a s (paS S u r1.2)) 39 [(0, .ref o), (1, .int (lk s r1.2))] [.int (nI r1.2.1), .ref o]
      refine g_iconst (v := nI 1) h dX5_compared_39 (by decide) ?_
      refine g_iaddN h dX5_compared_40 ?_
      refine g_put (ws' := mW (xT X) o a s (paS S u (adv r1.2))) h hE.1 in_X5 tyX5 tyX5_ok nmX5 0 rfl rfl 5 rfl q1379 rfl rfl rfl rfl rfl rfl dX5_compared_41 rfl ?_
      refine g_aload_n h dX5_compared_44 rfl ?_
      refine g_callVW0 h hE (m5_sum_3 _ _ _ o a s S u (adv r1.2) h0 (by first | assumption | omega) (by first | assumption | omega)) 0 rfl rfl (lw_V q1574 q1576 qs51 q95 q1577) gy_X5_sum ⟨Nat.le_of_ble_eq_true rfl, Nat.le_of_ble_eq_true rfl⟩ ⟨Nat.le_of_ble_eq_true rfl, Nat.le_of_ble_eq_true rfl⟩ rfl rfl (Nat.le_of_ble_eq_true rfl) dX5_compared_45 (st' := [.int (bI (((pSum (pOne u s 3) s) (adv r1.2)).1))]) rfl (fun _ e45 => ?_)
      subst e45
      show G X 0 0 (mW (xT X) o a s (paS S u (((pSum (pOne u s 3) s) (adv r1.2)).2))) 48 [(0, .ref o), (1, .int (lk s r1.2))] [.int (bI (((pSum (pOne u s 3) s) (adv r1.2)).1))]
      generalize er45 : (pSum (pOne u s 3) s) (adv r1.2) = r45
      refine g_if_neB h 53 dX5_compared_48 (by decide) (fun c48 => ?_) (fun c48 => ?_)
      · skip
        show G X 0 0 (mW (xT X) o a s (paS S u r45.2)) 53 [(0, .ref o), (1, .int (lk s r1.2))] []
        have e : (pCmp (pOne u s 3) s) p = (true, lay2 3 (lk s r1.2) r45.2) := (by subst er45; subst er1; exact pCmp_t c4 hq c48); have n2 : At s 2 r45.2 := (by subst er45; exact At.ok a2 ((pSum_ok (pOne_ok u s 3)) (adv r1.2) a2.1) c48); have n3 := n2.st h0
        refine g_aload_n h dX5_compared_53 rfl ?_
        refine g_iconst (v := nI 3) h dX5_compared_54 (by decide) ?_
        refine g_iload_n h dX5_compared_55 rfl ?_
        refine g_callVW0 h hE (m5_lays _ _ _ o a s S u r45.2 3 (lk s r1.2) (by first | assumption | omega)) 0 rfl rfl (lw_V q1594 q1596 qs56 q95 q1597) gy_X5_lays ⟨Nat.le_of_ble_eq_true rfl, Nat.le_of_ble_eq_true rfl⟩ ⟨Nat.le_of_ble_eq_true rfl, Nat.le_of_ble_eq_true rfl⟩ rfl rfl (Nat.le_of_ble_eq_true rfl) dX5_compared_56 (st' := []) rfl (fun _ e56 => ?_)
        subst e56
        refine g_iconst (v := nI 1) h dX5_compared_59 (by decide) ?_
        exact g_zretWv h hE dX5_compared_60 (by rw [e]; rfl) (paW_eq (by rw [e]))
      · skip
        show G X 0 0 (mW (xT X) o a s (paS S u r45.2)) 51 [(0, .ref o), (1, .int (lk s r1.2))] []
        have e : (pCmp (pOne u s 3) s) p = (false, r45.2) := (by subst er45; subst er1; exact pCmp_e c4 hq c48)
        refine g_iconst (v := nI 0) h dX5_compared_51 (by decide) ?_
        exact g_zretWv h hE dX5_compared_52 (by rw [e]; rfl) (paW_eq (by rw [e]))
    · skip
      show G X 0 0 (mW (xT X) o a s (paS S u r1.2)) 20 [(0, .ref o), (1, .int (lk s r1.2))] []
      refine g_iload_n h dX5_compared_20 rfl ?_
      refine g_bipush (v := nI 61) h dX5_compared_21 (by decide) ?_
      refine g_toI (y := 61) rfl ?_
      refine g_icmp_eq h 34 dX5_compared_23 (by decide) (fun c23 => ?_) (fun c23 => ?_)
      · skip
        show G X 0 0 (mW (xT X) o a s (paS S u r1.2)) 34 [(0, .ref o), (1, .int (lk s r1.2))] []
        have hq : isCmp (lk s r1.2) = true := by simp [isCmp, c17, c23]
        have hl := lk_lt (by decide) hq; have a2 := a1.adv hl
        refine g_aload_n h dX5_compared_34 rfl ?_
        refine g_dup h dX5_compared_35 rfl ?_
        refine g_get h in_X5 0 rfl rfl 5 rfl q1379 rfl rfl dX5_compared_36 ?_
        show G X 0 0 (mW (xT X) o a s (paS S u r1.2)) 39 [(0, .ref o), (1, .int (lk s r1.2))] [.int (nI r1.2.1), .ref o]
        refine g_iconst (v := nI 1) h dX5_compared_39 (by decide) ?_
        refine g_iaddN h dX5_compared_40 ?_
        refine g_put (ws' := mW (xT X) o a s (paS S u (adv r1.2))) h hE.1 in_X5 tyX5 tyX5_ok nmX5 0 rfl rfl 5 rfl q1379 rfl rfl rfl rfl rfl rfl dX5_compared_41 rfl ?_
        refine g_aload_n h dX5_compared_44 rfl ?_
        refine g_callVW0 h hE (m5_sum_3 _ _ _ o a s S u (adv r1.2) h0 (by first | assumption | omega) (by first | assumption | omega)) 0 rfl rfl (lw_V q1574 q1576 qs51 q95 q1577) gy_X5_sum ⟨Nat.le_of_ble_eq_true rfl, Nat.le_of_ble_eq_true rfl⟩ ⟨Nat.le_of_ble_eq_true rfl, Nat.le_of_ble_eq_true rfl⟩ rfl rfl (Nat.le_of_ble_eq_true rfl) dX5_compared_45 (st' := [.int (bI (((pSum (pOne u s 3) s) (adv r1.2)).1))]) rfl (fun _ e45 => ?_)
        subst e45
        show G X 0 0 (mW (xT X) o a s (paS S u (((pSum (pOne u s 3) s) (adv r1.2)).2))) 48 [(0, .ref o), (1, .int (lk s r1.2))] [.int (bI (((pSum (pOne u s 3) s) (adv r1.2)).1))]
        generalize er45 : (pSum (pOne u s 3) s) (adv r1.2) = r45
        refine g_if_neB h 53 dX5_compared_48 (by decide) (fun c48 => ?_) (fun c48 => ?_)
        · skip
          show G X 0 0 (mW (xT X) o a s (paS S u r45.2)) 53 [(0, .ref o), (1, .int (lk s r1.2))] []
          have e : (pCmp (pOne u s 3) s) p = (true, lay2 3 (lk s r1.2) r45.2) := (by subst er45; subst er1; exact pCmp_t c4 hq c48); have n2 : At s 2 r45.2 := (by subst er45; exact At.ok a2 ((pSum_ok (pOne_ok u s 3)) (adv r1.2) a2.1) c48); have n3 := n2.st h0
          refine g_aload_n h dX5_compared_53 rfl ?_
          refine g_iconst (v := nI 3) h dX5_compared_54 (by decide) ?_
          refine g_iload_n h dX5_compared_55 rfl ?_
          refine g_callVW0 h hE (m5_lays _ _ _ o a s S u r45.2 3 (lk s r1.2) (by first | assumption | omega)) 0 rfl rfl (lw_V q1594 q1596 qs56 q95 q1597) gy_X5_lays ⟨Nat.le_of_ble_eq_true rfl, Nat.le_of_ble_eq_true rfl⟩ ⟨Nat.le_of_ble_eq_true rfl, Nat.le_of_ble_eq_true rfl⟩ rfl rfl (Nat.le_of_ble_eq_true rfl) dX5_compared_56 (st' := []) rfl (fun _ e56 => ?_)
          subst e56
          refine g_iconst (v := nI 1) h dX5_compared_59 (by decide) ?_
          exact g_zretWv h hE dX5_compared_60 (by rw [e]; rfl) (paW_eq (by rw [e]))
        · skip
          show G X 0 0 (mW (xT X) o a s (paS S u r45.2)) 51 [(0, .ref o), (1, .int (lk s r1.2))] []
          have e : (pCmp (pOne u s 3) s) p = (false, r45.2) := (by subst er45; subst er1; exact pCmp_e c4 hq c48)
          refine g_iconst (v := nI 0) h dX5_compared_51 (by decide) ?_
          exact g_zretWv h hE dX5_compared_52 (by rw [e]; rfl) (paW_eq (by rw [e]))
      · skip
        show G X 0 0 (mW (xT X) o a s (paS S u r1.2)) 26 [(0, .ref o), (1, .int (lk s r1.2))] []
        refine g_iload_n h dX5_compared_26 rfl ?_
        refine g_bipush (v := nI 62) h dX5_compared_27 (by decide) ?_
        refine g_toI (y := 62) rfl ?_
        refine g_icmp_eq h 34 dX5_compared_29 (by decide) (fun c29 => ?_) (fun c29 => ?_)
        · skip
          show G X 0 0 (mW (xT X) o a s (paS S u r1.2)) 34 [(0, .ref o), (1, .int (lk s r1.2))] []
          have hq : isCmp (lk s r1.2) = true := by simp [isCmp, c17, c23, c29]
          have hl := lk_lt (by decide) hq; have a2 := a1.adv hl
          refine g_aload_n h dX5_compared_34 rfl ?_
          refine g_dup h dX5_compared_35 rfl ?_
          refine g_get h in_X5 0 rfl rfl 5 rfl q1379 rfl rfl dX5_compared_36 ?_
          show G X 0 0 (mW (xT X) o a s (paS S u r1.2)) 39 [(0, .ref o), (1, .int (lk s r1.2))] [.int (nI r1.2.1), .ref o]
          refine g_iconst (v := nI 1) h dX5_compared_39 (by decide) ?_
          refine g_iaddN h dX5_compared_40 ?_
          refine g_put (ws' := mW (xT X) o a s (paS S u (adv r1.2))) h hE.1 in_X5 tyX5 tyX5_ok nmX5 0 rfl rfl 5 rfl q1379 rfl rfl rfl rfl rfl rfl dX5_compared_41 rfl ?_
          refine g_aload_n h dX5_compared_44 rfl ?_
          refine g_callVW0 h hE (m5_sum_3 _ _ _ o a s S u (adv r1.2) h0 (by first | assumption | omega) (by first | assumption | omega)) 0 rfl rfl (lw_V q1574 q1576 qs51 q95 q1577) gy_X5_sum ⟨Nat.le_of_ble_eq_true rfl, Nat.le_of_ble_eq_true rfl⟩ ⟨Nat.le_of_ble_eq_true rfl, Nat.le_of_ble_eq_true rfl⟩ rfl rfl (Nat.le_of_ble_eq_true rfl) dX5_compared_45 (st' := [.int (bI (((pSum (pOne u s 3) s) (adv r1.2)).1))]) rfl (fun _ e45 => ?_)
          subst e45
          show G X 0 0 (mW (xT X) o a s (paS S u (((pSum (pOne u s 3) s) (adv r1.2)).2))) 48 [(0, .ref o), (1, .int (lk s r1.2))] [.int (bI (((pSum (pOne u s 3) s) (adv r1.2)).1))]
          generalize er45 : (pSum (pOne u s 3) s) (adv r1.2) = r45
          refine g_if_neB h 53 dX5_compared_48 (by decide) (fun c48 => ?_) (fun c48 => ?_)
          · skip
            show G X 0 0 (mW (xT X) o a s (paS S u r45.2)) 53 [(0, .ref o), (1, .int (lk s r1.2))] []
            have e : (pCmp (pOne u s 3) s) p = (true, lay2 3 (lk s r1.2) r45.2) := (by subst er45; subst er1; exact pCmp_t c4 hq c48); have n2 : At s 2 r45.2 := (by subst er45; exact At.ok a2 ((pSum_ok (pOne_ok u s 3)) (adv r1.2) a2.1) c48); have n3 := n2.st h0
            refine g_aload_n h dX5_compared_53 rfl ?_
            refine g_iconst (v := nI 3) h dX5_compared_54 (by decide) ?_
            refine g_iload_n h dX5_compared_55 rfl ?_
            refine g_callVW0 h hE (m5_lays _ _ _ o a s S u r45.2 3 (lk s r1.2) (by first | assumption | omega)) 0 rfl rfl (lw_V q1594 q1596 qs56 q95 q1597) gy_X5_lays ⟨Nat.le_of_ble_eq_true rfl, Nat.le_of_ble_eq_true rfl⟩ ⟨Nat.le_of_ble_eq_true rfl, Nat.le_of_ble_eq_true rfl⟩ rfl rfl (Nat.le_of_ble_eq_true rfl) dX5_compared_56 (st' := []) rfl (fun _ e56 => ?_)
            subst e56
            refine g_iconst (v := nI 1) h dX5_compared_59 (by decide) ?_
            exact g_zretWv h hE dX5_compared_60 (by rw [e]; rfl) (paW_eq (by rw [e]))
          · skip
            show G X 0 0 (mW (xT X) o a s (paS S u r45.2)) 51 [(0, .ref o), (1, .int (lk s r1.2))] []
            have e : (pCmp (pOne u s 3) s) p = (false, r45.2) := (by subst er45; subst er1; exact pCmp_e c4 hq c48)
            refine g_iconst (v := nI 0) h dX5_compared_51 (by decide) ?_
            exact g_zretWv h hE dX5_compared_52 (by rw [e]; rfl) (paW_eq (by rw [e]))
        · skip
          show G X 0 0 (mW (xT X) o a s (paS S u r1.2)) 32 [(0, .ref o), (1, .int (lk s r1.2))] []
          have hq : isCmp (lk s r1.2) = false := by simp [isCmp, c17, c23, c29]
          have e : (pCmp (pOne u s 3) s) p = (true, r1.2) := (by subst er1; exact pCmp_n c4 hq)
          refine g_iconst (v := nI 1) h dX5_compared_32 (by decide) ?_
          exact g_zretWv h hE dX5_compared_33 (by rw [e]; rfl) (paW_eq (by rw [e]))
  · skip
    show G X 0 0 (mW (xT X) o a s (paS S u r1.2)) 7 [(0, .ref o)] []
    have e : (pCmp (pOne u s 3) s) p = (false, r1.2) := (by subst er1; exact pCmp_f c4)
    refine g_iconst (v := nI 0) h dX5_compared_7 (by decide) ?_
    exact g_zretWv h hE dX5_compared_8 (by rw [e]; rfl) (paW_eq (by rw [e]))
set_option maxHeartbeats 4000000 in
set_option maxRecDepth 100000 in
theorem m5_both_3 (l : Launch) (D : va_G) (T : Nat → ClassId) (o : Nat) (a : Nat → Nat) (s : Nat → Int32) (S : Nat → Nat → Int32) (u : Nat) (p : PS) (h0 : Inv s) (h1 : u < 2) (h2 : At s 2 p) : MetW l D T yX5_both cX5_both 1 (some .boolean) 23 486 0 0 [.ref o] (mW T o a s (paS S u p)) (fun r_ w_ => r_ = some (.int (bI (((pBoth (pOne u s 3) s) p).1))) ∧ (w_ = mW T o a s (paS S u (((pBoth (pOne u s 3) s) p).2)))) := by
  refine metW (own := RX5) rfl (by decide) rfl (fun X h hl hDx hTx hnm hE => ?_)
  subst hl; subst hDx; subst hTx
  have hnp := h0.npl; have hnt := h0.ntl; have hnq := h0.nql
  have hnc := h0.ncl; have l0 := h2.1; have b0 := h2.2.1; have z0 := h2.2.2; have y0 := h2.st h0
  show G X 0 0 (mW (xT X) o a s (paS S u p)) 0 [(0, .ref o)] []
  refine g_aload_n h dX5_both_0 rfl ?_
  refine g_callVW0 h hE (m5_compared_3 _ _ _ o a s S u p h0 (by first | assumption | omega) (by first | assumption | omega)) 0 rfl rfl (lw_V q1570 q1572 qs50 q95 q1573) gy_X5_compared ⟨Nat.le_of_ble_eq_true rfl, Nat.le_of_ble_eq_true rfl⟩ ⟨Nat.le_of_ble_eq_true rfl, Nat.le_of_ble_eq_true rfl⟩ rfl rfl (Nat.le_of_ble_eq_true rfl) dX5_both_1 (st' := [.int (bI (((pCmp (pOne u s 3) s) p).1))]) rfl (fun _ e1 => ?_)
  subst e1
  show G X 0 0 (mW (xT X) o a s (paS S u (((pCmp (pOne u s 3) s) p).2))) 4 [(0, .ref o)] [.int (bI (((pCmp (pOne u s 3) s) p).1))]
  generalize er1 : (pCmp (pOne u s 3) s) p = r1
  refine g_if_neB h 9 dX5_both_4 (by decide) (fun c4 => ?_) (fun c4 => ?_)
  · skip
    show G X 0 0 (mW (xT X) o a s (paS S u r1.2)) 9 [(0, .ref o)] []
    have a0 : At s 2 r1.2 := (by subst er1; exact h2.ok ((pCmp_ok (pOne_ok u s 3)) p l0) c4); have l1 := a0.1
    have lw : ∀ q_ : (PS) × (Nat), (match q_ with | (q, m) => ((pBoth (pOne u s 3) s) p = pR (pCmp (pOne u s 3) s) s isAnd m q) → (At s 2 q) → (nC s - q.1 < m) → G X 0 0 (mW (xT X) o a s (paS S u q)) 9 [(0, .ref o)] []) := by
      refine g_rec (fun q_ => match q_ with | (q, m) => m) ?_
      rintro ⟨q, m⟩ ih_lw e0_lw e1_lw e2_lw
      skip
      have a1 := e1_lw; have l2 := a1.1; have y2 := a1.st h0
      refine g_aload_n h dX5_both_9 rfl ?_
      refine g_callVR h (m5_look _ _ _ o a s S u q h0 (by first | assumption | omega)) (fun _ q => q) 0 rfl rfl (lw_V q1586 q1588 qs54 q95 q1589) gy_X5_look ⟨Nat.le_of_ble_eq_true rfl, Nat.le_of_ble_eq_true rfl⟩ ⟨Nat.le_of_ble_eq_true rfl, Nat.le_of_ble_eq_true rfl⟩ rfl rfl (Nat.le_of_ble_eq_true rfl) dX5_both_10 ?_
      refine g_bipush (v := nI 38) h dX5_both_13 (by decide) ?_
      refine g_toI (y := 38) rfl ?_
      refine g_icmp_ne h 47 dX5_both_15 (by decide) (fun c15 => ?_) (fun c15 => ?_)
      · skip
        show G X 0 0 (mW (xT X) o a s (paS S u q)) 47 [(0, .ref o)] []
        have hq : isAnd (lk s q) = false := by simp [isAnd, c15]
        have e : (pBoth (pOne u s 3) s) p = (true, q) := e0_lw.trans (pR_n hq)
        refine g_iconst (v := nI 1) h dX5_both_47 (by decide) ?_
        exact g_zretWv h hE dX5_both_48 (by rw [e]; rfl) (paW_eq (by rw [e]))
      · skip
        show G X 0 0 (mW (xT X) o a s (paS S u q)) 18 [(0, .ref o)] []
        have hq : isAnd (lk s q) = true := by simp [isAnd, c15]
        have hl := lk_lt (by decide) hq; obtain ⟨m0, rfl⟩ : ∃ k, m = k + 1 := ⟨m - 1, by omega⟩; have a2 := a1.adv hl
        refine g_aload_n h dX5_both_18 rfl ?_
        refine g_dup h dX5_both_19 rfl ?_
        refine g_get h in_X5 0 rfl rfl 5 rfl q1379 rfl rfl dX5_both_20 ?_
        show G X 0 0 (mW (xT X) o a s (paS S u q)) 23 [(0, .ref o)] [.int (nI q.1), .ref o]
        refine g_iconst (v := nI 1) h dX5_both_23 (by decide) ?_
        refine g_iaddN h dX5_both_24 ?_
        refine g_put (ws' := mW (xT X) o a s (paS S u (adv q))) h hE.1 in_X5 tyX5 tyX5_ok nmX5 0 rfl rfl 5 rfl q1379 rfl rfl rfl rfl rfl rfl dX5_both_25 rfl ?_
        refine g_aload_n h dX5_both_28 rfl ?_
        refine g_callVW0 h hE (m5_compared_3 _ _ _ o a s S u (adv q) h0 (by first | assumption | omega) (by first | assumption | omega)) 0 rfl rfl (lw_V q1570 q1572 qs50 q95 q1573) gy_X5_compared ⟨Nat.le_of_ble_eq_true rfl, Nat.le_of_ble_eq_true rfl⟩ ⟨Nat.le_of_ble_eq_true rfl, Nat.le_of_ble_eq_true rfl⟩ rfl rfl (Nat.le_of_ble_eq_true rfl) dX5_both_29 (st' := [.int (bI (((pCmp (pOne u s 3) s) (adv q)).1))]) rfl (fun _ e29 => ?_)
        subst e29
        show G X 0 0 (mW (xT X) o a s (paS S u (((pCmp (pOne u s 3) s) (adv q)).2))) 32 [(0, .ref o)] [.int (bI (((pCmp (pOne u s 3) s) (adv q)).1))]
        generalize er29 : (pCmp (pOne u s 3) s) (adv q) = r29
        refine g_if_neB h 37 dX5_both_32 (by decide) (fun c32 => ?_) (fun c32 => ?_)
        · skip
          show G X 0 0 (mW (xT X) o a s (paS S u r29.2)) 37 [(0, .ref o)] []
          have n0 : OKp s q (true, lay2 3 (lk s q) r29.2) := (by subst er29; exact adv_ok (pCmp_ok (pOne_ok u s 3)) 3 (lk s q) hl c32); have n1 := At.ok a1 n0 rfl; have n2 : At s 2 r29.2 := (by subst er29; exact At.ok a2 ((pCmp_ok (pOne_ok u s 3)) (adv q) a2.1) c32); have n3 := n2.st h0
          refine g_aload_n h dX5_both_37 rfl ?_
          refine g_iconst (v := nI 3) h dX5_both_38 (by decide) ?_
          refine g_bipush (v := nI 38) h dX5_both_39 (by decide) ?_
          refine g_toI (y := lk s q) c15.symm ?_
          refine g_callVW0 h hE (m5_lays _ _ _ o a s S u r29.2 3 (lk s q) (by first | assumption | omega)) 0 rfl rfl (lw_V q1594 q1596 qs56 q95 q1597) gy_X5_lays ⟨Nat.le_of_ble_eq_true rfl, Nat.le_of_ble_eq_true rfl⟩ ⟨Nat.le_of_ble_eq_true rfl, Nat.le_of_ble_eq_true rfl⟩ rfl rfl (Nat.le_of_ble_eq_true rfl) dX5_both_41 (st' := []) rfl (fun _ e41 => ?_)
          subst e41
          refine g_goto h 9 dX5_both_44 (by decide) ?_
          exact ih_lw (lay2 3 (lk s q) r29.2, m0) (by show m0 < m0 + 1; omega) (by subst er29; exact e0_lw.trans (pR_t hq c32)) n1 (by subst er29; exact mu_ok ((pCmp_ok (pOne_ok u s 3)) (adv q) a2.1) hl e2_lw)
        · skip
          show G X 0 0 (mW (xT X) o a s (paS S u r29.2)) 35 [(0, .ref o)] []
          have e : (pBoth (pOne u s 3) s) p = (false, r29.2) := (by subst er29; exact e0_lw.trans (pR_f hq c32))
          refine g_iconst (v := nI 0) h dX5_both_35 (by decide) ?_
          exact g_zretWv h hE dX5_both_36 (by rw [e]; rfl) (paW_eq (by rw [e]))
    exact lw (r1.2, 61) (by subst er1; exact pBoth_t c4) a0 (by omega)
  · skip
    show G X 0 0 (mW (xT X) o a s (paS S u r1.2)) 7 [(0, .ref o)] []
    have e : (pBoth (pOne u s 3) s) p = (false, r1.2) := (by subst er1; exact pBoth_f c4)
    refine g_iconst (v := nI 0) h dX5_both_7 (by decide) ?_
    exact g_zretWv h hE dX5_both_8 (by rw [e]; rfl) (paW_eq (by rw [e]))
set_option maxHeartbeats 4000000 in
set_option maxRecDepth 100000 in
theorem m5_whole_3 (l : Launch) (D : va_G) (T : Nat → ClassId) (o : Nat) (a : Nat → Nat) (s : Nat → Int32) (S : Nat → Nat → Int32) (u : Nat) (p : PS) (h0 : Inv s) (h1 : u < 2) (h2 : At s 2 p) : MetW l D T yX5_whole cX5_whole 1 (some .boolean) 24 506 0 0 [.ref o] (mW T o a s (paS S u p)) (fun r_ w_ => r_ = some (.int (bI (((pWhole (pOne u s 3) s) p).1))) ∧ (w_ = mW T o a s (paS S u (((pWhole (pOne u s 3) s) p).2)))) := by
  refine metW (own := RX5) rfl (by decide) rfl (fun X h hl hDx hTx hnm hE => ?_)
  subst hl; subst hDx; subst hTx
  have hnp := h0.npl; have hnt := h0.ntl; have hnq := h0.nql
  have hnc := h0.ncl; have l0 := h2.1; have b0 := h2.2.1; have z0 := h2.2.2; have y0 := h2.st h0
  show G X 0 0 (mW (xT X) o a s (paS S u p)) 0 [(0, .ref o)] []
  refine g_aload_n h dX5_whole_0 rfl ?_
  refine g_callVW0 h hE (m5_both_3 _ _ _ o a s S u p h0 (by first | assumption | omega) (by first | assumption | omega)) 0 rfl rfl (lw_V q1566 q1568 qs49 q95 q1569) gy_X5_both ⟨Nat.le_of_ble_eq_true rfl, Nat.le_of_ble_eq_true rfl⟩ ⟨Nat.le_of_ble_eq_true rfl, Nat.le_of_ble_eq_true rfl⟩ rfl rfl (Nat.le_of_ble_eq_true rfl) dX5_whole_1 (st' := [.int (bI (((pBoth (pOne u s 3) s) p).1))]) rfl (fun _ e1 => ?_)
  subst e1
  show G X 0 0 (mW (xT X) o a s (paS S u (((pBoth (pOne u s 3) s) p).2))) 4 [(0, .ref o)] [.int (bI (((pBoth (pOne u s 3) s) p).1))]
  generalize er1 : (pBoth (pOne u s 3) s) p = r1
  refine g_if_neB h 9 dX5_whole_4 (by decide) (fun c4 => ?_) (fun c4 => ?_)
  · skip
    show G X 0 0 (mW (xT X) o a s (paS S u r1.2)) 9 [(0, .ref o)] []
    have a0 : At s 2 r1.2 := (by subst er1; exact h2.ok ((pBoth_ok (pOne_ok u s 3)) p l0) c4); have l1 := a0.1
    have lw : ∀ q_ : (PS) × (Nat), (match q_ with | (q, m) => ((pWhole (pOne u s 3) s) p = pR (pBoth (pOne u s 3) s) s isOr m q) → (At s 2 q) → (nC s - q.1 < m) → G X 0 0 (mW (xT X) o a s (paS S u q)) 9 [(0, .ref o)] []) := by
      refine g_rec (fun q_ => match q_ with | (q, m) => m) ?_
      rintro ⟨q, m⟩ ih_lw e0_lw e1_lw e2_lw
      skip
      have a1 := e1_lw; have l2 := a1.1; have y2 := a1.st h0
      refine g_aload_n h dX5_whole_9 rfl ?_
      refine g_callVR h (m5_look _ _ _ o a s S u q h0 (by first | assumption | omega)) (fun _ q => q) 0 rfl rfl (lw_V q1586 q1588 qs54 q95 q1589) gy_X5_look ⟨Nat.le_of_ble_eq_true rfl, Nat.le_of_ble_eq_true rfl⟩ ⟨Nat.le_of_ble_eq_true rfl, Nat.le_of_ble_eq_true rfl⟩ rfl rfl (Nat.le_of_ble_eq_true rfl) dX5_whole_10 ?_
      refine g_bipush (v := nI 124) h dX5_whole_13 (by decide) ?_
      refine g_toI (y := 124) rfl ?_
      refine g_icmp_ne h 47 dX5_whole_15 (by decide) (fun c15 => ?_) (fun c15 => ?_)
      · skip
        show G X 0 0 (mW (xT X) o a s (paS S u q)) 47 [(0, .ref o)] []
        have hq : isOr (lk s q) = false := by simp [isOr, c15]
        have e : (pWhole (pOne u s 3) s) p = (true, q) := e0_lw.trans (pR_n hq)
        refine g_iconst (v := nI 1) h dX5_whole_47 (by decide) ?_
        exact g_zretWv h hE dX5_whole_48 (by rw [e]; rfl) (paW_eq (by rw [e]))
      · skip
        show G X 0 0 (mW (xT X) o a s (paS S u q)) 18 [(0, .ref o)] []
        have hq : isOr (lk s q) = true := by simp [isOr, c15]
        have hl := lk_lt (by decide) hq; obtain ⟨m0, rfl⟩ : ∃ k, m = k + 1 := ⟨m - 1, by omega⟩; have a2 := a1.adv hl
        refine g_aload_n h dX5_whole_18 rfl ?_
        refine g_dup h dX5_whole_19 rfl ?_
        refine g_get h in_X5 0 rfl rfl 5 rfl q1379 rfl rfl dX5_whole_20 ?_
        show G X 0 0 (mW (xT X) o a s (paS S u q)) 23 [(0, .ref o)] [.int (nI q.1), .ref o]
        refine g_iconst (v := nI 1) h dX5_whole_23 (by decide) ?_
        refine g_iaddN h dX5_whole_24 ?_
        refine g_put (ws' := mW (xT X) o a s (paS S u (adv q))) h hE.1 in_X5 tyX5 tyX5_ok nmX5 0 rfl rfl 5 rfl q1379 rfl rfl rfl rfl rfl rfl dX5_whole_25 rfl ?_
        refine g_aload_n h dX5_whole_28 rfl ?_
        refine g_callVW0 h hE (m5_both_3 _ _ _ o a s S u (adv q) h0 (by first | assumption | omega) (by first | assumption | omega)) 0 rfl rfl (lw_V q1566 q1568 qs49 q95 q1569) gy_X5_both ⟨Nat.le_of_ble_eq_true rfl, Nat.le_of_ble_eq_true rfl⟩ ⟨Nat.le_of_ble_eq_true rfl, Nat.le_of_ble_eq_true rfl⟩ rfl rfl (Nat.le_of_ble_eq_true rfl) dX5_whole_29 (st' := [.int (bI (((pBoth (pOne u s 3) s) (adv q)).1))]) rfl (fun _ e29 => ?_)
        subst e29
        show G X 0 0 (mW (xT X) o a s (paS S u (((pBoth (pOne u s 3) s) (adv q)).2))) 32 [(0, .ref o)] [.int (bI (((pBoth (pOne u s 3) s) (adv q)).1))]
        generalize er29 : (pBoth (pOne u s 3) s) (adv q) = r29
        refine g_if_neB h 37 dX5_whole_32 (by decide) (fun c32 => ?_) (fun c32 => ?_)
        · skip
          show G X 0 0 (mW (xT X) o a s (paS S u r29.2)) 37 [(0, .ref o)] []
          have n0 : OKp s q (true, lay2 3 (lk s q) r29.2) := (by subst er29; exact adv_ok (pBoth_ok (pOne_ok u s 3)) 3 (lk s q) hl c32); have n1 := At.ok a1 n0 rfl; have n2 : At s 2 r29.2 := (by subst er29; exact At.ok a2 ((pBoth_ok (pOne_ok u s 3)) (adv q) a2.1) c32); have n3 := n2.st h0
          refine g_aload_n h dX5_whole_37 rfl ?_
          refine g_iconst (v := nI 3) h dX5_whole_38 (by decide) ?_
          refine g_bipush (v := nI 124) h dX5_whole_39 (by decide) ?_
          refine g_toI (y := lk s q) c15.symm ?_
          refine g_callVW0 h hE (m5_lays _ _ _ o a s S u r29.2 3 (lk s q) (by first | assumption | omega)) 0 rfl rfl (lw_V q1594 q1596 qs56 q95 q1597) gy_X5_lays ⟨Nat.le_of_ble_eq_true rfl, Nat.le_of_ble_eq_true rfl⟩ ⟨Nat.le_of_ble_eq_true rfl, Nat.le_of_ble_eq_true rfl⟩ rfl rfl (Nat.le_of_ble_eq_true rfl) dX5_whole_41 (st' := []) rfl (fun _ e41 => ?_)
          subst e41
          refine g_goto h 9 dX5_whole_44 (by decide) ?_
          exact ih_lw (lay2 3 (lk s q) r29.2, m0) (by show m0 < m0 + 1; omega) (by subst er29; exact e0_lw.trans (pR_t hq c32)) n1 (by subst er29; exact mu_ok ((pBoth_ok (pOne_ok u s 3)) (adv q) a2.1) hl e2_lw)
        · skip
          show G X 0 0 (mW (xT X) o a s (paS S u r29.2)) 35 [(0, .ref o)] []
          have e : (pWhole (pOne u s 3) s) p = (false, r29.2) := (by subst er29; exact e0_lw.trans (pR_f hq c32))
          refine g_iconst (v := nI 0) h dX5_whole_35 (by decide) ?_
          exact g_zretWv h hE dX5_whole_36 (by rw [e]; rfl) (paW_eq (by rw [e]))
    exact lw (r1.2, 61) (by subst er1; exact pWhole_t c4) a0 (by omega)
  · skip
    show G X 0 0 (mW (xT X) o a s (paS S u r1.2)) 7 [(0, .ref o)] []
    have e : (pWhole (pOne u s 3) s) p = (false, r1.2) := (by subst er1; exact pWhole_f c4)
    refine g_iconst (v := nI 0) h dX5_whole_7 (by decide) ?_
    exact g_zretWv h hE dX5_whole_8 (by rw [e]; rfl) (paW_eq (by rw [e]))
set_option maxHeartbeats 4000000 in
set_option maxRecDepth 100000 in
theorem m5_one_4 (l : Launch) (D : va_G) (T : Nat → ClassId) (o : Nat) (a : Nat → Nat) (s : Nat → Int32) (S : Nat → Nat → Int32) (u : Nat) (p : PS) (h0 : Inv s) (h1 : u < 2) (h2 : At s 1 p) : MetW l D T yX5_one cX5_one 4 (some .boolean) 25 526 0 0 [.ref o] (mW T o a s (paS S u p)) (fun r_ w_ => r_ = some (.int (bI (((pOne u s 4) p).1))) ∧ (w_ = mW T o a s (paS S u (((pOne u s 4) p).2)))) := by
  refine metW (own := RX5) rfl (by decide) rfl (fun X h hl hDx hTx hnm hE => ?_)
  subst hl; subst hDx; subst hTx
  have hnp := h0.npl; have hnt := h0.ntl; have hnq := h0.nql
  have hnc := h0.ncl; have l0 := h2.1; have b0 := h2.2.1; have z0 := h2.2.2; have y0 := h2.st h0
  show G X 0 0 (mW (xT X) o a s (paS S u p)) 0 [(0, .ref o)] []
  refine g_aload_n h dX5_one_0 rfl ?_
  refine g_callVR h (m5_look _ _ _ o a s S u p h0 (by first | assumption | omega)) (fun _ q => q) 0 rfl rfl (lw_V q1586 q1588 qs54 q95 q1589) gy_X5_look ⟨Nat.le_of_ble_eq_true rfl, Nat.le_of_ble_eq_true rfl⟩ ⟨Nat.le_of_ble_eq_true rfl, Nat.le_of_ble_eq_true rfl⟩ rfl rfl (Nat.le_of_ble_eq_true rfl) dX5_one_1 ?_
  refine g_istore_n (lv' := [(0, .ref o), (1, .int (lk s p))]) h dX5_one_4 (by decide) rfl ?_
  refine g_aload_n h dX5_one_5 rfl ?_
  refine g_iload_n h dX5_one_6 rfl ?_
  refine g_callVR h (m5_isName _ _ _ o a s S u p (lk s p) (by first | assumption | omega)) (fun _ q => q) 0 rfl rfl (lw_V q1590 q1592 qs55 q95 q1593) gy_X5_isName ⟨Nat.le_of_ble_eq_true rfl, Nat.le_of_ble_eq_true rfl⟩ ⟨Nat.le_of_ble_eq_true rfl, Nat.le_of_ble_eq_true rfl⟩ rfl rfl (Nat.le_of_ble_eq_true rfl) dX5_one_7 ?_
  refine g_if_eqB h 31 dX5_one_10 (by decide) (fun c10 => ?_) (fun c10 => ?_)
  · skip
    show G X 0 0 (mW (xT X) o a s (paS S u p)) 31 [(0, .ref o), (1, .int (lk s p))] []
    refine g_iload_n h dX5_one_31 rfl ?_
    refine g_bipush (v := nI 48) h dX5_one_32 (by decide) ?_
    refine g_bipush (v := nI 57) h dX5_one_34 (by decide) ?_
    refine g_callSR h (m5_in _ _ _ (lk s p) 48 57 ) (fun _ q => nomatch q) (lw_S q1439 q1440 q95 q1441) gy_X5_in ⟨Nat.le_of_ble_eq_true rfl, Nat.le_of_ble_eq_true rfl⟩ ⟨Nat.le_of_ble_eq_true rfl, Nat.le_of_ble_eq_true rfl⟩ rfl rfl (Nat.le_of_ble_eq_true rfl) dX5_one_36 ?_
    refine g_if_eqB h 102 dX5_one_39 (by decide) (fun c39 => ?_) (fun c39 => ?_)
    · skip
      show G X 0 0 (mW (xT X) o a s (paS S u p)) 102 [(0, .ref o), (1, .int (lk s p))] []
      refine g_iload_n h dX5_one_102 rfl ?_
      refine g_bipush (v := nI 33) h dX5_one_103 (by decide) ?_
      refine g_toI (y := 33) rfl ?_
      refine g_icmp_ne h 142 dX5_one_105 (by decide) (fun c105 => ?_) (fun c105 => ?_)
      · skip
        show G X 0 0 (mW (xT X) o a s (paS S u p)) 142 [(0, .ref o), (1, .int (lk s p))] []
        refine g_iload_n h dX5_one_142 rfl ?_
        refine g_bipush (v := nI 40) h dX5_one_143 (by decide) ?_
        refine g_toI (y := 40) rfl ?_
        refine g_icmp_ne h 171 dX5_one_145 (by decide) (fun c145 => ?_) (fun c145 => ?_)
        · skip
          show G X 0 0 (mW (xT X) o a s (paS S u p)) 171 [(0, .ref o), (1, .int (lk s p))] []
          have e : (pOne u s 4) p = (false, p) := pOne_xn c10 c39 c105 c145
          refine g_iconst (v := nI 0) h dX5_one_171 (by decide) ?_
          exact g_zretWv h hE dX5_one_172 (by rw [e]; rfl) (paW_eq (by rw [e]))
        · skip
          show G X 0 0 (mW (xT X) o a s (paS S u p)) 148 [(0, .ref o), (1, .int (lk s p))] []
          have hl : p.1 < nC s := lk_lt (Q := fun z => decide (z = 40)) (by decide) (decide_eq_true c145); have z1 : p.2.1 < 5 := (by omega); have a2 := h2.opn hl
          refine g_aload_n h dX5_one_148 rfl ?_
          refine g_callVW0 h hE (m5_opens_1 _ _ _ o a s S u p (by first | assumption | omega)) 0 rfl rfl (lw_V q1598 q1600 qs57 q95 q1601) gy_X5_opens ⟨Nat.le_of_ble_eq_true rfl, Nat.le_of_ble_eq_true rfl⟩ ⟨Nat.le_of_ble_eq_true rfl, Nat.le_of_ble_eq_true rfl⟩ rfl rfl (Nat.le_of_ble_eq_true rfl) dX5_one_149 (st' := [.int (bI true)]) rfl (fun _ e149 => ?_)
          subst e149
          refine g_if_eqB h 171 dX5_one_152 (by decide) (fun c152 => ?_) (fun c152 => ?_)
          · skip
            show G X 0 0 (mW (xT X) o a s (paS S u (opn p))) 171 [(0, .ref o), (1, .int (lk s p))] []
            exact absurd c152 (by decide)
          · skip
            show G X 0 0 (mW (xT X) o a s (paS S u (opn p))) 155 [(0, .ref o), (1, .int (lk s p))] []
            refine g_aload_n h dX5_one_155 rfl ?_
            refine g_callVW0 h hE (m5_whole_3 _ _ _ o a s S u (opn p) h0 (by first | assumption | omega) (by first | assumption | omega)) 0 rfl rfl (lw_V q1562 q1564 qs48 q95 q1565) gy_X5_whole ⟨Nat.le_of_ble_eq_true rfl, Nat.le_of_ble_eq_true rfl⟩ ⟨Nat.le_of_ble_eq_true rfl, Nat.le_of_ble_eq_true rfl⟩ rfl rfl (Nat.le_of_ble_eq_true rfl) dX5_one_156 (st' := [.int (bI (((pWhole (pOne u s 3) s) (opn p)).1))]) rfl (fun _ e156 => ?_)
            subst e156
            show G X 0 0 (mW (xT X) o a s (paS S u (((pWhole (pOne u s 3) s) (opn p)).2))) 159 [(0, .ref o), (1, .int (lk s p))] [.int (bI (((pWhole (pOne u s 3) s) (opn p)).1))]
            generalize er156 : (pWhole (pOne u s 3) s) (opn p) = r156
            refine g_if_eqB h 171 dX5_one_159 (by decide) (fun c159 => ?_) (fun c159 => ?_)
            · skip
              show G X 0 0 (mW (xT X) o a s (paS S u r156.2)) 171 [(0, .ref o), (1, .int (lk s p))] []
              have e : (pOne u s 4) p = (false, r156.2) := (by subst er156; exact pOne_40f c10 c39 c105 c145 c159)
              refine g_iconst (v := nI 0) h dX5_one_171 (by decide) ?_
              exact g_zretWv h hE dX5_one_172 (by rw [e]; rfl) (paW_eq (by rw [e]))
            · skip
              show G X 0 0 (mW (xT X) o a s (paS S u r156.2)) 162 [(0, .ref o), (1, .int (lk s p))] []
              have n2 : At s 2 r156.2 := (by subst er156; exact At.ok a2 (pWhole_ok (pOne_ok u s 3) (opn p) a2.1) c159); have n3 := n2.1; have n4 := n2.2.2
              refine g_aload_n h dX5_one_162 rfl ?_
              refine g_callVR h (m5_look _ _ _ o a s S u r156.2 h0 (by first | assumption | omega)) (fun _ q => q) 0 rfl rfl (lw_V q1586 q1588 qs54 q95 q1589) gy_X5_look ⟨Nat.le_of_ble_eq_true rfl, Nat.le_of_ble_eq_true rfl⟩ ⟨Nat.le_of_ble_eq_true rfl, Nat.le_of_ble_eq_true rfl⟩ rfl rfl (Nat.le_of_ble_eq_true rfl) dX5_one_163 ?_
              refine g_bipush (v := nI 41) h dX5_one_166 (by decide) ?_
              refine g_toI (y := 41) rfl ?_
              refine g_icmp_eq h 173 dX5_one_168 (by decide) (fun c168 => ?_) (fun c168 => ?_)
              · skip
                show G X 0 0 (mW (xT X) o a s (paS S u r156.2)) 173 [(0, .ref o), (1, .int (lk s p))] []
                have e : (pOne u s 4) p = (true, cls (adv r156.2)) := (by subst er156; exact pOne_41t c10 c39 c105 c145 c159 c168); have n4 : 1 ≤ (adv r156.2).2.1 := (by show 1 ≤ r156.2.2.1; omega)
                refine g_aload_n h dX5_one_173 rfl ?_
                refine g_dup h dX5_one_174 rfl ?_
                refine g_get h in_X5 0 rfl rfl 5 rfl q1379 rfl rfl dX5_one_175 ?_
                show G X 0 0 (mW (xT X) o a s (paS S u r156.2)) 178 [(0, .ref o), (1, .int (lk s p))] [.int (nI r156.2.1), .ref o]
                refine g_iconst (v := nI 1) h dX5_one_178 (by decide) ?_
                refine g_iaddN h dX5_one_179 ?_
                refine g_put (ws' := mW (xT X) o a s (paS S u (adv r156.2))) h hE.1 in_X5 tyX5 tyX5_ok nmX5 0 rfl rfl 5 rfl q1379 rfl rfl rfl rfl rfl rfl dX5_one_180 rfl ?_
                refine g_aload_n h dX5_one_183 rfl ?_
                refine g_dup h dX5_one_184 rfl ?_
                refine g_get h in_X5 0 rfl rfl 6 rfl q1380 rfl rfl dX5_one_185 ?_
                show G X 0 0 (mW (xT X) o a s (paS S u (adv r156.2))) 188 [(0, .ref o), (1, .int (lk s p))] [.int (nI ((adv r156.2).2.1)), .ref o]
                refine g_iconst (v := nI 1) h dX5_one_188 (by decide) ?_
                refine g_isubN h (by omega) dX5_one_189 ?_
                refine g_put (ws' := mW (xT X) o a s (paS S u (cls (adv r156.2)))) h hE.1 in_X5 tyX5 tyX5_ok nmX5 0 rfl rfl 6 rfl q1380 rfl rfl rfl rfl rfl rfl dX5_one_190 rfl ?_
                refine g_iconst (v := nI 1) h dX5_one_193 (by decide) ?_
                exact g_zretWv h hE dX5_one_194 (by rw [e]; rfl) (paW_eq (by rw [e]))
              · skip
                show G X 0 0 (mW (xT X) o a s (paS S u r156.2)) 171 [(0, .ref o), (1, .int (lk s p))] []
                have e : (pOne u s 4) p = (false, r156.2) := (by subst er156; exact pOne_41f c10 c39 c105 c145 c159 c168)
                refine g_iconst (v := nI 0) h dX5_one_171 (by decide) ?_
                exact g_zretWv h hE dX5_one_172 (by rw [e]; rfl) (paW_eq (by rw [e]))
      · skip
        show G X 0 0 (mW (xT X) o a s (paS S u p)) 108 [(0, .ref o), (1, .int (lk s p))] []
        have hl : p.1 < nC s := lk_lt (Q := fun z => decide (z = 33)) (by decide) (decide_eq_true c105); have z1 : p.2.1 < 5 := (by omega); have a2 := h2.opn hl
        refine g_aload_n h dX5_one_108 rfl ?_
        refine g_callVW0 h hE (m5_opens_1 _ _ _ o a s S u p (by first | assumption | omega)) 0 rfl rfl (lw_V q1598 q1600 qs57 q95 q1601) gy_X5_opens ⟨Nat.le_of_ble_eq_true rfl, Nat.le_of_ble_eq_true rfl⟩ ⟨Nat.le_of_ble_eq_true rfl, Nat.le_of_ble_eq_true rfl⟩ rfl rfl (Nat.le_of_ble_eq_true rfl) dX5_one_109 (st' := [.int (bI true)]) rfl (fun _ e109 => ?_)
        subst e109
        refine g_if_eqB h 122 dX5_one_112 (by decide) (fun c112 => ?_) (fun c112 => ?_)
        · skip
          show G X 0 0 (mW (xT X) o a s (paS S u (opn p))) 122 [(0, .ref o), (1, .int (lk s p))] []
          exact absurd c112 (by decide)
        · skip
          show G X 0 0 (mW (xT X) o a s (paS S u (opn p))) 115 [(0, .ref o), (1, .int (lk s p))] []
          refine g_aload_n h dX5_one_115 rfl ?_
          refine g_callVW0 h hE (m5_one_3 _ _ _ o a s S u (opn p) h0 (by first | assumption | omega) (by first | assumption | omega)) 0 rfl rfl (lw_V q1582 q1584 qs53 q95 q1585) gy_X5_one ⟨Nat.le_of_ble_eq_true rfl, Nat.le_of_ble_eq_true rfl⟩ ⟨Nat.le_of_ble_eq_true rfl, Nat.le_of_ble_eq_true rfl⟩ rfl rfl (Nat.le_of_ble_eq_true rfl) dX5_one_116 (st' := [.int (bI (((pOne u s 3) (opn p)).1))]) rfl (fun _ e116 => ?_)
          subst e116
          show G X 0 0 (mW (xT X) o a s (paS S u (((pOne u s 3) (opn p)).2))) 119 [(0, .ref o), (1, .int (lk s p))] [.int (bI (((pOne u s 3) (opn p)).1))]
          generalize er116 : (pOne u s 3) (opn p) = r116
          refine g_if_neB h 124 dX5_one_119 (by decide) (fun c119 => ?_) (fun c119 => ?_)
          · skip
            show G X 0 0 (mW (xT X) o a s (paS S u r116.2)) 124 [(0, .ref o), (1, .int (lk s p))] []
            have e : (pOne u s 4) p = (true, lay2 2 0 (cls r116.2)) := (by subst er116; exact pOne_33t c10 c39 c105 c119); have n2 : At s 2 r116.2 := (by subst er116; exact At.ok a2 (pOne_ok u s 3 (opn p) a2.1) c119); have n3 : (cls r116.2).2.2.1 < 62 := (show r116.2.2.2.1 < 62 from n2.st h0); have n4 := n2.2.2
            refine g_aload_n h dX5_one_124 rfl ?_
            refine g_dup h dX5_one_125 rfl ?_
            refine g_get h in_X5 0 rfl rfl 6 rfl q1380 rfl rfl dX5_one_126 ?_
            show G X 0 0 (mW (xT X) o a s (paS S u r116.2)) 129 [(0, .ref o), (1, .int (lk s p))] [.int (nI r116.2.2.1), .ref o]
            refine g_iconst (v := nI 1) h dX5_one_129 (by decide) ?_
            refine g_isubN h (by omega) dX5_one_130 ?_
            refine g_put (ws' := mW (xT X) o a s (paS S u (cls r116.2))) h hE.1 in_X5 tyX5 tyX5_ok nmX5 0 rfl rfl 6 rfl q1380 rfl rfl rfl rfl rfl rfl dX5_one_131 rfl ?_
            refine g_aload_n h dX5_one_134 rfl ?_
            refine g_iconst (v := nI 2) h dX5_one_135 (by decide) ?_
            refine g_iconst (v := nI 0) h dX5_one_136 (by decide) ?_
            refine g_callVW0 h hE (m5_lays _ _ _ o a s S u (cls r116.2) 2 0 (by first | assumption | omega)) 0 rfl rfl (lw_V q1594 q1596 qs56 q95 q1597) gy_X5_lays ⟨Nat.le_of_ble_eq_true rfl, Nat.le_of_ble_eq_true rfl⟩ ⟨Nat.le_of_ble_eq_true rfl, Nat.le_of_ble_eq_true rfl⟩ rfl rfl (Nat.le_of_ble_eq_true rfl) dX5_one_137 (st' := []) rfl (fun _ e137 => ?_)
            subst e137
            refine g_iconst (v := nI 1) h dX5_one_140 (by decide) ?_
            exact g_zretWv h hE dX5_one_141 (by rw [e]; rfl) (paW_eq (by rw [e]))
          · skip
            show G X 0 0 (mW (xT X) o a s (paS S u r116.2)) 122 [(0, .ref o), (1, .int (lk s p))] []
            have e : (pOne u s 4) p = (false, r116.2) := (by subst er116; exact pOne_33f c10 c39 c105 c119)
            refine g_iconst (v := nI 0) h dX5_one_122 (by decide) ?_
            exact g_zretWv h hE dX5_one_123 (by rw [e]; rfl) (paW_eq (by rw [e]))
    · skip
      show G X 0 0 (mW (xT X) o a s (paS S u p)) 42 [(0, .ref o), (1, .int (lk s p))] []
      have e : (pOne u s 4) p = (true, lay2 0 (numR s 4 0 p).1 (numR s 4 0 p).2) := pOne_m c10 c39
      refine g_iconst (v := nI 0) h dX5_one_42 (by decide) ?_
      refine g_istore_n (lv' := [(0, .ref o), (1, .int (lk s p)), (2, .int (nI 0))]) h dX5_one_43 (by decide) rfl ?_
      refine g_iconst (v := nI 0) h dX5_one_44 (by decide) ?_
      refine g_istore_n (lv' := [(0, .ref o), (1, .int (lk s p)), (2, .int (nI 0)), (3, .int (nI 0))]) h dX5_one_45 (by decide) rfl ?_
      have lp : ∀ i, i ≤ 4 → ∀ (_u : Unit) (x : Int32) (q : PS), (numR s 4 0 p = numR s (4 - i) x q) → (q.1 ≤ nC s) → (q.2 = p.2) → G X 0 0 (mW (xT X) o a s (paS S u q)) 46 [(0, .ref o), (1, .int (lk s p)), (2, .int x), (3, .int (nI i))] [] := by
        refine g_ind (N := 4) (fun i hi_i ih_lp => ?_)
        intro _u x q e0_lp e1_lp e2_lp
        refine g_iload_n h dX5_one_46 rfl ?_
        refine g_iconst (v := nI 4) h dX5_one_47 (by decide) ?_
        refine g_icmp_geN h 94 dX5_one_48 (by decide) (by first | omega | decide) (by first | omega | decide) (fun c48 => ?_) (fun c48 => ?_)
        · skip
          show G X 0 0 (mW (xT X) o a s (paS S u q)) 94 [(0, .ref o), (1, .int (lk s p)), (2, .int x), (3, .int (nI i))] []
          have f : numR s 4 0 p = (x, q) := by first | exact e0_lp.trans (numR_e (by omega)) | exact e0_lp.trans (numR_f c62)
          rw [f] at e; have yq : q.2.2.1 < 62 := by rw [e2_lp]; exact y0
          refine g_aload_n h dX5_one_94 rfl ?_
          refine g_iconst (v := nI 0) h dX5_one_95 (by decide) ?_
          refine g_iload_n h dX5_one_96 rfl ?_
          refine g_callVW0 h hE (m5_lays _ _ _ o a s S u q 0 x (by first | assumption | omega)) 0 rfl rfl (lw_V q1594 q1596 qs56 q95 q1597) gy_X5_lays ⟨Nat.le_of_ble_eq_true rfl, Nat.le_of_ble_eq_true rfl⟩ ⟨Nat.le_of_ble_eq_true rfl, Nat.le_of_ble_eq_true rfl⟩ rfl rfl (Nat.le_of_ble_eq_true rfl) dX5_one_97 (st' := []) rfl (fun _ e97 => ?_)
          subst e97
          refine g_iconst (v := nI 1) h dX5_one_100 (by decide) ?_
          exact g_zretWv h hE dX5_one_101 (by rw [e]; rfl) (paW_eq (by rw [e]))
        · skip
          show G X 0 0 (mW (xT X) o a s (paS S u q)) 51 [(0, .ref o), (1, .int (lk s p)), (2, .int x), (3, .int (nI i))] []
          refine g_aload_n h dX5_one_51 rfl ?_
          refine g_callVR h (m5_look _ _ _ o a s S u q h0 (by first | assumption | omega)) (fun _ q => q) 0 rfl rfl (lw_V q1586 q1588 qs54 q95 q1589) gy_X5_look ⟨Nat.le_of_ble_eq_true rfl, Nat.le_of_ble_eq_true rfl⟩ ⟨Nat.le_of_ble_eq_true rfl, Nat.le_of_ble_eq_true rfl⟩ rfl rfl (Nat.le_of_ble_eq_true rfl) dX5_one_52 ?_
          refine g_bipush (v := nI 48) h dX5_one_55 (by decide) ?_
          refine g_bipush (v := nI 57) h dX5_one_57 (by decide) ?_
          refine g_callSR h (m5_in _ _ _ (lk s q) 48 57 ) (fun _ q => nomatch q) (lw_S q1439 q1440 q95 q1441) gy_X5_in ⟨Nat.le_of_ble_eq_true rfl, Nat.le_of_ble_eq_true rfl⟩ ⟨Nat.le_of_ble_eq_true rfl, Nat.le_of_ble_eq_true rfl⟩ rfl rfl (Nat.le_of_ble_eq_true rfl) dX5_one_59 ?_
          refine g_if_eqB h 94 dX5_one_62 (by decide) (fun c62 => ?_) (fun c62 => ?_)
          · skip
            show G X 0 0 (mW (xT X) o a s (paS S u q)) 94 [(0, .ref o), (1, .int (lk s p)), (2, .int x), (3, .int (nI i))] []
            have f : numR s 4 0 p = (x, q) := by first | exact e0_lp.trans (numR_e (by omega)) | exact e0_lp.trans (numR_f c62)
            rw [f] at e; have yq : q.2.2.1 < 62 := by rw [e2_lp]; exact y0
            refine g_aload_n h dX5_one_94 rfl ?_
            refine g_iconst (v := nI 0) h dX5_one_95 (by decide) ?_
            refine g_iload_n h dX5_one_96 rfl ?_
            refine g_callVW0 h hE (m5_lays _ _ _ o a s S u q 0 x (by first | assumption | omega)) 0 rfl rfl (lw_V q1594 q1596 qs56 q95 q1597) gy_X5_lays ⟨Nat.le_of_ble_eq_true rfl, Nat.le_of_ble_eq_true rfl⟩ ⟨Nat.le_of_ble_eq_true rfl, Nat.le_of_ble_eq_true rfl⟩ rfl rfl (Nat.le_of_ble_eq_true rfl) dX5_one_97 (st' := []) rfl (fun _ e97 => ?_)
            subst e97
            refine g_iconst (v := nI 1) h dX5_one_100 (by decide) ?_
            exact g_zretWv h hE dX5_one_101 (by rw [e]; rfl) (paW_eq (by rw [e]))
          · skip
            show G X 0 0 (mW (xT X) o a s (paS S u q)) 65 [(0, .ref o), (1, .int (lk s p)), (2, .int x), (3, .int (nI i))] []
            have hl := lk_lt (Q := fun c => inB c 48 57) (by decide) c62
            refine g_bipush (v := nI 10) h dX5_one_65 (by decide) ?_
            refine g_iload_n h dX5_one_67 rfl ?_
            refine g_toI2 (y := 10) rfl ?_
            refine g_imul h dX5_one_68 ?_
            refine g_aload_n h dX5_one_69 rfl ?_
            refine g_callVR h (m5_look _ _ _ o a s S u q h0 (by first | assumption | omega)) (fun _ q => q) 0 rfl rfl (lw_V q1586 q1588 qs54 q95 q1589) gy_X5_look ⟨Nat.le_of_ble_eq_true rfl, Nat.le_of_ble_eq_true rfl⟩ ⟨Nat.le_of_ble_eq_true rfl, Nat.le_of_ble_eq_true rfl⟩ rfl rfl (Nat.le_of_ble_eq_true rfl) dX5_one_70 ?_
            refine g_iadd h dX5_one_73 ?_
            refine g_bipush (v := nI 48) h dX5_one_74 (by decide) ?_
            refine g_toI (y := 48) rfl ?_
            refine g_isub h dX5_one_76 ?_
            refine g_istore_n (lv' := [(0, .ref o), (1, .int (lk s p)), (2, .int (((10 * x) + (lk s q)) - 48)), (3, .int (nI i))]) h dX5_one_77 (by decide) rfl ?_
            refine g_aload_n h dX5_one_78 rfl ?_
            refine g_dup h dX5_one_79 rfl ?_
            refine g_get h in_X5 0 rfl rfl 5 rfl q1379 rfl rfl dX5_one_80 ?_
            show G X 0 0 (mW (xT X) o a s (paS S u q)) 83 [(0, .ref o), (1, .int (lk s p)), (2, .int (((10 * x) + (lk s q)) - 48)), (3, .int (nI i))] [.int (nI q.1), .ref o]
            refine g_iconst (v := nI 1) h dX5_one_83 (by decide) ?_
            refine g_iaddN h dX5_one_84 ?_
            refine g_put (ws' := mW (xT X) o a s (paS S u (adv q))) h hE.1 in_X5 tyX5 tyX5_ok nmX5 0 rfl rfl 5 rfl q1379 rfl rfl rfl rfl rfl rfl dX5_one_85 rfl ?_
            refine g_iincN (b := 1) (lv' := [(0, .ref o), (1, .int (lk s p)), (2, .int (((10 * x) + (lk s q)) - 48)), (3, .int (nI (i + 1)))]) h dX5_one_88 rfl rfl (by decide) rfl ?_
            refine g_goto h 46 dX5_one_91 (by decide) ?_
            exact ih_lp (i + 1) (by omega) (by omega) () (((10 * x) + (lk s q)) - 48) (adv q) (e0_lp.trans (numR_t (by omega) c62)) hl e2_lp
      exact lp (0) (by omega) () 0 p rfl l0 rfl
  · skip
    show G X 0 0 (mW (xT X) o a s (paS S u p)) 13 [(0, .ref o), (1, .int (lk s p))] []
    have e : (pOne u s 4) p = (true, lay2 1 (lk s p) (adv p)) := pOne_n c10; have hl := lk_lt (isNm_0 h1) c10; have a2 := (h2.adv hl).st h0
    refine g_aload_n h dX5_one_13 rfl ?_
    refine g_dup h dX5_one_14 rfl ?_
    refine g_get h in_X5 0 rfl rfl 5 rfl q1379 rfl rfl dX5_one_15 ?_
    show G X 0 0 (mW (xT X) o a s (paS S u p)) 18 [(0, .ref o), (1, .int (lk s p))] [.int (nI p.1), .ref o]
    refine g_iconst (v := nI 1) h dX5_one_18 (by decide) ?_
    refine g_iaddN h dX5_one_19 ?_
    refine g_put (ws' := mW (xT X) o a s (paS S u (adv p))) h hE.1 in_X5 tyX5 tyX5_ok nmX5 0 rfl rfl 5 rfl q1379 rfl rfl rfl rfl rfl rfl dX5_one_20 rfl ?_
    refine g_aload_n h dX5_one_23 rfl ?_
    refine g_iconst (v := nI 1) h dX5_one_24 (by decide) ?_
    refine g_iload_n h dX5_one_25 rfl ?_
    refine g_callVW0 h hE (m5_lays _ _ _ o a s S u (adv p) 1 (lk s p) (by first | assumption | omega)) 0 rfl rfl (lw_V q1594 q1596 qs56 q95 q1597) gy_X5_lays ⟨Nat.le_of_ble_eq_true rfl, Nat.le_of_ble_eq_true rfl⟩ ⟨Nat.le_of_ble_eq_true rfl, Nat.le_of_ble_eq_true rfl⟩ rfl rfl (Nat.le_of_ble_eq_true rfl) dX5_one_26 (st' := []) rfl (fun _ e26 => ?_)
    subst e26
    refine g_iconst (v := nI 1) h dX5_one_29 (by decide) ?_
    exact g_zretWv h hE dX5_one_30 (by rw [e]; rfl) (paW_eq (by rw [e]))
set_option maxHeartbeats 4000000 in
set_option maxRecDepth 100000 in
theorem m5_product_4 (l : Launch) (D : va_G) (T : Nat → ClassId) (o : Nat) (a : Nat → Nat) (s : Nat → Int32) (S : Nat → Nat → Int32) (u : Nat) (p : PS) (h0 : Inv s) (h1 : u < 2) (h2 : At s 1 p) : MetW l D T yX5_product cX5_product 2 (some .boolean) 26 549 0 0 [.ref o] (mW T o a s (paS S u p)) (fun r_ w_ => r_ = some (.int (bI (((pProd (pOne u s 4) s) p).1))) ∧ (w_ = mW T o a s (paS S u (((pProd (pOne u s 4) s) p).2)))) := by
  refine metW (own := RX5) rfl (by decide) rfl (fun X h hl hDx hTx hnm hE => ?_)
  subst hl; subst hDx; subst hTx
  have hnp := h0.npl; have hnt := h0.ntl; have hnq := h0.nql
  have hnc := h0.ncl; have l0 := h2.1; have b0 := h2.2.1; have z0 := h2.2.2; have y0 := h2.st h0
  show G X 0 0 (mW (xT X) o a s (paS S u p)) 0 [(0, .ref o)] []
  refine g_aload_n h dX5_product_0 rfl ?_
  refine g_callVW0 h hE (m5_one_4 _ _ _ o a s S u p h0 (by first | assumption | omega) (by first | assumption | omega)) 0 rfl rfl (lw_V q1582 q1584 qs53 q95 q1585) gy_X5_one ⟨Nat.le_of_ble_eq_true rfl, Nat.le_of_ble_eq_true rfl⟩ ⟨Nat.le_of_ble_eq_true rfl, Nat.le_of_ble_eq_true rfl⟩ rfl rfl (Nat.le_of_ble_eq_true rfl) dX5_product_1 (st' := [.int (bI (((pOne u s 4) p).1))]) rfl (fun _ e1 => ?_)
  subst e1
  show G X 0 0 (mW (xT X) o a s (paS S u (((pOne u s 4) p).2))) 4 [(0, .ref o)] [.int (bI (((pOne u s 4) p).1))]
  generalize er1 : (pOne u s 4) p = r1
  refine g_if_neB h 9 dX5_product_4 (by decide) (fun c4 => ?_) (fun c4 => ?_)
  · skip
    show G X 0 0 (mW (xT X) o a s (paS S u r1.2)) 9 [(0, .ref o)] []
    have a0 : At s 1 r1.2 := (by subst er1; exact h2.ok ((pOne_ok u s 4) p l0) c4); have l1 := a0.1
    have lw : ∀ q_ : (PS) × (Nat), (match q_ with | (q, m) => ((pProd (pOne u s 4) s) p = pR (pOne u s 4) s isMul m q) → (At s 1 q) → (nC s - q.1 < m) → G X 0 0 (mW (xT X) o a s (paS S u q)) 9 [(0, .ref o)] []) := by
      refine g_rec (fun q_ => match q_ with | (q, m) => m) ?_
      rintro ⟨q, m⟩ ih_lw e0_lw e1_lw e2_lw
      skip
      have a1 := e1_lw; have l2 := a1.1; have y2 := a1.st h0
      refine g_aload_n h dX5_product_9 rfl ?_
      refine g_callVR h (m5_look _ _ _ o a s S u q h0 (by first | assumption | omega)) (fun _ q => q) 0 rfl rfl (lw_V q1586 q1588 qs54 q95 q1589) gy_X5_look ⟨Nat.le_of_ble_eq_true rfl, Nat.le_of_ble_eq_true rfl⟩ ⟨Nat.le_of_ble_eq_true rfl, Nat.le_of_ble_eq_true rfl⟩ rfl rfl (Nat.le_of_ble_eq_true rfl) dX5_product_10 ?_
      refine g_bipush (v := nI 42) h dX5_product_13 (by decide) ?_
      refine g_toI (y := 42) rfl ?_
      refine g_icmp_eq h 36 dX5_product_15 (by decide) (fun c15 => ?_) (fun c15 => ?_)
      · skip
        show G X 0 0 (mW (xT X) o a s (paS S u q)) 36 [(0, .ref o)] []
        have hq : isMul (lk s q) = true := by simp [isMul, c15]
        have hl := lk_lt (by decide) hq; obtain ⟨m0, rfl⟩ : ∃ k, m = k + 1 := ⟨m - 1, by omega⟩; have a2 := a1.adv hl
        refine g_aload_n h dX5_product_36 rfl ?_
        refine g_callVR h (m5_look _ _ _ o a s S u q h0 (by first | assumption | omega)) (fun _ q => q) 0 rfl rfl (lw_V q1586 q1588 qs54 q95 q1589) gy_X5_look ⟨Nat.le_of_ble_eq_true rfl, Nat.le_of_ble_eq_true rfl⟩ ⟨Nat.le_of_ble_eq_true rfl, Nat.le_of_ble_eq_true rfl⟩ rfl rfl (Nat.le_of_ble_eq_true rfl) dX5_product_37 ?_
        refine g_istore_n (lv' := [(0, .ref o), (1, .int (lk s q))]) h dX5_product_40 (by decide) rfl ?_
        refine g_aload_n h dX5_product_41 rfl ?_
        refine g_dup h dX5_product_42 rfl ?_
        refine g_get h in_X5 0 rfl rfl 5 rfl q1379 rfl rfl dX5_product_43 ?_
        show G X 0 0 (mW (xT X) o a s (paS S u q)) 46 [(0, .ref o), (1, .int (lk s q))] [.int (nI q.1), .ref o]
        refine g_iconst (v := nI 1) h dX5_product_46 (by decide) ?_
        refine g_iaddN h dX5_product_47 ?_
        refine g_put (ws' := mW (xT X) o a s (paS S u (adv q))) h hE.1 in_X5 tyX5 tyX5_ok nmX5 0 rfl rfl 5 rfl q1379 rfl rfl rfl rfl rfl rfl dX5_product_48 rfl ?_
        refine g_aload_n h dX5_product_51 rfl ?_
        refine g_callVW0 h hE (m5_one_4 _ _ _ o a s S u (adv q) h0 (by first | assumption | omega) (by first | assumption | omega)) 0 rfl rfl (lw_V q1582 q1584 qs53 q95 q1585) gy_X5_one ⟨Nat.le_of_ble_eq_true rfl, Nat.le_of_ble_eq_true rfl⟩ ⟨Nat.le_of_ble_eq_true rfl, Nat.le_of_ble_eq_true rfl⟩ rfl rfl (Nat.le_of_ble_eq_true rfl) dX5_product_52 (st' := [.int (bI (((pOne u s 4) (adv q)).1))]) rfl (fun _ e52 => ?_)
        subst e52
        show G X 0 0 (mW (xT X) o a s (paS S u (((pOne u s 4) (adv q)).2))) 55 [(0, .ref o), (1, .int (lk s q))] [.int (bI (((pOne u s 4) (adv q)).1))]
        generalize er52 : (pOne u s 4) (adv q) = r52
        refine g_if_neB h 60 dX5_product_55 (by decide) (fun c55 => ?_) (fun c55 => ?_)
        · skip
          show G X 0 0 (mW (xT X) o a s (paS S u r52.2)) 60 [(0, .ref o), (1, .int (lk s q))] []
          have n0 : OKp s q (true, lay2 3 (lk s q) r52.2) := (by subst er52; exact adv_ok (pOne_ok u s 4) 3 (lk s q) hl c55); have n1 := At.ok a1 n0 rfl; have n2 : At s 1 r52.2 := (by subst er52; exact At.ok a2 ((pOne_ok u s 4) (adv q) a2.1) c55); have n3 := n2.st h0
          refine g_aload_n h dX5_product_60 rfl ?_
          refine g_iconst (v := nI 3) h dX5_product_61 (by decide) ?_
          refine g_iload_n h dX5_product_62 rfl ?_
          refine g_callVW0 h hE (m5_lays _ _ _ o a s S u r52.2 3 (lk s q) (by first | assumption | omega)) 0 rfl rfl (lw_V q1594 q1596 qs56 q95 q1597) gy_X5_lays ⟨Nat.le_of_ble_eq_true rfl, Nat.le_of_ble_eq_true rfl⟩ ⟨Nat.le_of_ble_eq_true rfl, Nat.le_of_ble_eq_true rfl⟩ rfl rfl (Nat.le_of_ble_eq_true rfl) dX5_product_63 (st' := []) rfl (fun _ e63 => ?_)
          subst e63
          refine g_goto h 9 dX5_product_66 (by decide) ?_
          refine g_lv (lv' := [(0, .ref o)]) (lvle_cons rfl (lvle_nil)) ?_
          exact ih_lw (lay2 3 (lk s q) r52.2, m0) (by show m0 < m0 + 1; omega) (by subst er52; exact e0_lw.trans (pR_t hq c55)) n1 (by subst er52; exact mu_ok ((pOne_ok u s 4) (adv q) a2.1) hl e2_lw)
        · skip
          show G X 0 0 (mW (xT X) o a s (paS S u r52.2)) 58 [(0, .ref o), (1, .int (lk s q))] []
          have e : (pProd (pOne u s 4) s) p = (false, r52.2) := (by subst er52; exact e0_lw.trans (pR_f hq c55))
          refine g_iconst (v := nI 0) h dX5_product_58 (by decide) ?_
          exact g_zretWv h hE dX5_product_59 (by rw [e]; rfl) (paW_eq (by rw [e]))
      · skip
        show G X 0 0 (mW (xT X) o a s (paS S u q)) 18 [(0, .ref o)] []
        refine g_aload_n h dX5_product_18 rfl ?_
        refine g_callVR h (m5_look _ _ _ o a s S u q h0 (by first | assumption | omega)) (fun _ q => q) 0 rfl rfl (lw_V q1586 q1588 qs54 q95 q1589) gy_X5_look ⟨Nat.le_of_ble_eq_true rfl, Nat.le_of_ble_eq_true rfl⟩ ⟨Nat.le_of_ble_eq_true rfl, Nat.le_of_ble_eq_true rfl⟩ rfl rfl (Nat.le_of_ble_eq_true rfl) dX5_product_19 ?_
        refine g_bipush (v := nI 47) h dX5_product_22 (by decide) ?_
        refine g_toI (y := 47) rfl ?_
        refine g_icmp_eq h 36 dX5_product_24 (by decide) (fun c24 => ?_) (fun c24 => ?_)
        · skip
          show G X 0 0 (mW (xT X) o a s (paS S u q)) 36 [(0, .ref o)] []
          have hq : isMul (lk s q) = true := by simp [isMul, c15, c24]
          have hl := lk_lt (by decide) hq; obtain ⟨m0, rfl⟩ : ∃ k, m = k + 1 := ⟨m - 1, by omega⟩; have a2 := a1.adv hl
          refine g_aload_n h dX5_product_36 rfl ?_
          refine g_callVR h (m5_look _ _ _ o a s S u q h0 (by first | assumption | omega)) (fun _ q => q) 0 rfl rfl (lw_V q1586 q1588 qs54 q95 q1589) gy_X5_look ⟨Nat.le_of_ble_eq_true rfl, Nat.le_of_ble_eq_true rfl⟩ ⟨Nat.le_of_ble_eq_true rfl, Nat.le_of_ble_eq_true rfl⟩ rfl rfl (Nat.le_of_ble_eq_true rfl) dX5_product_37 ?_
          refine g_istore_n (lv' := [(0, .ref o), (1, .int (lk s q))]) h dX5_product_40 (by decide) rfl ?_
          refine g_aload_n h dX5_product_41 rfl ?_
          refine g_dup h dX5_product_42 rfl ?_
          refine g_get h in_X5 0 rfl rfl 5 rfl q1379 rfl rfl dX5_product_43 ?_
          show G X 0 0 (mW (xT X) o a s (paS S u q)) 46 [(0, .ref o), (1, .int (lk s q))] [.int (nI q.1), .ref o]
          refine g_iconst (v := nI 1) h dX5_product_46 (by decide) ?_
          refine g_iaddN h dX5_product_47 ?_
          refine g_put (ws' := mW (xT X) o a s (paS S u (adv q))) h hE.1 in_X5 tyX5 tyX5_ok nmX5 0 rfl rfl 5 rfl q1379 rfl rfl rfl rfl rfl rfl dX5_product_48 rfl ?_
          refine g_aload_n h dX5_product_51 rfl ?_
          refine g_callVW0 h hE (m5_one_4 _ _ _ o a s S u (adv q) h0 (by first | assumption | omega) (by first | assumption | omega)) 0 rfl rfl (lw_V q1582 q1584 qs53 q95 q1585) gy_X5_one ⟨Nat.le_of_ble_eq_true rfl, Nat.le_of_ble_eq_true rfl⟩ ⟨Nat.le_of_ble_eq_true rfl, Nat.le_of_ble_eq_true rfl⟩ rfl rfl (Nat.le_of_ble_eq_true rfl) dX5_product_52 (st' := [.int (bI (((pOne u s 4) (adv q)).1))]) rfl (fun _ e52 => ?_)
          subst e52
          show G X 0 0 (mW (xT X) o a s (paS S u (((pOne u s 4) (adv q)).2))) 55 [(0, .ref o), (1, .int (lk s q))] [.int (bI (((pOne u s 4) (adv q)).1))]
          generalize er52 : (pOne u s 4) (adv q) = r52
          refine g_if_neB h 60 dX5_product_55 (by decide) (fun c55 => ?_) (fun c55 => ?_)
          · skip
            show G X 0 0 (mW (xT X) o a s (paS S u r52.2)) 60 [(0, .ref o), (1, .int (lk s q))] []
            have n0 : OKp s q (true, lay2 3 (lk s q) r52.2) := (by subst er52; exact adv_ok (pOne_ok u s 4) 3 (lk s q) hl c55); have n1 := At.ok a1 n0 rfl; have n2 : At s 1 r52.2 := (by subst er52; exact At.ok a2 ((pOne_ok u s 4) (adv q) a2.1) c55); have n3 := n2.st h0
            refine g_aload_n h dX5_product_60 rfl ?_
            refine g_iconst (v := nI 3) h dX5_product_61 (by decide) ?_
            refine g_iload_n h dX5_product_62 rfl ?_
            refine g_callVW0 h hE (m5_lays _ _ _ o a s S u r52.2 3 (lk s q) (by first | assumption | omega)) 0 rfl rfl (lw_V q1594 q1596 qs56 q95 q1597) gy_X5_lays ⟨Nat.le_of_ble_eq_true rfl, Nat.le_of_ble_eq_true rfl⟩ ⟨Nat.le_of_ble_eq_true rfl, Nat.le_of_ble_eq_true rfl⟩ rfl rfl (Nat.le_of_ble_eq_true rfl) dX5_product_63 (st' := []) rfl (fun _ e63 => ?_)
            subst e63
            refine g_goto h 9 dX5_product_66 (by decide) ?_
            refine g_lv (lv' := [(0, .ref o)]) (lvle_cons rfl (lvle_nil)) ?_
            exact ih_lw (lay2 3 (lk s q) r52.2, m0) (by show m0 < m0 + 1; omega) (by subst er52; exact e0_lw.trans (pR_t hq c55)) n1 (by subst er52; exact mu_ok ((pOne_ok u s 4) (adv q) a2.1) hl e2_lw)
          · skip
            show G X 0 0 (mW (xT X) o a s (paS S u r52.2)) 58 [(0, .ref o), (1, .int (lk s q))] []
            have e : (pProd (pOne u s 4) s) p = (false, r52.2) := (by subst er52; exact e0_lw.trans (pR_f hq c55))
            refine g_iconst (v := nI 0) h dX5_product_58 (by decide) ?_
            exact g_zretWv h hE dX5_product_59 (by rw [e]; rfl) (paW_eq (by rw [e]))
        · skip
          show G X 0 0 (mW (xT X) o a s (paS S u q)) 27 [(0, .ref o)] []
          refine g_aload_n h dX5_product_27 rfl ?_
          refine g_callVR h (m5_look _ _ _ o a s S u q h0 (by first | assumption | omega)) (fun _ q => q) 0 rfl rfl (lw_V q1586 q1588 qs54 q95 q1589) gy_X5_look ⟨Nat.le_of_ble_eq_true rfl, Nat.le_of_ble_eq_true rfl⟩ ⟨Nat.le_of_ble_eq_true rfl, Nat.le_of_ble_eq_true rfl⟩ rfl rfl (Nat.le_of_ble_eq_true rfl) dX5_product_28 ?_
          refine g_bipush (v := nI 37) h dX5_product_31 (by decide) ?_
          refine g_toI (y := 37) rfl ?_
          refine g_icmp_ne h 69 dX5_product_33 (by decide) (fun c33 => ?_) (fun c33 => ?_)
          · skip
            show G X 0 0 (mW (xT X) o a s (paS S u q)) 69 [(0, .ref o)] []
            have hq : isMul (lk s q) = false := by simp [isMul, c15, c24, c33]
            have e : (pProd (pOne u s 4) s) p = (true, q) := e0_lw.trans (pR_n hq)
            refine g_iconst (v := nI 1) h dX5_product_69 (by decide) ?_
            exact g_zretWv h hE dX5_product_70 (by rw [e]; rfl) (paW_eq (by rw [e]))
          · skip
            show G X 0 0 (mW (xT X) o a s (paS S u q)) 36 [(0, .ref o)] []
            have hq : isMul (lk s q) = true := by simp [isMul, c15, c24, c33]
            have hl := lk_lt (by decide) hq; obtain ⟨m0, rfl⟩ : ∃ k, m = k + 1 := ⟨m - 1, by omega⟩; have a2 := a1.adv hl
            refine g_aload_n h dX5_product_36 rfl ?_
            refine g_callVR h (m5_look _ _ _ o a s S u q h0 (by first | assumption | omega)) (fun _ q => q) 0 rfl rfl (lw_V q1586 q1588 qs54 q95 q1589) gy_X5_look ⟨Nat.le_of_ble_eq_true rfl, Nat.le_of_ble_eq_true rfl⟩ ⟨Nat.le_of_ble_eq_true rfl, Nat.le_of_ble_eq_true rfl⟩ rfl rfl (Nat.le_of_ble_eq_true rfl) dX5_product_37 ?_
            refine g_istore_n (lv' := [(0, .ref o), (1, .int (lk s q))]) h dX5_product_40 (by decide) rfl ?_
            refine g_aload_n h dX5_product_41 rfl ?_
            refine g_dup h dX5_product_42 rfl ?_
            refine g_get h in_X5 0 rfl rfl 5 rfl q1379 rfl rfl dX5_product_43 ?_
            show G X 0 0 (mW (xT X) o a s (paS S u q)) 46 [(0, .ref o), (1, .int (lk s q))] [.int (nI q.1), .ref o]
            refine g_iconst (v := nI 1) h dX5_product_46 (by decide) ?_
            refine g_iaddN h dX5_product_47 ?_
            refine g_put (ws' := mW (xT X) o a s (paS S u (adv q))) h hE.1 in_X5 tyX5 tyX5_ok nmX5 0 rfl rfl 5 rfl q1379 rfl rfl rfl rfl rfl rfl dX5_product_48 rfl ?_
            refine g_aload_n h dX5_product_51 rfl ?_
            refine g_callVW0 h hE (m5_one_4 _ _ _ o a s S u (adv q) h0 (by first | assumption | omega) (by first | assumption | omega)) 0 rfl rfl (lw_V q1582 q1584 qs53 q95 q1585) gy_X5_one ⟨Nat.le_of_ble_eq_true rfl, Nat.le_of_ble_eq_true rfl⟩ ⟨Nat.le_of_ble_eq_true rfl, Nat.le_of_ble_eq_true rfl⟩ rfl rfl (Nat.le_of_ble_eq_true rfl) dX5_product_52 (st' := [.int (bI (((pOne u s 4) (adv q)).1))]) rfl (fun _ e52 => ?_)
            subst e52
            show G X 0 0 (mW (xT X) o a s (paS S u (((pOne u s 4) (adv q)).2))) 55 [(0, .ref o), (1, .int (lk s q))] [.int (bI (((pOne u s 4) (adv q)).1))]
            generalize er52 : (pOne u s 4) (adv q) = r52
            refine g_if_neB h 60 dX5_product_55 (by decide) (fun c55 => ?_) (fun c55 => ?_)
            · skip
              show G X 0 0 (mW (xT X) o a s (paS S u r52.2)) 60 [(0, .ref o), (1, .int (lk s q))] []
              have n0 : OKp s q (true, lay2 3 (lk s q) r52.2) := (by subst er52; exact adv_ok (pOne_ok u s 4) 3 (lk s q) hl c55); have n1 := At.ok a1 n0 rfl; have n2 : At s 1 r52.2 := (by subst er52; exact At.ok a2 ((pOne_ok u s 4) (adv q) a2.1) c55); have n3 := n2.st h0
              refine g_aload_n h dX5_product_60 rfl ?_
              refine g_iconst (v := nI 3) h dX5_product_61 (by decide) ?_
              refine g_iload_n h dX5_product_62 rfl ?_
              refine g_callVW0 h hE (m5_lays _ _ _ o a s S u r52.2 3 (lk s q) (by first | assumption | omega)) 0 rfl rfl (lw_V q1594 q1596 qs56 q95 q1597) gy_X5_lays ⟨Nat.le_of_ble_eq_true rfl, Nat.le_of_ble_eq_true rfl⟩ ⟨Nat.le_of_ble_eq_true rfl, Nat.le_of_ble_eq_true rfl⟩ rfl rfl (Nat.le_of_ble_eq_true rfl) dX5_product_63 (st' := []) rfl (fun _ e63 => ?_)
              subst e63
              refine g_goto h 9 dX5_product_66 (by decide) ?_
              refine g_lv (lv' := [(0, .ref o)]) (lvle_cons rfl (lvle_nil)) ?_
              exact ih_lw (lay2 3 (lk s q) r52.2, m0) (by show m0 < m0 + 1; omega) (by subst er52; exact e0_lw.trans (pR_t hq c55)) n1 (by subst er52; exact mu_ok ((pOne_ok u s 4) (adv q) a2.1) hl e2_lw)
            · skip
              show G X 0 0 (mW (xT X) o a s (paS S u r52.2)) 58 [(0, .ref o), (1, .int (lk s q))] []
              have e : (pProd (pOne u s 4) s) p = (false, r52.2) := (by subst er52; exact e0_lw.trans (pR_f hq c55))
              refine g_iconst (v := nI 0) h dX5_product_58 (by decide) ?_
              exact g_zretWv h hE dX5_product_59 (by rw [e]; rfl) (paW_eq (by rw [e]))
    exact lw (r1.2, 61) (by subst er1; exact pProd_t c4) a0 (by omega)
  · skip
    show G X 0 0 (mW (xT X) o a s (paS S u r1.2)) 7 [(0, .ref o)] []
    have e : (pProd (pOne u s 4) s) p = (false, r1.2) := (by subst er1; exact pProd_f c4)
    refine g_iconst (v := nI 0) h dX5_product_7 (by decide) ?_
    exact g_zretWv h hE dX5_product_8 (by rw [e]; rfl) (paW_eq (by rw [e]))
set_option maxHeartbeats 4000000 in
set_option maxRecDepth 100000 in
theorem m5_sum_4 (l : Launch) (D : va_G) (T : Nat → ClassId) (o : Nat) (a : Nat → Nat) (s : Nat → Int32) (S : Nat → Nat → Int32) (u : Nat) (p : PS) (h0 : Inv s) (h1 : u < 2) (h2 : At s 1 p) : MetW l D T yX5_sum cX5_sum 2 (some .boolean) 27 570 0 0 [.ref o] (mW T o a s (paS S u p)) (fun r_ w_ => r_ = some (.int (bI (((pSum (pOne u s 4) s) p).1))) ∧ (w_ = mW T o a s (paS S u (((pSum (pOne u s 4) s) p).2)))) := by
  refine metW (own := RX5) rfl (by decide) rfl (fun X h hl hDx hTx hnm hE => ?_)
  subst hl; subst hDx; subst hTx
  have hnp := h0.npl; have hnt := h0.ntl; have hnq := h0.nql
  have hnc := h0.ncl; have l0 := h2.1; have b0 := h2.2.1; have z0 := h2.2.2; have y0 := h2.st h0
  show G X 0 0 (mW (xT X) o a s (paS S u p)) 0 [(0, .ref o)] []
  refine g_aload_n h dX5_sum_0 rfl ?_
  refine g_callVW0 h hE (m5_product_4 _ _ _ o a s S u p h0 (by first | assumption | omega) (by first | assumption | omega)) 0 rfl rfl (lw_V q1578 q1580 qs52 q95 q1581) gy_X5_product ⟨Nat.le_of_ble_eq_true rfl, Nat.le_of_ble_eq_true rfl⟩ ⟨Nat.le_of_ble_eq_true rfl, Nat.le_of_ble_eq_true rfl⟩ rfl rfl (Nat.le_of_ble_eq_true rfl) dX5_sum_1 (st' := [.int (bI (((pProd (pOne u s 4) s) p).1))]) rfl (fun _ e1 => ?_)
  subst e1
  show G X 0 0 (mW (xT X) o a s (paS S u (((pProd (pOne u s 4) s) p).2))) 4 [(0, .ref o)] [.int (bI (((pProd (pOne u s 4) s) p).1))]
  generalize er1 : (pProd (pOne u s 4) s) p = r1
  refine g_if_neB h 9 dX5_sum_4 (by decide) (fun c4 => ?_) (fun c4 => ?_)
  · skip
    show G X 0 0 (mW (xT X) o a s (paS S u r1.2)) 9 [(0, .ref o)] []
    have a0 : At s 1 r1.2 := (by subst er1; exact h2.ok ((pProd_ok (pOne_ok u s 4)) p l0) c4); have l1 := a0.1
    have lw : ∀ q_ : (PS) × (Nat), (match q_ with | (q, m) => ((pSum (pOne u s 4) s) p = pR (pProd (pOne u s 4) s) s isAdd m q) → (At s 1 q) → (nC s - q.1 < m) → G X 0 0 (mW (xT X) o a s (paS S u q)) 9 [(0, .ref o)] []) := by
      refine g_rec (fun q_ => match q_ with | (q, m) => m) ?_
      rintro ⟨q, m⟩ ih_lw e0_lw e1_lw e2_lw
      skip
      have a1 := e1_lw; have l2 := a1.1; have y2 := a1.st h0
      refine g_aload_n h dX5_sum_9 rfl ?_
      refine g_callVR h (m5_look _ _ _ o a s S u q h0 (by first | assumption | omega)) (fun _ q => q) 0 rfl rfl (lw_V q1586 q1588 qs54 q95 q1589) gy_X5_look ⟨Nat.le_of_ble_eq_true rfl, Nat.le_of_ble_eq_true rfl⟩ ⟨Nat.le_of_ble_eq_true rfl, Nat.le_of_ble_eq_true rfl⟩ rfl rfl (Nat.le_of_ble_eq_true rfl) dX5_sum_10 ?_
      refine g_bipush (v := nI 43) h dX5_sum_13 (by decide) ?_
      refine g_toI (y := 43) rfl ?_
      refine g_icmp_eq h 27 dX5_sum_15 (by decide) (fun c15 => ?_) (fun c15 => ?_)
      · skip
        show G X 0 0 (mW (xT X) o a s (paS S u q)) 27 [(0, .ref o)] []
        have hq : isAdd (lk s q) = true := by simp [isAdd, c15]
        have hl := lk_lt (by decide) hq; obtain ⟨m0, rfl⟩ : ∃ k, m = k + 1 := ⟨m - 1, by omega⟩; have a2 := a1.adv hl
        refine g_aload_n h dX5_sum_27 rfl ?_
        refine g_callVR h (m5_look _ _ _ o a s S u q h0 (by first | assumption | omega)) (fun _ q => q) 0 rfl rfl (lw_V q1586 q1588 qs54 q95 q1589) gy_X5_look ⟨Nat.le_of_ble_eq_true rfl, Nat.le_of_ble_eq_true rfl⟩ ⟨Nat.le_of_ble_eq_true rfl, Nat.le_of_ble_eq_true rfl⟩ rfl rfl (Nat.le_of_ble_eq_true rfl) dX5_sum_28 ?_
        refine g_istore_n (lv' := [(0, .ref o), (1, .int (lk s q))]) h dX5_sum_31 (by decide) rfl ?_
        refine g_aload_n h dX5_sum_32 rfl ?_
        refine g_dup h dX5_sum_33 rfl ?_
        refine g_get h in_X5 0 rfl rfl 5 rfl q1379 rfl rfl dX5_sum_34 ?_
        show G X 0 0 (mW (xT X) o a s (paS S u q)) 37 [(0, .ref o), (1, .int (lk s q))] [.int (nI q.1), .ref o]
        refine g_iconst (v := nI 1) h dX5_sum_37 (by decide) ?_
        refine g_iaddN h dX5_sum_38 ?_
        refine g_put (ws' := mW (xT X) o a s (paS S u (adv q))) h hE.1 in_X5 tyX5 tyX5_ok nmX5 0 rfl rfl 5 rfl q1379 rfl rfl rfl rfl rfl rfl dX5_sum_39 rfl ?_
        refine g_aload_n h dX5_sum_42 rfl ?_
        refine g_callVW0 h hE (m5_product_4 _ _ _ o a s S u (adv q) h0 (by first | assumption | omega) (by first | assumption | omega)) 0 rfl rfl (lw_V q1578 q1580 qs52 q95 q1581) gy_X5_product ⟨Nat.le_of_ble_eq_true rfl, Nat.le_of_ble_eq_true rfl⟩ ⟨Nat.le_of_ble_eq_true rfl, Nat.le_of_ble_eq_true rfl⟩ rfl rfl (Nat.le_of_ble_eq_true rfl) dX5_sum_43 (st' := [.int (bI (((pProd (pOne u s 4) s) (adv q)).1))]) rfl (fun _ e43 => ?_)
        subst e43
        show G X 0 0 (mW (xT X) o a s (paS S u (((pProd (pOne u s 4) s) (adv q)).2))) 46 [(0, .ref o), (1, .int (lk s q))] [.int (bI (((pProd (pOne u s 4) s) (adv q)).1))]
        generalize er43 : (pProd (pOne u s 4) s) (adv q) = r43
        refine g_if_neB h 51 dX5_sum_46 (by decide) (fun c46 => ?_) (fun c46 => ?_)
        · skip
          show G X 0 0 (mW (xT X) o a s (paS S u r43.2)) 51 [(0, .ref o), (1, .int (lk s q))] []
          have n0 : OKp s q (true, lay2 3 (lk s q) r43.2) := (by subst er43; exact adv_ok (pProd_ok (pOne_ok u s 4)) 3 (lk s q) hl c46); have n1 := At.ok a1 n0 rfl; have n2 : At s 1 r43.2 := (by subst er43; exact At.ok a2 ((pProd_ok (pOne_ok u s 4)) (adv q) a2.1) c46); have n3 := n2.st h0
          refine g_aload_n h dX5_sum_51 rfl ?_
          refine g_iconst (v := nI 3) h dX5_sum_52 (by decide) ?_
          refine g_iload_n h dX5_sum_53 rfl ?_
          refine g_callVW0 h hE (m5_lays _ _ _ o a s S u r43.2 3 (lk s q) (by first | assumption | omega)) 0 rfl rfl (lw_V q1594 q1596 qs56 q95 q1597) gy_X5_lays ⟨Nat.le_of_ble_eq_true rfl, Nat.le_of_ble_eq_true rfl⟩ ⟨Nat.le_of_ble_eq_true rfl, Nat.le_of_ble_eq_true rfl⟩ rfl rfl (Nat.le_of_ble_eq_true rfl) dX5_sum_54 (st' := []) rfl (fun _ e54 => ?_)
          subst e54
          refine g_goto h 9 dX5_sum_57 (by decide) ?_
          refine g_lv (lv' := [(0, .ref o)]) (lvle_cons rfl (lvle_nil)) ?_
          exact ih_lw (lay2 3 (lk s q) r43.2, m0) (by show m0 < m0 + 1; omega) (by subst er43; exact e0_lw.trans (pR_t hq c46)) n1 (by subst er43; exact mu_ok ((pProd_ok (pOne_ok u s 4)) (adv q) a2.1) hl e2_lw)
        · skip
          show G X 0 0 (mW (xT X) o a s (paS S u r43.2)) 49 [(0, .ref o), (1, .int (lk s q))] []
          have e : (pSum (pOne u s 4) s) p = (false, r43.2) := (by subst er43; exact e0_lw.trans (pR_f hq c46))
          refine g_iconst (v := nI 0) h dX5_sum_49 (by decide) ?_
          exact g_zretWv h hE dX5_sum_50 (by rw [e]; rfl) (paW_eq (by rw [e]))
      · skip
        show G X 0 0 (mW (xT X) o a s (paS S u q)) 18 [(0, .ref o)] []
        refine g_aload_n h dX5_sum_18 rfl ?_
        refine g_callVR h (m5_look _ _ _ o a s S u q h0 (by first | assumption | omega)) (fun _ q => q) 0 rfl rfl (lw_V q1586 q1588 qs54 q95 q1589) gy_X5_look ⟨Nat.le_of_ble_eq_true rfl, Nat.le_of_ble_eq_true rfl⟩ ⟨Nat.le_of_ble_eq_true rfl, Nat.le_of_ble_eq_true rfl⟩ rfl rfl (Nat.le_of_ble_eq_true rfl) dX5_sum_19 ?_
        refine g_bipush (v := nI 45) h dX5_sum_22 (by decide) ?_
        refine g_toI (y := 45) rfl ?_
        refine g_icmp_ne h 60 dX5_sum_24 (by decide) (fun c24 => ?_) (fun c24 => ?_)
        · skip
          show G X 0 0 (mW (xT X) o a s (paS S u q)) 60 [(0, .ref o)] []
          have hq : isAdd (lk s q) = false := by simp [isAdd, c15, c24]
          have e : (pSum (pOne u s 4) s) p = (true, q) := e0_lw.trans (pR_n hq)
          refine g_iconst (v := nI 1) h dX5_sum_60 (by decide) ?_
          exact g_zretWv h hE dX5_sum_61 (by rw [e]; rfl) (paW_eq (by rw [e]))
        · skip
          show G X 0 0 (mW (xT X) o a s (paS S u q)) 27 [(0, .ref o)] []
          have hq : isAdd (lk s q) = true := by simp [isAdd, c15, c24]
          have hl := lk_lt (by decide) hq; obtain ⟨m0, rfl⟩ : ∃ k, m = k + 1 := ⟨m - 1, by omega⟩; have a2 := a1.adv hl
          refine g_aload_n h dX5_sum_27 rfl ?_
          refine g_callVR h (m5_look _ _ _ o a s S u q h0 (by first | assumption | omega)) (fun _ q => q) 0 rfl rfl (lw_V q1586 q1588 qs54 q95 q1589) gy_X5_look ⟨Nat.le_of_ble_eq_true rfl, Nat.le_of_ble_eq_true rfl⟩ ⟨Nat.le_of_ble_eq_true rfl, Nat.le_of_ble_eq_true rfl⟩ rfl rfl (Nat.le_of_ble_eq_true rfl) dX5_sum_28 ?_
          refine g_istore_n (lv' := [(0, .ref o), (1, .int (lk s q))]) h dX5_sum_31 (by decide) rfl ?_
          refine g_aload_n h dX5_sum_32 rfl ?_
          refine g_dup h dX5_sum_33 rfl ?_
          refine g_get h in_X5 0 rfl rfl 5 rfl q1379 rfl rfl dX5_sum_34 ?_
          show G X 0 0 (mW (xT X) o a s (paS S u q)) 37 [(0, .ref o), (1, .int (lk s q))] [.int (nI q.1), .ref o]
          refine g_iconst (v := nI 1) h dX5_sum_37 (by decide) ?_
          refine g_iaddN h dX5_sum_38 ?_
          refine g_put (ws' := mW (xT X) o a s (paS S u (adv q))) h hE.1 in_X5 tyX5 tyX5_ok nmX5 0 rfl rfl 5 rfl q1379 rfl rfl rfl rfl rfl rfl dX5_sum_39 rfl ?_
          refine g_aload_n h dX5_sum_42 rfl ?_
          refine g_callVW0 h hE (m5_product_4 _ _ _ o a s S u (adv q) h0 (by first | assumption | omega) (by first | assumption | omega)) 0 rfl rfl (lw_V q1578 q1580 qs52 q95 q1581) gy_X5_product ⟨Nat.le_of_ble_eq_true rfl, Nat.le_of_ble_eq_true rfl⟩ ⟨Nat.le_of_ble_eq_true rfl, Nat.le_of_ble_eq_true rfl⟩ rfl rfl (Nat.le_of_ble_eq_true rfl) dX5_sum_43 (st' := [.int (bI (((pProd (pOne u s 4) s) (adv q)).1))]) rfl (fun _ e43 => ?_)
          subst e43
          show G X 0 0 (mW (xT X) o a s (paS S u (((pProd (pOne u s 4) s) (adv q)).2))) 46 [(0, .ref o), (1, .int (lk s q))] [.int (bI (((pProd (pOne u s 4) s) (adv q)).1))]
          generalize er43 : (pProd (pOne u s 4) s) (adv q) = r43
          refine g_if_neB h 51 dX5_sum_46 (by decide) (fun c46 => ?_) (fun c46 => ?_)
          · skip
            show G X 0 0 (mW (xT X) o a s (paS S u r43.2)) 51 [(0, .ref o), (1, .int (lk s q))] []
            have n0 : OKp s q (true, lay2 3 (lk s q) r43.2) := (by subst er43; exact adv_ok (pProd_ok (pOne_ok u s 4)) 3 (lk s q) hl c46); have n1 := At.ok a1 n0 rfl; have n2 : At s 1 r43.2 := (by subst er43; exact At.ok a2 ((pProd_ok (pOne_ok u s 4)) (adv q) a2.1) c46); have n3 := n2.st h0
            refine g_aload_n h dX5_sum_51 rfl ?_
            refine g_iconst (v := nI 3) h dX5_sum_52 (by decide) ?_
            refine g_iload_n h dX5_sum_53 rfl ?_
            refine g_callVW0 h hE (m5_lays _ _ _ o a s S u r43.2 3 (lk s q) (by first | assumption | omega)) 0 rfl rfl (lw_V q1594 q1596 qs56 q95 q1597) gy_X5_lays ⟨Nat.le_of_ble_eq_true rfl, Nat.le_of_ble_eq_true rfl⟩ ⟨Nat.le_of_ble_eq_true rfl, Nat.le_of_ble_eq_true rfl⟩ rfl rfl (Nat.le_of_ble_eq_true rfl) dX5_sum_54 (st' := []) rfl (fun _ e54 => ?_)
            subst e54
            refine g_goto h 9 dX5_sum_57 (by decide) ?_
            refine g_lv (lv' := [(0, .ref o)]) (lvle_cons rfl (lvle_nil)) ?_
            exact ih_lw (lay2 3 (lk s q) r43.2, m0) (by show m0 < m0 + 1; omega) (by subst er43; exact e0_lw.trans (pR_t hq c46)) n1 (by subst er43; exact mu_ok ((pProd_ok (pOne_ok u s 4)) (adv q) a2.1) hl e2_lw)
          · skip
            show G X 0 0 (mW (xT X) o a s (paS S u r43.2)) 49 [(0, .ref o), (1, .int (lk s q))] []
            have e : (pSum (pOne u s 4) s) p = (false, r43.2) := (by subst er43; exact e0_lw.trans (pR_f hq c46))
            refine g_iconst (v := nI 0) h dX5_sum_49 (by decide) ?_
            exact g_zretWv h hE dX5_sum_50 (by rw [e]; rfl) (paW_eq (by rw [e]))
    exact lw (r1.2, 61) (by subst er1; exact pSum_t c4) a0 (by omega)
  · skip
    show G X 0 0 (mW (xT X) o a s (paS S u r1.2)) 7 [(0, .ref o)] []
    have e : (pSum (pOne u s 4) s) p = (false, r1.2) := (by subst er1; exact pSum_f c4)
    refine g_iconst (v := nI 0) h dX5_sum_7 (by decide) ?_
    exact g_zretWv h hE dX5_sum_8 (by rw [e]; rfl) (paW_eq (by rw [e]))
set_option maxHeartbeats 4000000 in
set_option maxRecDepth 100000 in
theorem m5_compared_4 (l : Launch) (D : va_G) (T : Nat → ClassId) (o : Nat) (a : Nat → Nat) (s : Nat → Int32) (S : Nat → Nat → Int32) (u : Nat) (p : PS) (h0 : Inv s) (h1 : u < 2) (h2 : At s 1 p) : MetW l D T yX5_compared cX5_compared 2 (some .boolean) 28 591 0 0 [.ref o] (mW T o a s (paS S u p)) (fun r_ w_ => r_ = some (.int (bI (((pCmp (pOne u s 4) s) p).1))) ∧ (w_ = mW T o a s (paS S u (((pCmp (pOne u s 4) s) p).2)))) := by
  refine metW (own := RX5) rfl (by decide) rfl (fun X h hl hDx hTx hnm hE => ?_)
  subst hl; subst hDx; subst hTx
  have hnp := h0.npl; have hnt := h0.ntl; have hnq := h0.nql
  have hnc := h0.ncl; have l0 := h2.1; have b0 := h2.2.1; have z0 := h2.2.2; have y0 := h2.st h0
  show G X 0 0 (mW (xT X) o a s (paS S u p)) 0 [(0, .ref o)] []
  refine g_aload_n h dX5_compared_0 rfl ?_
  refine g_callVW0 h hE (m5_sum_4 _ _ _ o a s S u p h0 (by first | assumption | omega) (by first | assumption | omega)) 0 rfl rfl (lw_V q1574 q1576 qs51 q95 q1577) gy_X5_sum ⟨Nat.le_of_ble_eq_true rfl, Nat.le_of_ble_eq_true rfl⟩ ⟨Nat.le_of_ble_eq_true rfl, Nat.le_of_ble_eq_true rfl⟩ rfl rfl (Nat.le_of_ble_eq_true rfl) dX5_compared_1 (st' := [.int (bI (((pSum (pOne u s 4) s) p).1))]) rfl (fun _ e1 => ?_)
  subst e1
  show G X 0 0 (mW (xT X) o a s (paS S u (((pSum (pOne u s 4) s) p).2))) 4 [(0, .ref o)] [.int (bI (((pSum (pOne u s 4) s) p).1))]
  generalize er1 : (pSum (pOne u s 4) s) p = r1
  refine g_if_neB h 9 dX5_compared_4 (by decide) (fun c4 => ?_) (fun c4 => ?_)
  · skip
    show G X 0 0 (mW (xT X) o a s (paS S u r1.2)) 9 [(0, .ref o)] []
    have a1 : At s 1 r1.2 := (by subst er1; exact h2.ok ((pSum_ok (pOne_ok u s 4)) p l0) c4); have l1 := a1.1
    refine g_aload_n h dX5_compared_9 rfl ?_
    refine g_callVR h (m5_look _ _ _ o a s S u r1.2 h0 (by first | assumption | omega)) (fun _ q => q) 0 rfl rfl (lw_V q1586 q1588 qs54 q95 q1589) gy_X5_look ⟨Nat.le_of_ble_eq_true rfl, Nat.le_of_ble_eq_true rfl⟩ ⟨Nat.le_of_ble_eq_true rfl, Nat.le_of_ble_eq_true rfl⟩ rfl rfl (Nat.le_of_ble_eq_true rfl) dX5_compared_10 ?_
    refine g_istore_n (lv' := [(0, .ref o), (1, .int (lk s r1.2))]) h dX5_compared_13 (by decide) rfl ?_
    refine g_iload_n h dX5_compared_14 rfl ?_
    refine g_bipush (v := nI 60) h dX5_compared_15 (by decide) ?_
    refine g_toI (y := 60) rfl ?_
    refine g_icmp_eq h 34 dX5_compared_17 (by decide) (fun c17 => ?_) (fun c17 => ?_)
    · skip
      show G X 0 0 (mW (xT X) o a s (paS S u r1.2)) 34 [(0, .ref o), (1, .int (lk s r1.2))] []
      have hq : isCmp (lk s r1.2) = true := by simp [isCmp, c17]
      have hl := lk_lt (by decide) hq; have a2 := a1.adv hl
      refine g_aload_n h dX5_compared_34 rfl ?_
      refine g_dup h dX5_compared_35 rfl ?_
      refine g_get h in_X5 0 rfl rfl 5 rfl q1379 rfl rfl dX5_compared_36 ?_
      show G X 0 0 (mW (xT X) o a s (paS S u r1.2)) 39 [(0, .ref o), (1, .int (lk s r1.2))] [.int (nI r1.2.1), .ref o]
      refine g_iconst (v := nI 1) h dX5_compared_39 (by decide) ?_
      refine g_iaddN h dX5_compared_40 ?_
      refine g_put (ws' := mW (xT X) o a s (paS S u (adv r1.2))) h hE.1 in_X5 tyX5 tyX5_ok nmX5 0 rfl rfl 5 rfl q1379 rfl rfl rfl rfl rfl rfl dX5_compared_41 rfl ?_
      refine g_aload_n h dX5_compared_44 rfl ?_
      refine g_callVW0 h hE (m5_sum_4 _ _ _ o a s S u (adv r1.2) h0 (by first | assumption | omega) (by first | assumption | omega)) 0 rfl rfl (lw_V q1574 q1576 qs51 q95 q1577) gy_X5_sum ⟨Nat.le_of_ble_eq_true rfl, Nat.le_of_ble_eq_true rfl⟩ ⟨Nat.le_of_ble_eq_true rfl, Nat.le_of_ble_eq_true rfl⟩ rfl rfl (Nat.le_of_ble_eq_true rfl) dX5_compared_45 (st' := [.int (bI (((pSum (pOne u s 4) s) (adv r1.2)).1))]) rfl (fun _ e45 => ?_)
      subst e45
      show G X 0 0 (mW (xT X) o a s (paS S u (((pSum (pOne u s 4) s) (adv r1.2)).2))) 48 [(0, .ref o), (1, .int (lk s r1.2))] [.int (bI (((pSum (pOne u s 4) s) (adv r1.2)).1))]
      generalize er45 : (pSum (pOne u s 4) s) (adv r1.2) = r45
      refine g_if_neB h 53 dX5_compared_48 (by decide) (fun c48 => ?_) (fun c48 => ?_)
      · skip
        show G X 0 0 (mW (xT X) o a s (paS S u r45.2)) 53 [(0, .ref o), (1, .int (lk s r1.2))] []
        have e : (pCmp (pOne u s 4) s) p = (true, lay2 3 (lk s r1.2) r45.2) := (by subst er45; subst er1; exact pCmp_t c4 hq c48); have n2 : At s 1 r45.2 := (by subst er45; exact At.ok a2 ((pSum_ok (pOne_ok u s 4)) (adv r1.2) a2.1) c48); have n3 := n2.st h0
        refine g_aload_n h dX5_compared_53 rfl ?_
        refine g_iconst (v := nI 3) h dX5_compared_54 (by decide) ?_
        refine g_iload_n h dX5_compared_55 rfl ?_
        refine g_callVW0 h hE (m5_lays _ _ _ o a s S u r45.2 3 (lk s r1.2) (by first | assumption | omega)) 0 rfl rfl (lw_V q1594 q1596 qs56 q95 q1597) gy_X5_lays ⟨Nat.le_of_ble_eq_true rfl, Nat.le_of_ble_eq_true rfl⟩ ⟨Nat.le_of_ble_eq_true rfl, Nat.le_of_ble_eq_true rfl⟩ rfl rfl (Nat.le_of_ble_eq_true rfl) dX5_compared_56 (st' := []) rfl (fun _ e56 => ?_)
        subst e56
        refine g_iconst (v := nI 1) h dX5_compared_59 (by decide) ?_
        exact g_zretWv h hE dX5_compared_60 (by rw [e]; rfl) (paW_eq (by rw [e]))
      · skip
        show G X 0 0 (mW (xT X) o a s (paS S u r45.2)) 51 [(0, .ref o), (1, .int (lk s r1.2))] []
        have e : (pCmp (pOne u s 4) s) p = (false, r45.2) := (by subst er45; subst er1; exact pCmp_e c4 hq c48)
        refine g_iconst (v := nI 0) h dX5_compared_51 (by decide) ?_
        exact g_zretWv h hE dX5_compared_52 (by rw [e]; rfl) (paW_eq (by rw [e]))
    · skip
      show G X 0 0 (mW (xT X) o a s (paS S u r1.2)) 20 [(0, .ref o), (1, .int (lk s r1.2))] []
      refine g_iload_n h dX5_compared_20 rfl ?_
      refine g_bipush (v := nI 61) h dX5_compared_21 (by decide) ?_
      refine g_toI (y := 61) rfl ?_
      refine g_icmp_eq h 34 dX5_compared_23 (by decide) (fun c23 => ?_) (fun c23 => ?_)
      · skip
        show G X 0 0 (mW (xT X) o a s (paS S u r1.2)) 34 [(0, .ref o), (1, .int (lk s r1.2))] []
        have hq : isCmp (lk s r1.2) = true := by simp [isCmp, c17, c23]
        have hl := lk_lt (by decide) hq; have a2 := a1.adv hl
        refine g_aload_n h dX5_compared_34 rfl ?_
        refine g_dup h dX5_compared_35 rfl ?_
        refine g_get h in_X5 0 rfl rfl 5 rfl q1379 rfl rfl dX5_compared_36 ?_
        show G X 0 0 (mW (xT X) o a s (paS S u r1.2)) 39 [(0, .ref o), (1, .int (lk s r1.2))] [.int (nI r1.2.1), .ref o]
        refine g_iconst (v := nI 1) h dX5_compared_39 (by decide) ?_
        refine g_iaddN h dX5_compared_40 ?_
        refine g_put (ws' := mW (xT X) o a s (paS S u (adv r1.2))) h hE.1 in_X5 tyX5 tyX5_ok nmX5 0 rfl rfl 5 rfl q1379 rfl rfl rfl rfl rfl rfl dX5_compared_41 rfl ?_
        refine g_aload_n h dX5_compared_44 rfl ?_
        refine g_callVW0 h hE (m5_sum_4 _ _ _ o a s S u (adv r1.2) h0 (by first | assumption | omega) (by first | assumption | omega)) 0 rfl rfl (lw_V q1574 q1576 qs51 q95 q1577) gy_X5_sum ⟨Nat.le_of_ble_eq_true rfl, Nat.le_of_ble_eq_true rfl⟩ ⟨Nat.le_of_ble_eq_true rfl, Nat.le_of_ble_eq_true rfl⟩ rfl rfl (Nat.le_of_ble_eq_true rfl) dX5_compared_45 (st' := [.int (bI (((pSum (pOne u s 4) s) (adv r1.2)).1))]) rfl (fun _ e45 => ?_)
        subst e45
        show G X 0 0 (mW (xT X) o a s (paS S u (((pSum (pOne u s 4) s) (adv r1.2)).2))) 48 [(0, .ref o), (1, .int (lk s r1.2))] [.int (bI (((pSum (pOne u s 4) s) (adv r1.2)).1))]
        generalize er45 : (pSum (pOne u s 4) s) (adv r1.2) = r45
        refine g_if_neB h 53 dX5_compared_48 (by decide) (fun c48 => ?_) (fun c48 => ?_)
        · skip
          show G X 0 0 (mW (xT X) o a s (paS S u r45.2)) 53 [(0, .ref o), (1, .int (lk s r1.2))] []
          have e : (pCmp (pOne u s 4) s) p = (true, lay2 3 (lk s r1.2) r45.2) := (by subst er45; subst er1; exact pCmp_t c4 hq c48); have n2 : At s 1 r45.2 := (by subst er45; exact At.ok a2 ((pSum_ok (pOne_ok u s 4)) (adv r1.2) a2.1) c48); have n3 := n2.st h0
          refine g_aload_n h dX5_compared_53 rfl ?_
          refine g_iconst (v := nI 3) h dX5_compared_54 (by decide) ?_
          refine g_iload_n h dX5_compared_55 rfl ?_
          refine g_callVW0 h hE (m5_lays _ _ _ o a s S u r45.2 3 (lk s r1.2) (by first | assumption | omega)) 0 rfl rfl (lw_V q1594 q1596 qs56 q95 q1597) gy_X5_lays ⟨Nat.le_of_ble_eq_true rfl, Nat.le_of_ble_eq_true rfl⟩ ⟨Nat.le_of_ble_eq_true rfl, Nat.le_of_ble_eq_true rfl⟩ rfl rfl (Nat.le_of_ble_eq_true rfl) dX5_compared_56 (st' := []) rfl (fun _ e56 => ?_)
          subst e56
          refine g_iconst (v := nI 1) h dX5_compared_59 (by decide) ?_
          exact g_zretWv h hE dX5_compared_60 (by rw [e]; rfl) (paW_eq (by rw [e]))
        · skip
          show G X 0 0 (mW (xT X) o a s (paS S u r45.2)) 51 [(0, .ref o), (1, .int (lk s r1.2))] []
          have e : (pCmp (pOne u s 4) s) p = (false, r45.2) := (by subst er45; subst er1; exact pCmp_e c4 hq c48)
          refine g_iconst (v := nI 0) h dX5_compared_51 (by decide) ?_
          exact g_zretWv h hE dX5_compared_52 (by rw [e]; rfl) (paW_eq (by rw [e]))
      · skip
        show G X 0 0 (mW (xT X) o a s (paS S u r1.2)) 26 [(0, .ref o), (1, .int (lk s r1.2))] []
        refine g_iload_n h dX5_compared_26 rfl ?_
        refine g_bipush (v := nI 62) h dX5_compared_27 (by decide) ?_
        refine g_toI (y := 62) rfl ?_
        refine g_icmp_eq h 34 dX5_compared_29 (by decide) (fun c29 => ?_) (fun c29 => ?_)
        · skip
          show G X 0 0 (mW (xT X) o a s (paS S u r1.2)) 34 [(0, .ref o), (1, .int (lk s r1.2))] []
          have hq : isCmp (lk s r1.2) = true := by simp [isCmp, c17, c23, c29]
          have hl := lk_lt (by decide) hq; have a2 := a1.adv hl
          refine g_aload_n h dX5_compared_34 rfl ?_
          refine g_dup h dX5_compared_35 rfl ?_
          refine g_get h in_X5 0 rfl rfl 5 rfl q1379 rfl rfl dX5_compared_36 ?_
          show G X 0 0 (mW (xT X) o a s (paS S u r1.2)) 39 [(0, .ref o), (1, .int (lk s r1.2))] [.int (nI r1.2.1), .ref o]
          refine g_iconst (v := nI 1) h dX5_compared_39 (by decide) ?_
          refine g_iaddN h dX5_compared_40 ?_
          refine g_put (ws' := mW (xT X) o a s (paS S u (adv r1.2))) h hE.1 in_X5 tyX5 tyX5_ok nmX5 0 rfl rfl 5 rfl q1379 rfl rfl rfl rfl rfl rfl dX5_compared_41 rfl ?_
          refine g_aload_n h dX5_compared_44 rfl ?_
          refine g_callVW0 h hE (m5_sum_4 _ _ _ o a s S u (adv r1.2) h0 (by first | assumption | omega) (by first | assumption | omega)) 0 rfl rfl (lw_V q1574 q1576 qs51 q95 q1577) gy_X5_sum ⟨Nat.le_of_ble_eq_true rfl, Nat.le_of_ble_eq_true rfl⟩ ⟨Nat.le_of_ble_eq_true rfl, Nat.le_of_ble_eq_true rfl⟩ rfl rfl (Nat.le_of_ble_eq_true rfl) dX5_compared_45 (st' := [.int (bI (((pSum (pOne u s 4) s) (adv r1.2)).1))]) rfl (fun _ e45 => ?_)
          subst e45
          show G X 0 0 (mW (xT X) o a s (paS S u (((pSum (pOne u s 4) s) (adv r1.2)).2))) 48 [(0, .ref o), (1, .int (lk s r1.2))] [.int (bI (((pSum (pOne u s 4) s) (adv r1.2)).1))]
          generalize er45 : (pSum (pOne u s 4) s) (adv r1.2) = r45
          refine g_if_neB h 53 dX5_compared_48 (by decide) (fun c48 => ?_) (fun c48 => ?_)
          · skip
            show G X 0 0 (mW (xT X) o a s (paS S u r45.2)) 53 [(0, .ref o), (1, .int (lk s r1.2))] []
            have e : (pCmp (pOne u s 4) s) p = (true, lay2 3 (lk s r1.2) r45.2) := (by subst er45; subst er1; exact pCmp_t c4 hq c48); have n2 : At s 1 r45.2 := (by subst er45; exact At.ok a2 ((pSum_ok (pOne_ok u s 4)) (adv r1.2) a2.1) c48); have n3 := n2.st h0
            refine g_aload_n h dX5_compared_53 rfl ?_
            refine g_iconst (v := nI 3) h dX5_compared_54 (by decide) ?_
            refine g_iload_n h dX5_compared_55 rfl ?_
            refine g_callVW0 h hE (m5_lays _ _ _ o a s S u r45.2 3 (lk s r1.2) (by first | assumption | omega)) 0 rfl rfl (lw_V q1594 q1596 qs56 q95 q1597) gy_X5_lays ⟨Nat.le_of_ble_eq_true rfl, Nat.le_of_ble_eq_true rfl⟩ ⟨Nat.le_of_ble_eq_true rfl, Nat.le_of_ble_eq_true rfl⟩ rfl rfl (Nat.le_of_ble_eq_true rfl) dX5_compared_56 (st' := []) rfl (fun _ e56 => ?_)
            subst e56
            refine g_iconst (v := nI 1) h dX5_compared_59 (by decide) ?_
            exact g_zretWv h hE dX5_compared_60 (by rw [e]; rfl) (paW_eq (by rw [e]))
          · skip
            show G X 0 0 (mW (xT X) o a s (paS S u r45.2)) 51 [(0, .ref o), (1, .int (lk s r1.2))] []
            have e : (pCmp (pOne u s 4) s) p = (false, r45.2) := (by subst er45; subst er1; exact pCmp_e c4 hq c48)
            refine g_iconst (v := nI 0) h dX5_compared_51 (by decide) ?_
            exact g_zretWv h hE dX5_compared_52 (by rw [e]; rfl) (paW_eq (by rw [e]))
        · skip
          show G X 0 0 (mW (xT X) o a s (paS S u r1.2)) 32 [(0, .ref o), (1, .int (lk s r1.2))] []
          have hq : isCmp (lk s r1.2) = false := by simp [isCmp, c17, c23, c29]
          have e : (pCmp (pOne u s 4) s) p = (true, r1.2) := (by subst er1; exact pCmp_n c4 hq)
          refine g_iconst (v := nI 1) h dX5_compared_32 (by decide) ?_
          exact g_zretWv h hE dX5_compared_33 (by rw [e]; rfl) (paW_eq (by rw [e]))
  · skip
    show G X 0 0 (mW (xT X) o a s (paS S u r1.2)) 7 [(0, .ref o)] []
    have e : (pCmp (pOne u s 4) s) p = (false, r1.2) := (by subst er1; exact pCmp_f c4)
    refine g_iconst (v := nI 0) h dX5_compared_7 (by decide) ?_
    exact g_zretWv h hE dX5_compared_8 (by rw [e]; rfl) (paW_eq (by rw [e]))
set_option maxHeartbeats 4000000 in
set_option maxRecDepth 100000 in
theorem m5_both_4 (l : Launch) (D : va_G) (T : Nat → ClassId) (o : Nat) (a : Nat → Nat) (s : Nat → Int32) (S : Nat → Nat → Int32) (u : Nat) (p : PS) (h0 : Inv s) (h1 : u < 2) (h2 : At s 1 p) : MetW l D T yX5_both cX5_both 1 (some .boolean) 29 612 0 0 [.ref o] (mW T o a s (paS S u p)) (fun r_ w_ => r_ = some (.int (bI (((pBoth (pOne u s 4) s) p).1))) ∧ (w_ = mW T o a s (paS S u (((pBoth (pOne u s 4) s) p).2)))) := by
  refine metW (own := RX5) rfl (by decide) rfl (fun X h hl hDx hTx hnm hE => ?_)
  subst hl; subst hDx; subst hTx
  have hnp := h0.npl; have hnt := h0.ntl; have hnq := h0.nql
  have hnc := h0.ncl; have l0 := h2.1; have b0 := h2.2.1; have z0 := h2.2.2; have y0 := h2.st h0
  show G X 0 0 (mW (xT X) o a s (paS S u p)) 0 [(0, .ref o)] []
  refine g_aload_n h dX5_both_0 rfl ?_
  refine g_callVW0 h hE (m5_compared_4 _ _ _ o a s S u p h0 (by first | assumption | omega) (by first | assumption | omega)) 0 rfl rfl (lw_V q1570 q1572 qs50 q95 q1573) gy_X5_compared ⟨Nat.le_of_ble_eq_true rfl, Nat.le_of_ble_eq_true rfl⟩ ⟨Nat.le_of_ble_eq_true rfl, Nat.le_of_ble_eq_true rfl⟩ rfl rfl (Nat.le_of_ble_eq_true rfl) dX5_both_1 (st' := [.int (bI (((pCmp (pOne u s 4) s) p).1))]) rfl (fun _ e1 => ?_)
  subst e1
  show G X 0 0 (mW (xT X) o a s (paS S u (((pCmp (pOne u s 4) s) p).2))) 4 [(0, .ref o)] [.int (bI (((pCmp (pOne u s 4) s) p).1))]
  generalize er1 : (pCmp (pOne u s 4) s) p = r1
  refine g_if_neB h 9 dX5_both_4 (by decide) (fun c4 => ?_) (fun c4 => ?_)
  · skip
    show G X 0 0 (mW (xT X) o a s (paS S u r1.2)) 9 [(0, .ref o)] []
    have a0 : At s 1 r1.2 := (by subst er1; exact h2.ok ((pCmp_ok (pOne_ok u s 4)) p l0) c4); have l1 := a0.1
    have lw : ∀ q_ : (PS) × (Nat), (match q_ with | (q, m) => ((pBoth (pOne u s 4) s) p = pR (pCmp (pOne u s 4) s) s isAnd m q) → (At s 1 q) → (nC s - q.1 < m) → G X 0 0 (mW (xT X) o a s (paS S u q)) 9 [(0, .ref o)] []) := by
      refine g_rec (fun q_ => match q_ with | (q, m) => m) ?_
      rintro ⟨q, m⟩ ih_lw e0_lw e1_lw e2_lw
      skip
      have a1 := e1_lw; have l2 := a1.1; have y2 := a1.st h0
      refine g_aload_n h dX5_both_9 rfl ?_
      refine g_callVR h (m5_look _ _ _ o a s S u q h0 (by first | assumption | omega)) (fun _ q => q) 0 rfl rfl (lw_V q1586 q1588 qs54 q95 q1589) gy_X5_look ⟨Nat.le_of_ble_eq_true rfl, Nat.le_of_ble_eq_true rfl⟩ ⟨Nat.le_of_ble_eq_true rfl, Nat.le_of_ble_eq_true rfl⟩ rfl rfl (Nat.le_of_ble_eq_true rfl) dX5_both_10 ?_
      refine g_bipush (v := nI 38) h dX5_both_13 (by decide) ?_
      refine g_toI (y := 38) rfl ?_
      refine g_icmp_ne h 47 dX5_both_15 (by decide) (fun c15 => ?_) (fun c15 => ?_)
      · skip
        show G X 0 0 (mW (xT X) o a s (paS S u q)) 47 [(0, .ref o)] []
        have hq : isAnd (lk s q) = false := by simp [isAnd, c15]
        have e : (pBoth (pOne u s 4) s) p = (true, q) := e0_lw.trans (pR_n hq)
        refine g_iconst (v := nI 1) h dX5_both_47 (by decide) ?_
        exact g_zretWv h hE dX5_both_48 (by rw [e]; rfl) (paW_eq (by rw [e]))
      · skip
        show G X 0 0 (mW (xT X) o a s (paS S u q)) 18 [(0, .ref o)] []
        have hq : isAnd (lk s q) = true := by simp [isAnd, c15]
        have hl := lk_lt (by decide) hq; obtain ⟨m0, rfl⟩ : ∃ k, m = k + 1 := ⟨m - 1, by omega⟩; have a2 := a1.adv hl
        refine g_aload_n h dX5_both_18 rfl ?_
        refine g_dup h dX5_both_19 rfl ?_
        refine g_get h in_X5 0 rfl rfl 5 rfl q1379 rfl rfl dX5_both_20 ?_
        show G X 0 0 (mW (xT X) o a s (paS S u q)) 23 [(0, .ref o)] [.int (nI q.1), .ref o]
        refine g_iconst (v := nI 1) h dX5_both_23 (by decide) ?_
        refine g_iaddN h dX5_both_24 ?_
        refine g_put (ws' := mW (xT X) o a s (paS S u (adv q))) h hE.1 in_X5 tyX5 tyX5_ok nmX5 0 rfl rfl 5 rfl q1379 rfl rfl rfl rfl rfl rfl dX5_both_25 rfl ?_
        refine g_aload_n h dX5_both_28 rfl ?_
        refine g_callVW0 h hE (m5_compared_4 _ _ _ o a s S u (adv q) h0 (by first | assumption | omega) (by first | assumption | omega)) 0 rfl rfl (lw_V q1570 q1572 qs50 q95 q1573) gy_X5_compared ⟨Nat.le_of_ble_eq_true rfl, Nat.le_of_ble_eq_true rfl⟩ ⟨Nat.le_of_ble_eq_true rfl, Nat.le_of_ble_eq_true rfl⟩ rfl rfl (Nat.le_of_ble_eq_true rfl) dX5_both_29 (st' := [.int (bI (((pCmp (pOne u s 4) s) (adv q)).1))]) rfl (fun _ e29 => ?_)
        subst e29
        show G X 0 0 (mW (xT X) o a s (paS S u (((pCmp (pOne u s 4) s) (adv q)).2))) 32 [(0, .ref o)] [.int (bI (((pCmp (pOne u s 4) s) (adv q)).1))]
        generalize er29 : (pCmp (pOne u s 4) s) (adv q) = r29
        refine g_if_neB h 37 dX5_both_32 (by decide) (fun c32 => ?_) (fun c32 => ?_)
        · skip
          show G X 0 0 (mW (xT X) o a s (paS S u r29.2)) 37 [(0, .ref o)] []
          have n0 : OKp s q (true, lay2 3 (lk s q) r29.2) := (by subst er29; exact adv_ok (pCmp_ok (pOne_ok u s 4)) 3 (lk s q) hl c32); have n1 := At.ok a1 n0 rfl; have n2 : At s 1 r29.2 := (by subst er29; exact At.ok a2 ((pCmp_ok (pOne_ok u s 4)) (adv q) a2.1) c32); have n3 := n2.st h0
          refine g_aload_n h dX5_both_37 rfl ?_
          refine g_iconst (v := nI 3) h dX5_both_38 (by decide) ?_
          refine g_bipush (v := nI 38) h dX5_both_39 (by decide) ?_
          refine g_toI (y := lk s q) c15.symm ?_
          refine g_callVW0 h hE (m5_lays _ _ _ o a s S u r29.2 3 (lk s q) (by first | assumption | omega)) 0 rfl rfl (lw_V q1594 q1596 qs56 q95 q1597) gy_X5_lays ⟨Nat.le_of_ble_eq_true rfl, Nat.le_of_ble_eq_true rfl⟩ ⟨Nat.le_of_ble_eq_true rfl, Nat.le_of_ble_eq_true rfl⟩ rfl rfl (Nat.le_of_ble_eq_true rfl) dX5_both_41 (st' := []) rfl (fun _ e41 => ?_)
          subst e41
          refine g_goto h 9 dX5_both_44 (by decide) ?_
          exact ih_lw (lay2 3 (lk s q) r29.2, m0) (by show m0 < m0 + 1; omega) (by subst er29; exact e0_lw.trans (pR_t hq c32)) n1 (by subst er29; exact mu_ok ((pCmp_ok (pOne_ok u s 4)) (adv q) a2.1) hl e2_lw)
        · skip
          show G X 0 0 (mW (xT X) o a s (paS S u r29.2)) 35 [(0, .ref o)] []
          have e : (pBoth (pOne u s 4) s) p = (false, r29.2) := (by subst er29; exact e0_lw.trans (pR_f hq c32))
          refine g_iconst (v := nI 0) h dX5_both_35 (by decide) ?_
          exact g_zretWv h hE dX5_both_36 (by rw [e]; rfl) (paW_eq (by rw [e]))
    exact lw (r1.2, 61) (by subst er1; exact pBoth_t c4) a0 (by omega)
  · skip
    show G X 0 0 (mW (xT X) o a s (paS S u r1.2)) 7 [(0, .ref o)] []
    have e : (pBoth (pOne u s 4) s) p = (false, r1.2) := (by subst er1; exact pBoth_f c4)
    refine g_iconst (v := nI 0) h dX5_both_7 (by decide) ?_
    exact g_zretWv h hE dX5_both_8 (by rw [e]; rfl) (paW_eq (by rw [e]))
set_option maxHeartbeats 4000000 in
set_option maxRecDepth 100000 in
theorem m5_whole_4 (l : Launch) (D : va_G) (T : Nat → ClassId) (o : Nat) (a : Nat → Nat) (s : Nat → Int32) (S : Nat → Nat → Int32) (u : Nat) (p : PS) (h0 : Inv s) (h1 : u < 2) (h2 : At s 1 p) : MetW l D T yX5_whole cX5_whole 1 (some .boolean) 30 632 0 0 [.ref o] (mW T o a s (paS S u p)) (fun r_ w_ => r_ = some (.int (bI (((pWhole (pOne u s 4) s) p).1))) ∧ (w_ = mW T o a s (paS S u (((pWhole (pOne u s 4) s) p).2)))) := by
  refine metW (own := RX5) rfl (by decide) rfl (fun X h hl hDx hTx hnm hE => ?_)
  subst hl; subst hDx; subst hTx
  have hnp := h0.npl; have hnt := h0.ntl; have hnq := h0.nql
  have hnc := h0.ncl; have l0 := h2.1; have b0 := h2.2.1; have z0 := h2.2.2; have y0 := h2.st h0
  show G X 0 0 (mW (xT X) o a s (paS S u p)) 0 [(0, .ref o)] []
  refine g_aload_n h dX5_whole_0 rfl ?_
  refine g_callVW0 h hE (m5_both_4 _ _ _ o a s S u p h0 (by first | assumption | omega) (by first | assumption | omega)) 0 rfl rfl (lw_V q1566 q1568 qs49 q95 q1569) gy_X5_both ⟨Nat.le_of_ble_eq_true rfl, Nat.le_of_ble_eq_true rfl⟩ ⟨Nat.le_of_ble_eq_true rfl, Nat.le_of_ble_eq_true rfl⟩ rfl rfl (Nat.le_of_ble_eq_true rfl) dX5_whole_1 (st' := [.int (bI (((pBoth (pOne u s 4) s) p).1))]) rfl (fun _ e1 => ?_)
  subst e1
  show G X 0 0 (mW (xT X) o a s (paS S u (((pBoth (pOne u s 4) s) p).2))) 4 [(0, .ref o)] [.int (bI (((pBoth (pOne u s 4) s) p).1))]
  generalize er1 : (pBoth (pOne u s 4) s) p = r1
  refine g_if_neB h 9 dX5_whole_4 (by decide) (fun c4 => ?_) (fun c4 => ?_)
  · skip
    show G X 0 0 (mW (xT X) o a s (paS S u r1.2)) 9 [(0, .ref o)] []
    have a0 : At s 1 r1.2 := (by subst er1; exact h2.ok ((pBoth_ok (pOne_ok u s 4)) p l0) c4); have l1 := a0.1
    have lw : ∀ q_ : (PS) × (Nat), (match q_ with | (q, m) => ((pWhole (pOne u s 4) s) p = pR (pBoth (pOne u s 4) s) s isOr m q) → (At s 1 q) → (nC s - q.1 < m) → G X 0 0 (mW (xT X) o a s (paS S u q)) 9 [(0, .ref o)] []) := by
      refine g_rec (fun q_ => match q_ with | (q, m) => m) ?_
      rintro ⟨q, m⟩ ih_lw e0_lw e1_lw e2_lw
      skip
      have a1 := e1_lw; have l2 := a1.1; have y2 := a1.st h0
      refine g_aload_n h dX5_whole_9 rfl ?_
      refine g_callVR h (m5_look _ _ _ o a s S u q h0 (by first | assumption | omega)) (fun _ q => q) 0 rfl rfl (lw_V q1586 q1588 qs54 q95 q1589) gy_X5_look ⟨Nat.le_of_ble_eq_true rfl, Nat.le_of_ble_eq_true rfl⟩ ⟨Nat.le_of_ble_eq_true rfl, Nat.le_of_ble_eq_true rfl⟩ rfl rfl (Nat.le_of_ble_eq_true rfl) dX5_whole_10 ?_
      refine g_bipush (v := nI 124) h dX5_whole_13 (by decide) ?_
      refine g_toI (y := 124) rfl ?_
      refine g_icmp_ne h 47 dX5_whole_15 (by decide) (fun c15 => ?_) (fun c15 => ?_)
      · skip
        show G X 0 0 (mW (xT X) o a s (paS S u q)) 47 [(0, .ref o)] []
        have hq : isOr (lk s q) = false := by simp [isOr, c15]
        have e : (pWhole (pOne u s 4) s) p = (true, q) := e0_lw.trans (pR_n hq)
        refine g_iconst (v := nI 1) h dX5_whole_47 (by decide) ?_
        exact g_zretWv h hE dX5_whole_48 (by rw [e]; rfl) (paW_eq (by rw [e]))
      · skip
        show G X 0 0 (mW (xT X) o a s (paS S u q)) 18 [(0, .ref o)] []
        have hq : isOr (lk s q) = true := by simp [isOr, c15]
        have hl := lk_lt (by decide) hq; obtain ⟨m0, rfl⟩ : ∃ k, m = k + 1 := ⟨m - 1, by omega⟩; have a2 := a1.adv hl
        refine g_aload_n h dX5_whole_18 rfl ?_
        refine g_dup h dX5_whole_19 rfl ?_
        refine g_get h in_X5 0 rfl rfl 5 rfl q1379 rfl rfl dX5_whole_20 ?_
        show G X 0 0 (mW (xT X) o a s (paS S u q)) 23 [(0, .ref o)] [.int (nI q.1), .ref o]
        refine g_iconst (v := nI 1) h dX5_whole_23 (by decide) ?_
        refine g_iaddN h dX5_whole_24 ?_
        refine g_put (ws' := mW (xT X) o a s (paS S u (adv q))) h hE.1 in_X5 tyX5 tyX5_ok nmX5 0 rfl rfl 5 rfl q1379 rfl rfl rfl rfl rfl rfl dX5_whole_25 rfl ?_
        refine g_aload_n h dX5_whole_28 rfl ?_
        refine g_callVW0 h hE (m5_both_4 _ _ _ o a s S u (adv q) h0 (by first | assumption | omega) (by first | assumption | omega)) 0 rfl rfl (lw_V q1566 q1568 qs49 q95 q1569) gy_X5_both ⟨Nat.le_of_ble_eq_true rfl, Nat.le_of_ble_eq_true rfl⟩ ⟨Nat.le_of_ble_eq_true rfl, Nat.le_of_ble_eq_true rfl⟩ rfl rfl (Nat.le_of_ble_eq_true rfl) dX5_whole_29 (st' := [.int (bI (((pBoth (pOne u s 4) s) (adv q)).1))]) rfl (fun _ e29 => ?_)
        subst e29
        show G X 0 0 (mW (xT X) o a s (paS S u (((pBoth (pOne u s 4) s) (adv q)).2))) 32 [(0, .ref o)] [.int (bI (((pBoth (pOne u s 4) s) (adv q)).1))]
        generalize er29 : (pBoth (pOne u s 4) s) (adv q) = r29
        refine g_if_neB h 37 dX5_whole_32 (by decide) (fun c32 => ?_) (fun c32 => ?_)
        · skip
          show G X 0 0 (mW (xT X) o a s (paS S u r29.2)) 37 [(0, .ref o)] []
          have n0 : OKp s q (true, lay2 3 (lk s q) r29.2) := (by subst er29; exact adv_ok (pBoth_ok (pOne_ok u s 4)) 3 (lk s q) hl c32); have n1 := At.ok a1 n0 rfl; have n2 : At s 1 r29.2 := (by subst er29; exact At.ok a2 ((pBoth_ok (pOne_ok u s 4)) (adv q) a2.1) c32); have n3 := n2.st h0
          refine g_aload_n h dX5_whole_37 rfl ?_
          refine g_iconst (v := nI 3) h dX5_whole_38 (by decide) ?_
          refine g_bipush (v := nI 124) h dX5_whole_39 (by decide) ?_
          refine g_toI (y := lk s q) c15.symm ?_
          refine g_callVW0 h hE (m5_lays _ _ _ o a s S u r29.2 3 (lk s q) (by first | assumption | omega)) 0 rfl rfl (lw_V q1594 q1596 qs56 q95 q1597) gy_X5_lays ⟨Nat.le_of_ble_eq_true rfl, Nat.le_of_ble_eq_true rfl⟩ ⟨Nat.le_of_ble_eq_true rfl, Nat.le_of_ble_eq_true rfl⟩ rfl rfl (Nat.le_of_ble_eq_true rfl) dX5_whole_41 (st' := []) rfl (fun _ e41 => ?_)
          subst e41
          refine g_goto h 9 dX5_whole_44 (by decide) ?_
          exact ih_lw (lay2 3 (lk s q) r29.2, m0) (by show m0 < m0 + 1; omega) (by subst er29; exact e0_lw.trans (pR_t hq c32)) n1 (by subst er29; exact mu_ok ((pBoth_ok (pOne_ok u s 4)) (adv q) a2.1) hl e2_lw)
        · skip
          show G X 0 0 (mW (xT X) o a s (paS S u r29.2)) 35 [(0, .ref o)] []
          have e : (pWhole (pOne u s 4) s) p = (false, r29.2) := (by subst er29; exact e0_lw.trans (pR_f hq c32))
          refine g_iconst (v := nI 0) h dX5_whole_35 (by decide) ?_
          exact g_zretWv h hE dX5_whole_36 (by rw [e]; rfl) (paW_eq (by rw [e]))
    exact lw (r1.2, 61) (by subst er1; exact pWhole_t c4) a0 (by omega)
  · skip
    show G X 0 0 (mW (xT X) o a s (paS S u r1.2)) 7 [(0, .ref o)] []
    have e : (pWhole (pOne u s 4) s) p = (false, r1.2) := (by subst er1; exact pWhole_f c4)
    refine g_iconst (v := nI 0) h dX5_whole_7 (by decide) ?_
    exact g_zretWv h hE dX5_whole_8 (by rw [e]; rfl) (paW_eq (by rw [e]))
set_option maxHeartbeats 4000000 in
set_option maxRecDepth 100000 in
theorem m5_one_5 (l : Launch) (D : va_G) (T : Nat → ClassId) (o : Nat) (a : Nat → Nat) (s : Nat → Int32) (S : Nat → Nat → Int32) (u : Nat) (p : PS) (h0 : Inv s) (h1 : u < 2) (h2 : At s 0 p) : MetW l D T yX5_one cX5_one 4 (some .boolean) 31 652 0 0 [.ref o] (mW T o a s (paS S u p)) (fun r_ w_ => r_ = some (.int (bI (((pOne u s 5) p).1))) ∧ (w_ = mW T o a s (paS S u (((pOne u s 5) p).2)))) := by
  refine metW (own := RX5) rfl (by decide) rfl (fun X h hl hDx hTx hnm hE => ?_)
  subst hl; subst hDx; subst hTx
  have hnp := h0.npl; have hnt := h0.ntl; have hnq := h0.nql
  have hnc := h0.ncl; have l0 := h2.1; have b0 := h2.2.1; have z0 := h2.2.2; have y0 := h2.st h0
  show G X 0 0 (mW (xT X) o a s (paS S u p)) 0 [(0, .ref o)] []
  refine g_aload_n h dX5_one_0 rfl ?_
  refine g_callVR h (m5_look _ _ _ o a s S u p h0 (by first | assumption | omega)) (fun _ q => q) 0 rfl rfl (lw_V q1586 q1588 qs54 q95 q1589) gy_X5_look ⟨Nat.le_of_ble_eq_true rfl, Nat.le_of_ble_eq_true rfl⟩ ⟨Nat.le_of_ble_eq_true rfl, Nat.le_of_ble_eq_true rfl⟩ rfl rfl (Nat.le_of_ble_eq_true rfl) dX5_one_1 ?_
  refine g_istore_n (lv' := [(0, .ref o), (1, .int (lk s p))]) h dX5_one_4 (by decide) rfl ?_
  refine g_aload_n h dX5_one_5 rfl ?_
  refine g_iload_n h dX5_one_6 rfl ?_
  refine g_callVR h (m5_isName _ _ _ o a s S u p (lk s p) (by first | assumption | omega)) (fun _ q => q) 0 rfl rfl (lw_V q1590 q1592 qs55 q95 q1593) gy_X5_isName ⟨Nat.le_of_ble_eq_true rfl, Nat.le_of_ble_eq_true rfl⟩ ⟨Nat.le_of_ble_eq_true rfl, Nat.le_of_ble_eq_true rfl⟩ rfl rfl (Nat.le_of_ble_eq_true rfl) dX5_one_7 ?_
  refine g_if_eqB h 31 dX5_one_10 (by decide) (fun c10 => ?_) (fun c10 => ?_)
  · skip
    show G X 0 0 (mW (xT X) o a s (paS S u p)) 31 [(0, .ref o), (1, .int (lk s p))] []
    refine g_iload_n h dX5_one_31 rfl ?_
    refine g_bipush (v := nI 48) h dX5_one_32 (by decide) ?_
    refine g_bipush (v := nI 57) h dX5_one_34 (by decide) ?_
    refine g_callSR h (m5_in _ _ _ (lk s p) 48 57 ) (fun _ q => nomatch q) (lw_S q1439 q1440 q95 q1441) gy_X5_in ⟨Nat.le_of_ble_eq_true rfl, Nat.le_of_ble_eq_true rfl⟩ ⟨Nat.le_of_ble_eq_true rfl, Nat.le_of_ble_eq_true rfl⟩ rfl rfl (Nat.le_of_ble_eq_true rfl) dX5_one_36 ?_
    refine g_if_eqB h 102 dX5_one_39 (by decide) (fun c39 => ?_) (fun c39 => ?_)
    · skip
      show G X 0 0 (mW (xT X) o a s (paS S u p)) 102 [(0, .ref o), (1, .int (lk s p))] []
      refine g_iload_n h dX5_one_102 rfl ?_
      refine g_bipush (v := nI 33) h dX5_one_103 (by decide) ?_
      refine g_toI (y := 33) rfl ?_
      refine g_icmp_ne h 142 dX5_one_105 (by decide) (fun c105 => ?_) (fun c105 => ?_)
      · skip
        show G X 0 0 (mW (xT X) o a s (paS S u p)) 142 [(0, .ref o), (1, .int (lk s p))] []
        refine g_iload_n h dX5_one_142 rfl ?_
        refine g_bipush (v := nI 40) h dX5_one_143 (by decide) ?_
        refine g_toI (y := 40) rfl ?_
        refine g_icmp_ne h 171 dX5_one_145 (by decide) (fun c145 => ?_) (fun c145 => ?_)
        · skip
          show G X 0 0 (mW (xT X) o a s (paS S u p)) 171 [(0, .ref o), (1, .int (lk s p))] []
          have e : (pOne u s 5) p = (false, p) := pOne_xn c10 c39 c105 c145
          refine g_iconst (v := nI 0) h dX5_one_171 (by decide) ?_
          exact g_zretWv h hE dX5_one_172 (by rw [e]; rfl) (paW_eq (by rw [e]))
        · skip
          show G X 0 0 (mW (xT X) o a s (paS S u p)) 148 [(0, .ref o), (1, .int (lk s p))] []
          have hl : p.1 < nC s := lk_lt (Q := fun z => decide (z = 40)) (by decide) (decide_eq_true c145); have z1 : p.2.1 < 5 := (by omega); have a2 := h2.opn hl
          refine g_aload_n h dX5_one_148 rfl ?_
          refine g_callVW0 h hE (m5_opens_1 _ _ _ o a s S u p (by first | assumption | omega)) 0 rfl rfl (lw_V q1598 q1600 qs57 q95 q1601) gy_X5_opens ⟨Nat.le_of_ble_eq_true rfl, Nat.le_of_ble_eq_true rfl⟩ ⟨Nat.le_of_ble_eq_true rfl, Nat.le_of_ble_eq_true rfl⟩ rfl rfl (Nat.le_of_ble_eq_true rfl) dX5_one_149 (st' := [.int (bI true)]) rfl (fun _ e149 => ?_)
          subst e149
          refine g_if_eqB h 171 dX5_one_152 (by decide) (fun c152 => ?_) (fun c152 => ?_)
          · skip
            show G X 0 0 (mW (xT X) o a s (paS S u (opn p))) 171 [(0, .ref o), (1, .int (lk s p))] []
            exact absurd c152 (by decide)
          · skip
            show G X 0 0 (mW (xT X) o a s (paS S u (opn p))) 155 [(0, .ref o), (1, .int (lk s p))] []
            refine g_aload_n h dX5_one_155 rfl ?_
            refine g_callVW0 h hE (m5_whole_4 _ _ _ o a s S u (opn p) h0 (by first | assumption | omega) (by first | assumption | omega)) 0 rfl rfl (lw_V q1562 q1564 qs48 q95 q1565) gy_X5_whole ⟨Nat.le_of_ble_eq_true rfl, Nat.le_of_ble_eq_true rfl⟩ ⟨Nat.le_of_ble_eq_true rfl, Nat.le_of_ble_eq_true rfl⟩ rfl rfl (Nat.le_of_ble_eq_true rfl) dX5_one_156 (st' := [.int (bI (((pWhole (pOne u s 4) s) (opn p)).1))]) rfl (fun _ e156 => ?_)
            subst e156
            show G X 0 0 (mW (xT X) o a s (paS S u (((pWhole (pOne u s 4) s) (opn p)).2))) 159 [(0, .ref o), (1, .int (lk s p))] [.int (bI (((pWhole (pOne u s 4) s) (opn p)).1))]
            generalize er156 : (pWhole (pOne u s 4) s) (opn p) = r156
            refine g_if_eqB h 171 dX5_one_159 (by decide) (fun c159 => ?_) (fun c159 => ?_)
            · skip
              show G X 0 0 (mW (xT X) o a s (paS S u r156.2)) 171 [(0, .ref o), (1, .int (lk s p))] []
              have e : (pOne u s 5) p = (false, r156.2) := (by subst er156; exact pOne_40f c10 c39 c105 c145 c159)
              refine g_iconst (v := nI 0) h dX5_one_171 (by decide) ?_
              exact g_zretWv h hE dX5_one_172 (by rw [e]; rfl) (paW_eq (by rw [e]))
            · skip
              show G X 0 0 (mW (xT X) o a s (paS S u r156.2)) 162 [(0, .ref o), (1, .int (lk s p))] []
              have n2 : At s 1 r156.2 := (by subst er156; exact At.ok a2 (pWhole_ok (pOne_ok u s 4) (opn p) a2.1) c159); have n3 := n2.1; have n4 := n2.2.2
              refine g_aload_n h dX5_one_162 rfl ?_
              refine g_callVR h (m5_look _ _ _ o a s S u r156.2 h0 (by first | assumption | omega)) (fun _ q => q) 0 rfl rfl (lw_V q1586 q1588 qs54 q95 q1589) gy_X5_look ⟨Nat.le_of_ble_eq_true rfl, Nat.le_of_ble_eq_true rfl⟩ ⟨Nat.le_of_ble_eq_true rfl, Nat.le_of_ble_eq_true rfl⟩ rfl rfl (Nat.le_of_ble_eq_true rfl) dX5_one_163 ?_
              refine g_bipush (v := nI 41) h dX5_one_166 (by decide) ?_
              refine g_toI (y := 41) rfl ?_
              refine g_icmp_eq h 173 dX5_one_168 (by decide) (fun c168 => ?_) (fun c168 => ?_)
              · skip
                show G X 0 0 (mW (xT X) o a s (paS S u r156.2)) 173 [(0, .ref o), (1, .int (lk s p))] []
                have e : (pOne u s 5) p = (true, cls (adv r156.2)) := (by subst er156; exact pOne_41t c10 c39 c105 c145 c159 c168); have n4 : 1 ≤ (adv r156.2).2.1 := (by show 1 ≤ r156.2.2.1; omega)
                refine g_aload_n h dX5_one_173 rfl ?_
                refine g_dup h dX5_one_174 rfl ?_
                refine g_get h in_X5 0 rfl rfl 5 rfl q1379 rfl rfl dX5_one_175 ?_
                show G X 0 0 (mW (xT X) o a s (paS S u r156.2)) 178 [(0, .ref o), (1, .int (lk s p))] [.int (nI r156.2.1), .ref o]
                refine g_iconst (v := nI 1) h dX5_one_178 (by decide) ?_
                refine g_iaddN h dX5_one_179 ?_
                refine g_put (ws' := mW (xT X) o a s (paS S u (adv r156.2))) h hE.1 in_X5 tyX5 tyX5_ok nmX5 0 rfl rfl 5 rfl q1379 rfl rfl rfl rfl rfl rfl dX5_one_180 rfl ?_
                refine g_aload_n h dX5_one_183 rfl ?_
                refine g_dup h dX5_one_184 rfl ?_
                refine g_get h in_X5 0 rfl rfl 6 rfl q1380 rfl rfl dX5_one_185 ?_
                show G X 0 0 (mW (xT X) o a s (paS S u (adv r156.2))) 188 [(0, .ref o), (1, .int (lk s p))] [.int (nI ((adv r156.2).2.1)), .ref o]
                refine g_iconst (v := nI 1) h dX5_one_188 (by decide) ?_
                refine g_isubN h (by omega) dX5_one_189 ?_
                refine g_put (ws' := mW (xT X) o a s (paS S u (cls (adv r156.2)))) h hE.1 in_X5 tyX5 tyX5_ok nmX5 0 rfl rfl 6 rfl q1380 rfl rfl rfl rfl rfl rfl dX5_one_190 rfl ?_
                refine g_iconst (v := nI 1) h dX5_one_193 (by decide) ?_
                exact g_zretWv h hE dX5_one_194 (by rw [e]; rfl) (paW_eq (by rw [e]))
              · skip
                show G X 0 0 (mW (xT X) o a s (paS S u r156.2)) 171 [(0, .ref o), (1, .int (lk s p))] []
                have e : (pOne u s 5) p = (false, r156.2) := (by subst er156; exact pOne_41f c10 c39 c105 c145 c159 c168)
                refine g_iconst (v := nI 0) h dX5_one_171 (by decide) ?_
                exact g_zretWv h hE dX5_one_172 (by rw [e]; rfl) (paW_eq (by rw [e]))
      · skip
        show G X 0 0 (mW (xT X) o a s (paS S u p)) 108 [(0, .ref o), (1, .int (lk s p))] []
        have hl : p.1 < nC s := lk_lt (Q := fun z => decide (z = 33)) (by decide) (decide_eq_true c105); have z1 : p.2.1 < 5 := (by omega); have a2 := h2.opn hl
        refine g_aload_n h dX5_one_108 rfl ?_
        refine g_callVW0 h hE (m5_opens_1 _ _ _ o a s S u p (by first | assumption | omega)) 0 rfl rfl (lw_V q1598 q1600 qs57 q95 q1601) gy_X5_opens ⟨Nat.le_of_ble_eq_true rfl, Nat.le_of_ble_eq_true rfl⟩ ⟨Nat.le_of_ble_eq_true rfl, Nat.le_of_ble_eq_true rfl⟩ rfl rfl (Nat.le_of_ble_eq_true rfl) dX5_one_109 (st' := [.int (bI true)]) rfl (fun _ e109 => ?_)
        subst e109
        refine g_if_eqB h 122 dX5_one_112 (by decide) (fun c112 => ?_) (fun c112 => ?_)
        · skip
          show G X 0 0 (mW (xT X) o a s (paS S u (opn p))) 122 [(0, .ref o), (1, .int (lk s p))] []
          exact absurd c112 (by decide)
        · skip
          show G X 0 0 (mW (xT X) o a s (paS S u (opn p))) 115 [(0, .ref o), (1, .int (lk s p))] []
          refine g_aload_n h dX5_one_115 rfl ?_
          refine g_callVW0 h hE (m5_one_4 _ _ _ o a s S u (opn p) h0 (by first | assumption | omega) (by first | assumption | omega)) 0 rfl rfl (lw_V q1582 q1584 qs53 q95 q1585) gy_X5_one ⟨Nat.le_of_ble_eq_true rfl, Nat.le_of_ble_eq_true rfl⟩ ⟨Nat.le_of_ble_eq_true rfl, Nat.le_of_ble_eq_true rfl⟩ rfl rfl (Nat.le_of_ble_eq_true rfl) dX5_one_116 (st' := [.int (bI (((pOne u s 4) (opn p)).1))]) rfl (fun _ e116 => ?_)
          subst e116
          show G X 0 0 (mW (xT X) o a s (paS S u (((pOne u s 4) (opn p)).2))) 119 [(0, .ref o), (1, .int (lk s p))] [.int (bI (((pOne u s 4) (opn p)).1))]
          generalize er116 : (pOne u s 4) (opn p) = r116
          refine g_if_neB h 124 dX5_one_119 (by decide) (fun c119 => ?_) (fun c119 => ?_)
          · skip
            show G X 0 0 (mW (xT X) o a s (paS S u r116.2)) 124 [(0, .ref o), (1, .int (lk s p))] []
            have e : (pOne u s 5) p = (true, lay2 2 0 (cls r116.2)) := (by subst er116; exact pOne_33t c10 c39 c105 c119); have n2 : At s 1 r116.2 := (by subst er116; exact At.ok a2 (pOne_ok u s 4 (opn p) a2.1) c119); have n3 : (cls r116.2).2.2.1 < 62 := (show r116.2.2.2.1 < 62 from n2.st h0); have n4 := n2.2.2
            refine g_aload_n h dX5_one_124 rfl ?_
            refine g_dup h dX5_one_125 rfl ?_
            refine g_get h in_X5 0 rfl rfl 6 rfl q1380 rfl rfl dX5_one_126 ?_
            show G X 0 0 (mW (xT X) o a s (paS S u r116.2)) 129 [(0, .ref o), (1, .int (lk s p))] [.int (nI r116.2.2.1), .ref o]
            refine g_iconst (v := nI 1) h dX5_one_129 (by decide) ?_
            refine g_isubN h (by omega) dX5_one_130 ?_
            refine g_put (ws' := mW (xT X) o a s (paS S u (cls r116.2))) h hE.1 in_X5 tyX5 tyX5_ok nmX5 0 rfl rfl 6 rfl q1380 rfl rfl rfl rfl rfl rfl dX5_one_131 rfl ?_
            refine g_aload_n h dX5_one_134 rfl ?_
            refine g_iconst (v := nI 2) h dX5_one_135 (by decide) ?_
            refine g_iconst (v := nI 0) h dX5_one_136 (by decide) ?_
            refine g_callVW0 h hE (m5_lays _ _ _ o a s S u (cls r116.2) 2 0 (by first | assumption | omega)) 0 rfl rfl (lw_V q1594 q1596 qs56 q95 q1597) gy_X5_lays ⟨Nat.le_of_ble_eq_true rfl, Nat.le_of_ble_eq_true rfl⟩ ⟨Nat.le_of_ble_eq_true rfl, Nat.le_of_ble_eq_true rfl⟩ rfl rfl (Nat.le_of_ble_eq_true rfl) dX5_one_137 (st' := []) rfl (fun _ e137 => ?_)
            subst e137
            refine g_iconst (v := nI 1) h dX5_one_140 (by decide) ?_
            exact g_zretWv h hE dX5_one_141 (by rw [e]; rfl) (paW_eq (by rw [e]))
          · skip
            show G X 0 0 (mW (xT X) o a s (paS S u r116.2)) 122 [(0, .ref o), (1, .int (lk s p))] []
            have e : (pOne u s 5) p = (false, r116.2) := (by subst er116; exact pOne_33f c10 c39 c105 c119)
            refine g_iconst (v := nI 0) h dX5_one_122 (by decide) ?_
            exact g_zretWv h hE dX5_one_123 (by rw [e]; rfl) (paW_eq (by rw [e]))
    · skip
      show G X 0 0 (mW (xT X) o a s (paS S u p)) 42 [(0, .ref o), (1, .int (lk s p))] []
      have e : (pOne u s 5) p = (true, lay2 0 (numR s 4 0 p).1 (numR s 4 0 p).2) := pOne_m c10 c39
      refine g_iconst (v := nI 0) h dX5_one_42 (by decide) ?_
      refine g_istore_n (lv' := [(0, .ref o), (1, .int (lk s p)), (2, .int (nI 0))]) h dX5_one_43 (by decide) rfl ?_
      refine g_iconst (v := nI 0) h dX5_one_44 (by decide) ?_
      refine g_istore_n (lv' := [(0, .ref o), (1, .int (lk s p)), (2, .int (nI 0)), (3, .int (nI 0))]) h dX5_one_45 (by decide) rfl ?_
      have lp : ∀ i, i ≤ 4 → ∀ (_u : Unit) (x : Int32) (q : PS), (numR s 4 0 p = numR s (4 - i) x q) → (q.1 ≤ nC s) → (q.2 = p.2) → G X 0 0 (mW (xT X) o a s (paS S u q)) 46 [(0, .ref o), (1, .int (lk s p)), (2, .int x), (3, .int (nI i))] [] := by
        refine g_ind (N := 4) (fun i hi_i ih_lp => ?_)
        intro _u x q e0_lp e1_lp e2_lp
        refine g_iload_n h dX5_one_46 rfl ?_
        refine g_iconst (v := nI 4) h dX5_one_47 (by decide) ?_
        refine g_icmp_geN h 94 dX5_one_48 (by decide) (by first | omega | decide) (by first | omega | decide) (fun c48 => ?_) (fun c48 => ?_)
        · skip
          show G X 0 0 (mW (xT X) o a s (paS S u q)) 94 [(0, .ref o), (1, .int (lk s p)), (2, .int x), (3, .int (nI i))] []
          have f : numR s 4 0 p = (x, q) := by first | exact e0_lp.trans (numR_e (by omega)) | exact e0_lp.trans (numR_f c62)
          rw [f] at e; have yq : q.2.2.1 < 62 := by rw [e2_lp]; exact y0
          refine g_aload_n h dX5_one_94 rfl ?_
          refine g_iconst (v := nI 0) h dX5_one_95 (by decide) ?_
          refine g_iload_n h dX5_one_96 rfl ?_
          refine g_callVW0 h hE (m5_lays _ _ _ o a s S u q 0 x (by first | assumption | omega)) 0 rfl rfl (lw_V q1594 q1596 qs56 q95 q1597) gy_X5_lays ⟨Nat.le_of_ble_eq_true rfl, Nat.le_of_ble_eq_true rfl⟩ ⟨Nat.le_of_ble_eq_true rfl, Nat.le_of_ble_eq_true rfl⟩ rfl rfl (Nat.le_of_ble_eq_true rfl) dX5_one_97 (st' := []) rfl (fun _ e97 => ?_)
          subst e97
          refine g_iconst (v := nI 1) h dX5_one_100 (by decide) ?_
          exact g_zretWv h hE dX5_one_101 (by rw [e]; rfl) (paW_eq (by rw [e]))
        · skip
          show G X 0 0 (mW (xT X) o a s (paS S u q)) 51 [(0, .ref o), (1, .int (lk s p)), (2, .int x), (3, .int (nI i))] []
          refine g_aload_n h dX5_one_51 rfl ?_
          refine g_callVR h (m5_look _ _ _ o a s S u q h0 (by first | assumption | omega)) (fun _ q => q) 0 rfl rfl (lw_V q1586 q1588 qs54 q95 q1589) gy_X5_look ⟨Nat.le_of_ble_eq_true rfl, Nat.le_of_ble_eq_true rfl⟩ ⟨Nat.le_of_ble_eq_true rfl, Nat.le_of_ble_eq_true rfl⟩ rfl rfl (Nat.le_of_ble_eq_true rfl) dX5_one_52 ?_
          refine g_bipush (v := nI 48) h dX5_one_55 (by decide) ?_
          refine g_bipush (v := nI 57) h dX5_one_57 (by decide) ?_
          refine g_callSR h (m5_in _ _ _ (lk s q) 48 57 ) (fun _ q => nomatch q) (lw_S q1439 q1440 q95 q1441) gy_X5_in ⟨Nat.le_of_ble_eq_true rfl, Nat.le_of_ble_eq_true rfl⟩ ⟨Nat.le_of_ble_eq_true rfl, Nat.le_of_ble_eq_true rfl⟩ rfl rfl (Nat.le_of_ble_eq_true rfl) dX5_one_59 ?_
          refine g_if_eqB h 94 dX5_one_62 (by decide) (fun c62 => ?_) (fun c62 => ?_)
          · skip
            show G X 0 0 (mW (xT X) o a s (paS S u q)) 94 [(0, .ref o), (1, .int (lk s p)), (2, .int x), (3, .int (nI i))] []
            have f : numR s 4 0 p = (x, q) := by first | exact e0_lp.trans (numR_e (by omega)) | exact e0_lp.trans (numR_f c62)
            rw [f] at e; have yq : q.2.2.1 < 62 := by rw [e2_lp]; exact y0
            refine g_aload_n h dX5_one_94 rfl ?_
            refine g_iconst (v := nI 0) h dX5_one_95 (by decide) ?_
            refine g_iload_n h dX5_one_96 rfl ?_
            refine g_callVW0 h hE (m5_lays _ _ _ o a s S u q 0 x (by first | assumption | omega)) 0 rfl rfl (lw_V q1594 q1596 qs56 q95 q1597) gy_X5_lays ⟨Nat.le_of_ble_eq_true rfl, Nat.le_of_ble_eq_true rfl⟩ ⟨Nat.le_of_ble_eq_true rfl, Nat.le_of_ble_eq_true rfl⟩ rfl rfl (Nat.le_of_ble_eq_true rfl) dX5_one_97 (st' := []) rfl (fun _ e97 => ?_)
            subst e97
            refine g_iconst (v := nI 1) h dX5_one_100 (by decide) ?_
            exact g_zretWv h hE dX5_one_101 (by rw [e]; rfl) (paW_eq (by rw [e]))
          · skip
            show G X 0 0 (mW (xT X) o a s (paS S u q)) 65 [(0, .ref o), (1, .int (lk s p)), (2, .int x), (3, .int (nI i))] []
            have hl := lk_lt (Q := fun c => inB c 48 57) (by decide) c62
            refine g_bipush (v := nI 10) h dX5_one_65 (by decide) ?_
            refine g_iload_n h dX5_one_67 rfl ?_
            refine g_toI2 (y := 10) rfl ?_
            refine g_imul h dX5_one_68 ?_
            refine g_aload_n h dX5_one_69 rfl ?_
            refine g_callVR h (m5_look _ _ _ o a s S u q h0 (by first | assumption | omega)) (fun _ q => q) 0 rfl rfl (lw_V q1586 q1588 qs54 q95 q1589) gy_X5_look ⟨Nat.le_of_ble_eq_true rfl, Nat.le_of_ble_eq_true rfl⟩ ⟨Nat.le_of_ble_eq_true rfl, Nat.le_of_ble_eq_true rfl⟩ rfl rfl (Nat.le_of_ble_eq_true rfl) dX5_one_70 ?_
            refine g_iadd h dX5_one_73 ?_
            refine g_bipush (v := nI 48) h dX5_one_74 (by decide) ?_
            refine g_toI (y := 48) rfl ?_
            refine g_isub h dX5_one_76 ?_
            refine g_istore_n (lv' := [(0, .ref o), (1, .int (lk s p)), (2, .int (((10 * x) + (lk s q)) - 48)), (3, .int (nI i))]) h dX5_one_77 (by decide) rfl ?_
            refine g_aload_n h dX5_one_78 rfl ?_
            refine g_dup h dX5_one_79 rfl ?_
            refine g_get h in_X5 0 rfl rfl 5 rfl q1379 rfl rfl dX5_one_80 ?_
            show G X 0 0 (mW (xT X) o a s (paS S u q)) 83 [(0, .ref o), (1, .int (lk s p)), (2, .int (((10 * x) + (lk s q)) - 48)), (3, .int (nI i))] [.int (nI q.1), .ref o]
            refine g_iconst (v := nI 1) h dX5_one_83 (by decide) ?_
            refine g_iaddN h dX5_one_84 ?_
            refine g_put (ws' := mW (xT X) o a s (paS S u (adv q))) h hE.1 in_X5 tyX5 tyX5_ok nmX5 0 rfl rfl 5 rfl q1379 rfl rfl rfl rfl rfl rfl dX5_one_85 rfl ?_
            refine g_iincN (b := 1) (lv' := [(0, .ref o), (1, .int (lk s p)), (2, .int (((10 * x) + (lk s q)) - 48)), (3, .int (nI (i + 1)))]) h dX5_one_88 rfl rfl (by decide) rfl ?_
            refine g_goto h 46 dX5_one_91 (by decide) ?_
            exact ih_lp (i + 1) (by omega) (by omega) () (((10 * x) + (lk s q)) - 48) (adv q) (e0_lp.trans (numR_t (by omega) c62)) hl e2_lp
      exact lp (0) (by omega) () 0 p rfl l0 rfl
  · skip
    show G X 0 0 (mW (xT X) o a s (paS S u p)) 13 [(0, .ref o), (1, .int (lk s p))] []
    have e : (pOne u s 5) p = (true, lay2 1 (lk s p) (adv p)) := pOne_n c10; have hl := lk_lt (isNm_0 h1) c10; have a2 := (h2.adv hl).st h0
    refine g_aload_n h dX5_one_13 rfl ?_
    refine g_dup h dX5_one_14 rfl ?_
    refine g_get h in_X5 0 rfl rfl 5 rfl q1379 rfl rfl dX5_one_15 ?_
    show G X 0 0 (mW (xT X) o a s (paS S u p)) 18 [(0, .ref o), (1, .int (lk s p))] [.int (nI p.1), .ref o]
    refine g_iconst (v := nI 1) h dX5_one_18 (by decide) ?_
    refine g_iaddN h dX5_one_19 ?_
    refine g_put (ws' := mW (xT X) o a s (paS S u (adv p))) h hE.1 in_X5 tyX5 tyX5_ok nmX5 0 rfl rfl 5 rfl q1379 rfl rfl rfl rfl rfl rfl dX5_one_20 rfl ?_
    refine g_aload_n h dX5_one_23 rfl ?_
    refine g_iconst (v := nI 1) h dX5_one_24 (by decide) ?_
    refine g_iload_n h dX5_one_25 rfl ?_
    refine g_callVW0 h hE (m5_lays _ _ _ o a s S u (adv p) 1 (lk s p) (by first | assumption | omega)) 0 rfl rfl (lw_V q1594 q1596 qs56 q95 q1597) gy_X5_lays ⟨Nat.le_of_ble_eq_true rfl, Nat.le_of_ble_eq_true rfl⟩ ⟨Nat.le_of_ble_eq_true rfl, Nat.le_of_ble_eq_true rfl⟩ rfl rfl (Nat.le_of_ble_eq_true rfl) dX5_one_26 (st' := []) rfl (fun _ e26 => ?_)
    subst e26
    refine g_iconst (v := nI 1) h dX5_one_29 (by decide) ?_
    exact g_zretWv h hE dX5_one_30 (by rw [e]; rfl) (paW_eq (by rw [e]))
set_option maxHeartbeats 4000000 in
set_option maxRecDepth 100000 in
theorem m5_product_5 (l : Launch) (D : va_G) (T : Nat → ClassId) (o : Nat) (a : Nat → Nat) (s : Nat → Int32) (S : Nat → Nat → Int32) (u : Nat) (p : PS) (h0 : Inv s) (h1 : u < 2) (h2 : At s 0 p) : MetW l D T yX5_product cX5_product 2 (some .boolean) 32 675 0 0 [.ref o] (mW T o a s (paS S u p)) (fun r_ w_ => r_ = some (.int (bI (((pProd (pOne u s 5) s) p).1))) ∧ (w_ = mW T o a s (paS S u (((pProd (pOne u s 5) s) p).2)))) := by
  refine metW (own := RX5) rfl (by decide) rfl (fun X h hl hDx hTx hnm hE => ?_)
  subst hl; subst hDx; subst hTx
  have hnp := h0.npl; have hnt := h0.ntl; have hnq := h0.nql
  have hnc := h0.ncl; have l0 := h2.1; have b0 := h2.2.1; have z0 := h2.2.2; have y0 := h2.st h0
  show G X 0 0 (mW (xT X) o a s (paS S u p)) 0 [(0, .ref o)] []
  refine g_aload_n h dX5_product_0 rfl ?_
  refine g_callVW0 h hE (m5_one_5 _ _ _ o a s S u p h0 (by first | assumption | omega) (by first | assumption | omega)) 0 rfl rfl (lw_V q1582 q1584 qs53 q95 q1585) gy_X5_one ⟨Nat.le_of_ble_eq_true rfl, Nat.le_of_ble_eq_true rfl⟩ ⟨Nat.le_of_ble_eq_true rfl, Nat.le_of_ble_eq_true rfl⟩ rfl rfl (Nat.le_of_ble_eq_true rfl) dX5_product_1 (st' := [.int (bI (((pOne u s 5) p).1))]) rfl (fun _ e1 => ?_)
  subst e1
  show G X 0 0 (mW (xT X) o a s (paS S u (((pOne u s 5) p).2))) 4 [(0, .ref o)] [.int (bI (((pOne u s 5) p).1))]
  generalize er1 : (pOne u s 5) p = r1
  refine g_if_neB h 9 dX5_product_4 (by decide) (fun c4 => ?_) (fun c4 => ?_)
  · skip
    show G X 0 0 (mW (xT X) o a s (paS S u r1.2)) 9 [(0, .ref o)] []
    have a0 : At s 0 r1.2 := (by subst er1; exact h2.ok ((pOne_ok u s 5) p l0) c4); have l1 := a0.1
    have lw : ∀ q_ : (PS) × (Nat), (match q_ with | (q, m) => ((pProd (pOne u s 5) s) p = pR (pOne u s 5) s isMul m q) → (At s 0 q) → (nC s - q.1 < m) → G X 0 0 (mW (xT X) o a s (paS S u q)) 9 [(0, .ref o)] []) := by
      refine g_rec (fun q_ => match q_ with | (q, m) => m) ?_
      rintro ⟨q, m⟩ ih_lw e0_lw e1_lw e2_lw
      skip
      have a1 := e1_lw; have l2 := a1.1; have y2 := a1.st h0
      refine g_aload_n h dX5_product_9 rfl ?_
      refine g_callVR h (m5_look _ _ _ o a s S u q h0 (by first | assumption | omega)) (fun _ q => q) 0 rfl rfl (lw_V q1586 q1588 qs54 q95 q1589) gy_X5_look ⟨Nat.le_of_ble_eq_true rfl, Nat.le_of_ble_eq_true rfl⟩ ⟨Nat.le_of_ble_eq_true rfl, Nat.le_of_ble_eq_true rfl⟩ rfl rfl (Nat.le_of_ble_eq_true rfl) dX5_product_10 ?_
      refine g_bipush (v := nI 42) h dX5_product_13 (by decide) ?_
      refine g_toI (y := 42) rfl ?_
      refine g_icmp_eq h 36 dX5_product_15 (by decide) (fun c15 => ?_) (fun c15 => ?_)
      · skip
        show G X 0 0 (mW (xT X) o a s (paS S u q)) 36 [(0, .ref o)] []
        have hq : isMul (lk s q) = true := by simp [isMul, c15]
        have hl := lk_lt (by decide) hq; obtain ⟨m0, rfl⟩ : ∃ k, m = k + 1 := ⟨m - 1, by omega⟩; have a2 := a1.adv hl
        refine g_aload_n h dX5_product_36 rfl ?_
        refine g_callVR h (m5_look _ _ _ o a s S u q h0 (by first | assumption | omega)) (fun _ q => q) 0 rfl rfl (lw_V q1586 q1588 qs54 q95 q1589) gy_X5_look ⟨Nat.le_of_ble_eq_true rfl, Nat.le_of_ble_eq_true rfl⟩ ⟨Nat.le_of_ble_eq_true rfl, Nat.le_of_ble_eq_true rfl⟩ rfl rfl (Nat.le_of_ble_eq_true rfl) dX5_product_37 ?_
        refine g_istore_n (lv' := [(0, .ref o), (1, .int (lk s q))]) h dX5_product_40 (by decide) rfl ?_
        refine g_aload_n h dX5_product_41 rfl ?_
        refine g_dup h dX5_product_42 rfl ?_
        refine g_get h in_X5 0 rfl rfl 5 rfl q1379 rfl rfl dX5_product_43 ?_
        show G X 0 0 (mW (xT X) o a s (paS S u q)) 46 [(0, .ref o), (1, .int (lk s q))] [.int (nI q.1), .ref o]
        refine g_iconst (v := nI 1) h dX5_product_46 (by decide) ?_
        refine g_iaddN h dX5_product_47 ?_
        refine g_put (ws' := mW (xT X) o a s (paS S u (adv q))) h hE.1 in_X5 tyX5 tyX5_ok nmX5 0 rfl rfl 5 rfl q1379 rfl rfl rfl rfl rfl rfl dX5_product_48 rfl ?_
        refine g_aload_n h dX5_product_51 rfl ?_
        refine g_callVW0 h hE (m5_one_5 _ _ _ o a s S u (adv q) h0 (by first | assumption | omega) (by first | assumption | omega)) 0 rfl rfl (lw_V q1582 q1584 qs53 q95 q1585) gy_X5_one ⟨Nat.le_of_ble_eq_true rfl, Nat.le_of_ble_eq_true rfl⟩ ⟨Nat.le_of_ble_eq_true rfl, Nat.le_of_ble_eq_true rfl⟩ rfl rfl (Nat.le_of_ble_eq_true rfl) dX5_product_52 (st' := [.int (bI (((pOne u s 5) (adv q)).1))]) rfl (fun _ e52 => ?_)
        subst e52
        show G X 0 0 (mW (xT X) o a s (paS S u (((pOne u s 5) (adv q)).2))) 55 [(0, .ref o), (1, .int (lk s q))] [.int (bI (((pOne u s 5) (adv q)).1))]
        generalize er52 : (pOne u s 5) (adv q) = r52
        refine g_if_neB h 60 dX5_product_55 (by decide) (fun c55 => ?_) (fun c55 => ?_)
        · skip
          show G X 0 0 (mW (xT X) o a s (paS S u r52.2)) 60 [(0, .ref o), (1, .int (lk s q))] []
          have n0 : OKp s q (true, lay2 3 (lk s q) r52.2) := (by subst er52; exact adv_ok (pOne_ok u s 5) 3 (lk s q) hl c55); have n1 := At.ok a1 n0 rfl; have n2 : At s 0 r52.2 := (by subst er52; exact At.ok a2 ((pOne_ok u s 5) (adv q) a2.1) c55); have n3 := n2.st h0
          refine g_aload_n h dX5_product_60 rfl ?_
          refine g_iconst (v := nI 3) h dX5_product_61 (by decide) ?_
          refine g_iload_n h dX5_product_62 rfl ?_
          refine g_callVW0 h hE (m5_lays _ _ _ o a s S u r52.2 3 (lk s q) (by first | assumption | omega)) 0 rfl rfl (lw_V q1594 q1596 qs56 q95 q1597) gy_X5_lays ⟨Nat.le_of_ble_eq_true rfl, Nat.le_of_ble_eq_true rfl⟩ ⟨Nat.le_of_ble_eq_true rfl, Nat.le_of_ble_eq_true rfl⟩ rfl rfl (Nat.le_of_ble_eq_true rfl) dX5_product_63 (st' := []) rfl (fun _ e63 => ?_)
          subst e63
          refine g_goto h 9 dX5_product_66 (by decide) ?_
          refine g_lv (lv' := [(0, .ref o)]) (lvle_cons rfl (lvle_nil)) ?_
          exact ih_lw (lay2 3 (lk s q) r52.2, m0) (by show m0 < m0 + 1; omega) (by subst er52; exact e0_lw.trans (pR_t hq c55)) n1 (by subst er52; exact mu_ok ((pOne_ok u s 5) (adv q) a2.1) hl e2_lw)
        · skip
          show G X 0 0 (mW (xT X) o a s (paS S u r52.2)) 58 [(0, .ref o), (1, .int (lk s q))] []
          have e : (pProd (pOne u s 5) s) p = (false, r52.2) := (by subst er52; exact e0_lw.trans (pR_f hq c55))
          refine g_iconst (v := nI 0) h dX5_product_58 (by decide) ?_
          exact g_zretWv h hE dX5_product_59 (by rw [e]; rfl) (paW_eq (by rw [e]))
      · skip
        show G X 0 0 (mW (xT X) o a s (paS S u q)) 18 [(0, .ref o)] []
        refine g_aload_n h dX5_product_18 rfl ?_
        refine g_callVR h (m5_look _ _ _ o a s S u q h0 (by first | assumption | omega)) (fun _ q => q) 0 rfl rfl (lw_V q1586 q1588 qs54 q95 q1589) gy_X5_look ⟨Nat.le_of_ble_eq_true rfl, Nat.le_of_ble_eq_true rfl⟩ ⟨Nat.le_of_ble_eq_true rfl, Nat.le_of_ble_eq_true rfl⟩ rfl rfl (Nat.le_of_ble_eq_true rfl) dX5_product_19 ?_
        refine g_bipush (v := nI 47) h dX5_product_22 (by decide) ?_
        refine g_toI (y := 47) rfl ?_
        refine g_icmp_eq h 36 dX5_product_24 (by decide) (fun c24 => ?_) (fun c24 => ?_)
        · skip
          show G X 0 0 (mW (xT X) o a s (paS S u q)) 36 [(0, .ref o)] []
          have hq : isMul (lk s q) = true := by simp [isMul, c15, c24]
          have hl := lk_lt (by decide) hq; obtain ⟨m0, rfl⟩ : ∃ k, m = k + 1 := ⟨m - 1, by omega⟩; have a2 := a1.adv hl
          refine g_aload_n h dX5_product_36 rfl ?_
          refine g_callVR h (m5_look _ _ _ o a s S u q h0 (by first | assumption | omega)) (fun _ q => q) 0 rfl rfl (lw_V q1586 q1588 qs54 q95 q1589) gy_X5_look ⟨Nat.le_of_ble_eq_true rfl, Nat.le_of_ble_eq_true rfl⟩ ⟨Nat.le_of_ble_eq_true rfl, Nat.le_of_ble_eq_true rfl⟩ rfl rfl (Nat.le_of_ble_eq_true rfl) dX5_product_37 ?_
          refine g_istore_n (lv' := [(0, .ref o), (1, .int (lk s q))]) h dX5_product_40 (by decide) rfl ?_
          refine g_aload_n h dX5_product_41 rfl ?_
          refine g_dup h dX5_product_42 rfl ?_
          refine g_get h in_X5 0 rfl rfl 5 rfl q1379 rfl rfl dX5_product_43 ?_
          show G X 0 0 (mW (xT X) o a s (paS S u q)) 46 [(0, .ref o), (1, .int (lk s q))] [.int (nI q.1), .ref o]
          refine g_iconst (v := nI 1) h dX5_product_46 (by decide) ?_
          refine g_iaddN h dX5_product_47 ?_
          refine g_put (ws' := mW (xT X) o a s (paS S u (adv q))) h hE.1 in_X5 tyX5 tyX5_ok nmX5 0 rfl rfl 5 rfl q1379 rfl rfl rfl rfl rfl rfl dX5_product_48 rfl ?_
          refine g_aload_n h dX5_product_51 rfl ?_
          refine g_callVW0 h hE (m5_one_5 _ _ _ o a s S u (adv q) h0 (by first | assumption | omega) (by first | assumption | omega)) 0 rfl rfl (lw_V q1582 q1584 qs53 q95 q1585) gy_X5_one ⟨Nat.le_of_ble_eq_true rfl, Nat.le_of_ble_eq_true rfl⟩ ⟨Nat.le_of_ble_eq_true rfl, Nat.le_of_ble_eq_true rfl⟩ rfl rfl (Nat.le_of_ble_eq_true rfl) dX5_product_52 (st' := [.int (bI (((pOne u s 5) (adv q)).1))]) rfl (fun _ e52 => ?_)
          subst e52
          show G X 0 0 (mW (xT X) o a s (paS S u (((pOne u s 5) (adv q)).2))) 55 [(0, .ref o), (1, .int (lk s q))] [.int (bI (((pOne u s 5) (adv q)).1))]
          generalize er52 : (pOne u s 5) (adv q) = r52
          refine g_if_neB h 60 dX5_product_55 (by decide) (fun c55 => ?_) (fun c55 => ?_)
          · skip
            show G X 0 0 (mW (xT X) o a s (paS S u r52.2)) 60 [(0, .ref o), (1, .int (lk s q))] []
            have n0 : OKp s q (true, lay2 3 (lk s q) r52.2) := (by subst er52; exact adv_ok (pOne_ok u s 5) 3 (lk s q) hl c55); have n1 := At.ok a1 n0 rfl; have n2 : At s 0 r52.2 := (by subst er52; exact At.ok a2 ((pOne_ok u s 5) (adv q) a2.1) c55); have n3 := n2.st h0
            refine g_aload_n h dX5_product_60 rfl ?_
            refine g_iconst (v := nI 3) h dX5_product_61 (by decide) ?_
            refine g_iload_n h dX5_product_62 rfl ?_
            refine g_callVW0 h hE (m5_lays _ _ _ o a s S u r52.2 3 (lk s q) (by first | assumption | omega)) 0 rfl rfl (lw_V q1594 q1596 qs56 q95 q1597) gy_X5_lays ⟨Nat.le_of_ble_eq_true rfl, Nat.le_of_ble_eq_true rfl⟩ ⟨Nat.le_of_ble_eq_true rfl, Nat.le_of_ble_eq_true rfl⟩ rfl rfl (Nat.le_of_ble_eq_true rfl) dX5_product_63 (st' := []) rfl (fun _ e63 => ?_)
            subst e63
            refine g_goto h 9 dX5_product_66 (by decide) ?_
            refine g_lv (lv' := [(0, .ref o)]) (lvle_cons rfl (lvle_nil)) ?_
            exact ih_lw (lay2 3 (lk s q) r52.2, m0) (by show m0 < m0 + 1; omega) (by subst er52; exact e0_lw.trans (pR_t hq c55)) n1 (by subst er52; exact mu_ok ((pOne_ok u s 5) (adv q) a2.1) hl e2_lw)
          · skip
            show G X 0 0 (mW (xT X) o a s (paS S u r52.2)) 58 [(0, .ref o), (1, .int (lk s q))] []
            have e : (pProd (pOne u s 5) s) p = (false, r52.2) := (by subst er52; exact e0_lw.trans (pR_f hq c55))
            refine g_iconst (v := nI 0) h dX5_product_58 (by decide) ?_
            exact g_zretWv h hE dX5_product_59 (by rw [e]; rfl) (paW_eq (by rw [e]))
        · skip
          show G X 0 0 (mW (xT X) o a s (paS S u q)) 27 [(0, .ref o)] []
          refine g_aload_n h dX5_product_27 rfl ?_
          refine g_callVR h (m5_look _ _ _ o a s S u q h0 (by first | assumption | omega)) (fun _ q => q) 0 rfl rfl (lw_V q1586 q1588 qs54 q95 q1589) gy_X5_look ⟨Nat.le_of_ble_eq_true rfl, Nat.le_of_ble_eq_true rfl⟩ ⟨Nat.le_of_ble_eq_true rfl, Nat.le_of_ble_eq_true rfl⟩ rfl rfl (Nat.le_of_ble_eq_true rfl) dX5_product_28 ?_
          refine g_bipush (v := nI 37) h dX5_product_31 (by decide) ?_
          refine g_toI (y := 37) rfl ?_
          refine g_icmp_ne h 69 dX5_product_33 (by decide) (fun c33 => ?_) (fun c33 => ?_)
          · skip
            show G X 0 0 (mW (xT X) o a s (paS S u q)) 69 [(0, .ref o)] []
            have hq : isMul (lk s q) = false := by simp [isMul, c15, c24, c33]
            have e : (pProd (pOne u s 5) s) p = (true, q) := e0_lw.trans (pR_n hq)
            refine g_iconst (v := nI 1) h dX5_product_69 (by decide) ?_
            exact g_zretWv h hE dX5_product_70 (by rw [e]; rfl) (paW_eq (by rw [e]))
          · skip
            show G X 0 0 (mW (xT X) o a s (paS S u q)) 36 [(0, .ref o)] []
            have hq : isMul (lk s q) = true := by simp [isMul, c15, c24, c33]
            have hl := lk_lt (by decide) hq; obtain ⟨m0, rfl⟩ : ∃ k, m = k + 1 := ⟨m - 1, by omega⟩; have a2 := a1.adv hl
            refine g_aload_n h dX5_product_36 rfl ?_
            refine g_callVR h (m5_look _ _ _ o a s S u q h0 (by first | assumption | omega)) (fun _ q => q) 0 rfl rfl (lw_V q1586 q1588 qs54 q95 q1589) gy_X5_look ⟨Nat.le_of_ble_eq_true rfl, Nat.le_of_ble_eq_true rfl⟩ ⟨Nat.le_of_ble_eq_true rfl, Nat.le_of_ble_eq_true rfl⟩ rfl rfl (Nat.le_of_ble_eq_true rfl) dX5_product_37 ?_
            refine g_istore_n (lv' := [(0, .ref o), (1, .int (lk s q))]) h dX5_product_40 (by decide) rfl ?_
            refine g_aload_n h dX5_product_41 rfl ?_
            refine g_dup h dX5_product_42 rfl ?_
            refine g_get h in_X5 0 rfl rfl 5 rfl q1379 rfl rfl dX5_product_43 ?_
            show G X 0 0 (mW (xT X) o a s (paS S u q)) 46 [(0, .ref o), (1, .int (lk s q))] [.int (nI q.1), .ref o]
            refine g_iconst (v := nI 1) h dX5_product_46 (by decide) ?_
            refine g_iaddN h dX5_product_47 ?_
            refine g_put (ws' := mW (xT X) o a s (paS S u (adv q))) h hE.1 in_X5 tyX5 tyX5_ok nmX5 0 rfl rfl 5 rfl q1379 rfl rfl rfl rfl rfl rfl dX5_product_48 rfl ?_
            refine g_aload_n h dX5_product_51 rfl ?_
            refine g_callVW0 h hE (m5_one_5 _ _ _ o a s S u (adv q) h0 (by first | assumption | omega) (by first | assumption | omega)) 0 rfl rfl (lw_V q1582 q1584 qs53 q95 q1585) gy_X5_one ⟨Nat.le_of_ble_eq_true rfl, Nat.le_of_ble_eq_true rfl⟩ ⟨Nat.le_of_ble_eq_true rfl, Nat.le_of_ble_eq_true rfl⟩ rfl rfl (Nat.le_of_ble_eq_true rfl) dX5_product_52 (st' := [.int (bI (((pOne u s 5) (adv q)).1))]) rfl (fun _ e52 => ?_)
            subst e52
            show G X 0 0 (mW (xT X) o a s (paS S u (((pOne u s 5) (adv q)).2))) 55 [(0, .ref o), (1, .int (lk s q))] [.int (bI (((pOne u s 5) (adv q)).1))]
            generalize er52 : (pOne u s 5) (adv q) = r52
            refine g_if_neB h 60 dX5_product_55 (by decide) (fun c55 => ?_) (fun c55 => ?_)
            · skip
              show G X 0 0 (mW (xT X) o a s (paS S u r52.2)) 60 [(0, .ref o), (1, .int (lk s q))] []
              have n0 : OKp s q (true, lay2 3 (lk s q) r52.2) := (by subst er52; exact adv_ok (pOne_ok u s 5) 3 (lk s q) hl c55); have n1 := At.ok a1 n0 rfl; have n2 : At s 0 r52.2 := (by subst er52; exact At.ok a2 ((pOne_ok u s 5) (adv q) a2.1) c55); have n3 := n2.st h0
              refine g_aload_n h dX5_product_60 rfl ?_
              refine g_iconst (v := nI 3) h dX5_product_61 (by decide) ?_
              refine g_iload_n h dX5_product_62 rfl ?_
              refine g_callVW0 h hE (m5_lays _ _ _ o a s S u r52.2 3 (lk s q) (by first | assumption | omega)) 0 rfl rfl (lw_V q1594 q1596 qs56 q95 q1597) gy_X5_lays ⟨Nat.le_of_ble_eq_true rfl, Nat.le_of_ble_eq_true rfl⟩ ⟨Nat.le_of_ble_eq_true rfl, Nat.le_of_ble_eq_true rfl⟩ rfl rfl (Nat.le_of_ble_eq_true rfl) dX5_product_63 (st' := []) rfl (fun _ e63 => ?_)
              subst e63
              refine g_goto h 9 dX5_product_66 (by decide) ?_
              refine g_lv (lv' := [(0, .ref o)]) (lvle_cons rfl (lvle_nil)) ?_
              exact ih_lw (lay2 3 (lk s q) r52.2, m0) (by show m0 < m0 + 1; omega) (by subst er52; exact e0_lw.trans (pR_t hq c55)) n1 (by subst er52; exact mu_ok ((pOne_ok u s 5) (adv q) a2.1) hl e2_lw)
            · skip
              show G X 0 0 (mW (xT X) o a s (paS S u r52.2)) 58 [(0, .ref o), (1, .int (lk s q))] []
              have e : (pProd (pOne u s 5) s) p = (false, r52.2) := (by subst er52; exact e0_lw.trans (pR_f hq c55))
              refine g_iconst (v := nI 0) h dX5_product_58 (by decide) ?_
              exact g_zretWv h hE dX5_product_59 (by rw [e]; rfl) (paW_eq (by rw [e]))
    exact lw (r1.2, 61) (by subst er1; exact pProd_t c4) a0 (by omega)
  · skip
    show G X 0 0 (mW (xT X) o a s (paS S u r1.2)) 7 [(0, .ref o)] []
    have e : (pProd (pOne u s 5) s) p = (false, r1.2) := (by subst er1; exact pProd_f c4)
    refine g_iconst (v := nI 0) h dX5_product_7 (by decide) ?_
    exact g_zretWv h hE dX5_product_8 (by rw [e]; rfl) (paW_eq (by rw [e]))
set_option maxHeartbeats 4000000 in
set_option maxRecDepth 100000 in
theorem m5_sum_5 (l : Launch) (D : va_G) (T : Nat → ClassId) (o : Nat) (a : Nat → Nat) (s : Nat → Int32) (S : Nat → Nat → Int32) (u : Nat) (p : PS) (h0 : Inv s) (h1 : u < 2) (h2 : At s 0 p) : MetW l D T yX5_sum cX5_sum 2 (some .boolean) 33 696 0 0 [.ref o] (mW T o a s (paS S u p)) (fun r_ w_ => r_ = some (.int (bI (((pSum (pOne u s 5) s) p).1))) ∧ (w_ = mW T o a s (paS S u (((pSum (pOne u s 5) s) p).2)))) := by
  refine metW (own := RX5) rfl (by decide) rfl (fun X h hl hDx hTx hnm hE => ?_)
  subst hl; subst hDx; subst hTx
  have hnp := h0.npl; have hnt := h0.ntl; have hnq := h0.nql
  have hnc := h0.ncl; have l0 := h2.1; have b0 := h2.2.1; have z0 := h2.2.2; have y0 := h2.st h0
  show G X 0 0 (mW (xT X) o a s (paS S u p)) 0 [(0, .ref o)] []
  refine g_aload_n h dX5_sum_0 rfl ?_
  refine g_callVW0 h hE (m5_product_5 _ _ _ o a s S u p h0 (by first | assumption | omega) (by first | assumption | omega)) 0 rfl rfl (lw_V q1578 q1580 qs52 q95 q1581) gy_X5_product ⟨Nat.le_of_ble_eq_true rfl, Nat.le_of_ble_eq_true rfl⟩ ⟨Nat.le_of_ble_eq_true rfl, Nat.le_of_ble_eq_true rfl⟩ rfl rfl (Nat.le_of_ble_eq_true rfl) dX5_sum_1 (st' := [.int (bI (((pProd (pOne u s 5) s) p).1))]) rfl (fun _ e1 => ?_)
  subst e1
  show G X 0 0 (mW (xT X) o a s (paS S u (((pProd (pOne u s 5) s) p).2))) 4 [(0, .ref o)] [.int (bI (((pProd (pOne u s 5) s) p).1))]
  generalize er1 : (pProd (pOne u s 5) s) p = r1
  refine g_if_neB h 9 dX5_sum_4 (by decide) (fun c4 => ?_) (fun c4 => ?_)
  · skip
    show G X 0 0 (mW (xT X) o a s (paS S u r1.2)) 9 [(0, .ref o)] []
    have a0 : At s 0 r1.2 := (by subst er1; exact h2.ok ((pProd_ok (pOne_ok u s 5)) p l0) c4); have l1 := a0.1
    have lw : ∀ q_ : (PS) × (Nat), (match q_ with | (q, m) => ((pSum (pOne u s 5) s) p = pR (pProd (pOne u s 5) s) s isAdd m q) → (At s 0 q) → (nC s - q.1 < m) → G X 0 0 (mW (xT X) o a s (paS S u q)) 9 [(0, .ref o)] []) := by
      refine g_rec (fun q_ => match q_ with | (q, m) => m) ?_
      rintro ⟨q, m⟩ ih_lw e0_lw e1_lw e2_lw
      skip
      have a1 := e1_lw; have l2 := a1.1; have y2 := a1.st h0
      refine g_aload_n h dX5_sum_9 rfl ?_
      refine g_callVR h (m5_look _ _ _ o a s S u q h0 (by first | assumption | omega)) (fun _ q => q) 0 rfl rfl (lw_V q1586 q1588 qs54 q95 q1589) gy_X5_look ⟨Nat.le_of_ble_eq_true rfl, Nat.le_of_ble_eq_true rfl⟩ ⟨Nat.le_of_ble_eq_true rfl, Nat.le_of_ble_eq_true rfl⟩ rfl rfl (Nat.le_of_ble_eq_true rfl) dX5_sum_10 ?_
      refine g_bipush (v := nI 43) h dX5_sum_13 (by decide) ?_
      refine g_toI (y := 43) rfl ?_
      refine g_icmp_eq h 27 dX5_sum_15 (by decide) (fun c15 => ?_) (fun c15 => ?_)
      · skip
        show G X 0 0 (mW (xT X) o a s (paS S u q)) 27 [(0, .ref o)] []
        have hq : isAdd (lk s q) = true := by simp [isAdd, c15]
        have hl := lk_lt (by decide) hq; obtain ⟨m0, rfl⟩ : ∃ k, m = k + 1 := ⟨m - 1, by omega⟩; have a2 := a1.adv hl
        refine g_aload_n h dX5_sum_27 rfl ?_
        refine g_callVR h (m5_look _ _ _ o a s S u q h0 (by first | assumption | omega)) (fun _ q => q) 0 rfl rfl (lw_V q1586 q1588 qs54 q95 q1589) gy_X5_look ⟨Nat.le_of_ble_eq_true rfl, Nat.le_of_ble_eq_true rfl⟩ ⟨Nat.le_of_ble_eq_true rfl, Nat.le_of_ble_eq_true rfl⟩ rfl rfl (Nat.le_of_ble_eq_true rfl) dX5_sum_28 ?_
        refine g_istore_n (lv' := [(0, .ref o), (1, .int (lk s q))]) h dX5_sum_31 (by decide) rfl ?_
        refine g_aload_n h dX5_sum_32 rfl ?_
        refine g_dup h dX5_sum_33 rfl ?_
        refine g_get h in_X5 0 rfl rfl 5 rfl q1379 rfl rfl dX5_sum_34 ?_
        show G X 0 0 (mW (xT X) o a s (paS S u q)) 37 [(0, .ref o), (1, .int (lk s q))] [.int (nI q.1), .ref o]
        refine g_iconst (v := nI 1) h dX5_sum_37 (by decide) ?_
        refine g_iaddN h dX5_sum_38 ?_
        refine g_put (ws' := mW (xT X) o a s (paS S u (adv q))) h hE.1 in_X5 tyX5 tyX5_ok nmX5 0 rfl rfl 5 rfl q1379 rfl rfl rfl rfl rfl rfl dX5_sum_39 rfl ?_
        refine g_aload_n h dX5_sum_42 rfl ?_
        refine g_callVW0 h hE (m5_product_5 _ _ _ o a s S u (adv q) h0 (by first | assumption | omega) (by first | assumption | omega)) 0 rfl rfl (lw_V q1578 q1580 qs52 q95 q1581) gy_X5_product ⟨Nat.le_of_ble_eq_true rfl, Nat.le_of_ble_eq_true rfl⟩ ⟨Nat.le_of_ble_eq_true rfl, Nat.le_of_ble_eq_true rfl⟩ rfl rfl (Nat.le_of_ble_eq_true rfl) dX5_sum_43 (st' := [.int (bI (((pProd (pOne u s 5) s) (adv q)).1))]) rfl (fun _ e43 => ?_)
        subst e43
        show G X 0 0 (mW (xT X) o a s (paS S u (((pProd (pOne u s 5) s) (adv q)).2))) 46 [(0, .ref o), (1, .int (lk s q))] [.int (bI (((pProd (pOne u s 5) s) (adv q)).1))]
        generalize er43 : (pProd (pOne u s 5) s) (adv q) = r43
        refine g_if_neB h 51 dX5_sum_46 (by decide) (fun c46 => ?_) (fun c46 => ?_)
        · skip
          show G X 0 0 (mW (xT X) o a s (paS S u r43.2)) 51 [(0, .ref o), (1, .int (lk s q))] []
          have n0 : OKp s q (true, lay2 3 (lk s q) r43.2) := (by subst er43; exact adv_ok (pProd_ok (pOne_ok u s 5)) 3 (lk s q) hl c46); have n1 := At.ok a1 n0 rfl; have n2 : At s 0 r43.2 := (by subst er43; exact At.ok a2 ((pProd_ok (pOne_ok u s 5)) (adv q) a2.1) c46); have n3 := n2.st h0
          refine g_aload_n h dX5_sum_51 rfl ?_
          refine g_iconst (v := nI 3) h dX5_sum_52 (by decide) ?_
          refine g_iload_n h dX5_sum_53 rfl ?_
          refine g_callVW0 h hE (m5_lays _ _ _ o a s S u r43.2 3 (lk s q) (by first | assumption | omega)) 0 rfl rfl (lw_V q1594 q1596 qs56 q95 q1597) gy_X5_lays ⟨Nat.le_of_ble_eq_true rfl, Nat.le_of_ble_eq_true rfl⟩ ⟨Nat.le_of_ble_eq_true rfl, Nat.le_of_ble_eq_true rfl⟩ rfl rfl (Nat.le_of_ble_eq_true rfl) dX5_sum_54 (st' := []) rfl (fun _ e54 => ?_)
          subst e54
          refine g_goto h 9 dX5_sum_57 (by decide) ?_
          refine g_lv (lv' := [(0, .ref o)]) (lvle_cons rfl (lvle_nil)) ?_
          exact ih_lw (lay2 3 (lk s q) r43.2, m0) (by show m0 < m0 + 1; omega) (by subst er43; exact e0_lw.trans (pR_t hq c46)) n1 (by subst er43; exact mu_ok ((pProd_ok (pOne_ok u s 5)) (adv q) a2.1) hl e2_lw)
        · skip
          show G X 0 0 (mW (xT X) o a s (paS S u r43.2)) 49 [(0, .ref o), (1, .int (lk s q))] []
          have e : (pSum (pOne u s 5) s) p = (false, r43.2) := (by subst er43; exact e0_lw.trans (pR_f hq c46))
          refine g_iconst (v := nI 0) h dX5_sum_49 (by decide) ?_
          exact g_zretWv h hE dX5_sum_50 (by rw [e]; rfl) (paW_eq (by rw [e]))
      · skip
        show G X 0 0 (mW (xT X) o a s (paS S u q)) 18 [(0, .ref o)] []
        refine g_aload_n h dX5_sum_18 rfl ?_
        refine g_callVR h (m5_look _ _ _ o a s S u q h0 (by first | assumption | omega)) (fun _ q => q) 0 rfl rfl (lw_V q1586 q1588 qs54 q95 q1589) gy_X5_look ⟨Nat.le_of_ble_eq_true rfl, Nat.le_of_ble_eq_true rfl⟩ ⟨Nat.le_of_ble_eq_true rfl, Nat.le_of_ble_eq_true rfl⟩ rfl rfl (Nat.le_of_ble_eq_true rfl) dX5_sum_19 ?_
        refine g_bipush (v := nI 45) h dX5_sum_22 (by decide) ?_
        refine g_toI (y := 45) rfl ?_
        refine g_icmp_ne h 60 dX5_sum_24 (by decide) (fun c24 => ?_) (fun c24 => ?_)
        · skip
          show G X 0 0 (mW (xT X) o a s (paS S u q)) 60 [(0, .ref o)] []
          have hq : isAdd (lk s q) = false := by simp [isAdd, c15, c24]
          have e : (pSum (pOne u s 5) s) p = (true, q) := e0_lw.trans (pR_n hq)
          refine g_iconst (v := nI 1) h dX5_sum_60 (by decide) ?_
          exact g_zretWv h hE dX5_sum_61 (by rw [e]; rfl) (paW_eq (by rw [e]))
        · skip
          show G X 0 0 (mW (xT X) o a s (paS S u q)) 27 [(0, .ref o)] []
          have hq : isAdd (lk s q) = true := by simp [isAdd, c15, c24]
          have hl := lk_lt (by decide) hq; obtain ⟨m0, rfl⟩ : ∃ k, m = k + 1 := ⟨m - 1, by omega⟩; have a2 := a1.adv hl
          refine g_aload_n h dX5_sum_27 rfl ?_
          refine g_callVR h (m5_look _ _ _ o a s S u q h0 (by first | assumption | omega)) (fun _ q => q) 0 rfl rfl (lw_V q1586 q1588 qs54 q95 q1589) gy_X5_look ⟨Nat.le_of_ble_eq_true rfl, Nat.le_of_ble_eq_true rfl⟩ ⟨Nat.le_of_ble_eq_true rfl, Nat.le_of_ble_eq_true rfl⟩ rfl rfl (Nat.le_of_ble_eq_true rfl) dX5_sum_28 ?_
          refine g_istore_n (lv' := [(0, .ref o), (1, .int (lk s q))]) h dX5_sum_31 (by decide) rfl ?_
          refine g_aload_n h dX5_sum_32 rfl ?_
          refine g_dup h dX5_sum_33 rfl ?_
          refine g_get h in_X5 0 rfl rfl 5 rfl q1379 rfl rfl dX5_sum_34 ?_
          show G X 0 0 (mW (xT X) o a s (paS S u q)) 37 [(0, .ref o), (1, .int (lk s q))] [.int (nI q.1), .ref o]
          refine g_iconst (v := nI 1) h dX5_sum_37 (by decide) ?_
          refine g_iaddN h dX5_sum_38 ?_
          refine g_put (ws' := mW (xT X) o a s (paS S u (adv q))) h hE.1 in_X5 tyX5 tyX5_ok nmX5 0 rfl rfl 5 rfl q1379 rfl rfl rfl rfl rfl rfl dX5_sum_39 rfl ?_
          refine g_aload_n h dX5_sum_42 rfl ?_
          refine g_callVW0 h hE (m5_product_5 _ _ _ o a s S u (adv q) h0 (by first | assumption | omega) (by first | assumption | omega)) 0 rfl rfl (lw_V q1578 q1580 qs52 q95 q1581) gy_X5_product ⟨Nat.le_of_ble_eq_true rfl, Nat.le_of_ble_eq_true rfl⟩ ⟨Nat.le_of_ble_eq_true rfl, Nat.le_of_ble_eq_true rfl⟩ rfl rfl (Nat.le_of_ble_eq_true rfl) dX5_sum_43 (st' := [.int (bI (((pProd (pOne u s 5) s) (adv q)).1))]) rfl (fun _ e43 => ?_)
          subst e43
          show G X 0 0 (mW (xT X) o a s (paS S u (((pProd (pOne u s 5) s) (adv q)).2))) 46 [(0, .ref o), (1, .int (lk s q))] [.int (bI (((pProd (pOne u s 5) s) (adv q)).1))]
          generalize er43 : (pProd (pOne u s 5) s) (adv q) = r43
          refine g_if_neB h 51 dX5_sum_46 (by decide) (fun c46 => ?_) (fun c46 => ?_)
          · skip
            show G X 0 0 (mW (xT X) o a s (paS S u r43.2)) 51 [(0, .ref o), (1, .int (lk s q))] []
            have n0 : OKp s q (true, lay2 3 (lk s q) r43.2) := (by subst er43; exact adv_ok (pProd_ok (pOne_ok u s 5)) 3 (lk s q) hl c46); have n1 := At.ok a1 n0 rfl; have n2 : At s 0 r43.2 := (by subst er43; exact At.ok a2 ((pProd_ok (pOne_ok u s 5)) (adv q) a2.1) c46); have n3 := n2.st h0
            refine g_aload_n h dX5_sum_51 rfl ?_
            refine g_iconst (v := nI 3) h dX5_sum_52 (by decide) ?_
            refine g_iload_n h dX5_sum_53 rfl ?_
            refine g_callVW0 h hE (m5_lays _ _ _ o a s S u r43.2 3 (lk s q) (by first | assumption | omega)) 0 rfl rfl (lw_V q1594 q1596 qs56 q95 q1597) gy_X5_lays ⟨Nat.le_of_ble_eq_true rfl, Nat.le_of_ble_eq_true rfl⟩ ⟨Nat.le_of_ble_eq_true rfl, Nat.le_of_ble_eq_true rfl⟩ rfl rfl (Nat.le_of_ble_eq_true rfl) dX5_sum_54 (st' := []) rfl (fun _ e54 => ?_)
            subst e54
            refine g_goto h 9 dX5_sum_57 (by decide) ?_
            refine g_lv (lv' := [(0, .ref o)]) (lvle_cons rfl (lvle_nil)) ?_
            exact ih_lw (lay2 3 (lk s q) r43.2, m0) (by show m0 < m0 + 1; omega) (by subst er43; exact e0_lw.trans (pR_t hq c46)) n1 (by subst er43; exact mu_ok ((pProd_ok (pOne_ok u s 5)) (adv q) a2.1) hl e2_lw)
          · skip
            show G X 0 0 (mW (xT X) o a s (paS S u r43.2)) 49 [(0, .ref o), (1, .int (lk s q))] []
            have e : (pSum (pOne u s 5) s) p = (false, r43.2) := (by subst er43; exact e0_lw.trans (pR_f hq c46))
            refine g_iconst (v := nI 0) h dX5_sum_49 (by decide) ?_
            exact g_zretWv h hE dX5_sum_50 (by rw [e]; rfl) (paW_eq (by rw [e]))
    exact lw (r1.2, 61) (by subst er1; exact pSum_t c4) a0 (by omega)
  · skip
    show G X 0 0 (mW (xT X) o a s (paS S u r1.2)) 7 [(0, .ref o)] []
    have e : (pSum (pOne u s 5) s) p = (false, r1.2) := (by subst er1; exact pSum_f c4)
    refine g_iconst (v := nI 0) h dX5_sum_7 (by decide) ?_
    exact g_zretWv h hE dX5_sum_8 (by rw [e]; rfl) (paW_eq (by rw [e]))
set_option maxHeartbeats 4000000 in
set_option maxRecDepth 100000 in
theorem m5_compared_5 (l : Launch) (D : va_G) (T : Nat → ClassId) (o : Nat) (a : Nat → Nat) (s : Nat → Int32) (S : Nat → Nat → Int32) (u : Nat) (p : PS) (h0 : Inv s) (h1 : u < 2) (h2 : At s 0 p) : MetW l D T yX5_compared cX5_compared 2 (some .boolean) 34 717 0 0 [.ref o] (mW T o a s (paS S u p)) (fun r_ w_ => r_ = some (.int (bI (((pCmp (pOne u s 5) s) p).1))) ∧ (w_ = mW T o a s (paS S u (((pCmp (pOne u s 5) s) p).2)))) := by
  refine metW (own := RX5) rfl (by decide) rfl (fun X h hl hDx hTx hnm hE => ?_)
  subst hl; subst hDx; subst hTx
  have hnp := h0.npl; have hnt := h0.ntl; have hnq := h0.nql
  have hnc := h0.ncl; have l0 := h2.1; have b0 := h2.2.1; have z0 := h2.2.2; have y0 := h2.st h0
  show G X 0 0 (mW (xT X) o a s (paS S u p)) 0 [(0, .ref o)] []
  refine g_aload_n h dX5_compared_0 rfl ?_
  refine g_callVW0 h hE (m5_sum_5 _ _ _ o a s S u p h0 (by first | assumption | omega) (by first | assumption | omega)) 0 rfl rfl (lw_V q1574 q1576 qs51 q95 q1577) gy_X5_sum ⟨Nat.le_of_ble_eq_true rfl, Nat.le_of_ble_eq_true rfl⟩ ⟨Nat.le_of_ble_eq_true rfl, Nat.le_of_ble_eq_true rfl⟩ rfl rfl (Nat.le_of_ble_eq_true rfl) dX5_compared_1 (st' := [.int (bI (((pSum (pOne u s 5) s) p).1))]) rfl (fun _ e1 => ?_)
  subst e1
  show G X 0 0 (mW (xT X) o a s (paS S u (((pSum (pOne u s 5) s) p).2))) 4 [(0, .ref o)] [.int (bI (((pSum (pOne u s 5) s) p).1))]
  generalize er1 : (pSum (pOne u s 5) s) p = r1
  refine g_if_neB h 9 dX5_compared_4 (by decide) (fun c4 => ?_) (fun c4 => ?_)
  · skip
    show G X 0 0 (mW (xT X) o a s (paS S u r1.2)) 9 [(0, .ref o)] []
    have a1 : At s 0 r1.2 := (by subst er1; exact h2.ok ((pSum_ok (pOne_ok u s 5)) p l0) c4); have l1 := a1.1
    refine g_aload_n h dX5_compared_9 rfl ?_
    refine g_callVR h (m5_look _ _ _ o a s S u r1.2 h0 (by first | assumption | omega)) (fun _ q => q) 0 rfl rfl (lw_V q1586 q1588 qs54 q95 q1589) gy_X5_look ⟨Nat.le_of_ble_eq_true rfl, Nat.le_of_ble_eq_true rfl⟩ ⟨Nat.le_of_ble_eq_true rfl, Nat.le_of_ble_eq_true rfl⟩ rfl rfl (Nat.le_of_ble_eq_true rfl) dX5_compared_10 ?_
    refine g_istore_n (lv' := [(0, .ref o), (1, .int (lk s r1.2))]) h dX5_compared_13 (by decide) rfl ?_
    refine g_iload_n h dX5_compared_14 rfl ?_
    refine g_bipush (v := nI 60) h dX5_compared_15 (by decide) ?_
    refine g_toI (y := 60) rfl ?_
    refine g_icmp_eq h 34 dX5_compared_17 (by decide) (fun c17 => ?_) (fun c17 => ?_)
    · skip
      show G X 0 0 (mW (xT X) o a s (paS S u r1.2)) 34 [(0, .ref o), (1, .int (lk s r1.2))] []
      have hq : isCmp (lk s r1.2) = true := by simp [isCmp, c17]
      have hl := lk_lt (by decide) hq; have a2 := a1.adv hl
      refine g_aload_n h dX5_compared_34 rfl ?_
      refine g_dup h dX5_compared_35 rfl ?_
      refine g_get h in_X5 0 rfl rfl 5 rfl q1379 rfl rfl dX5_compared_36 ?_
      show G X 0 0 (mW (xT X) o a s (paS S u r1.2)) 39 [(0, .ref o), (1, .int (lk s r1.2))] [.int (nI r1.2.1), .ref o]
      refine g_iconst (v := nI 1) h dX5_compared_39 (by decide) ?_
      refine g_iaddN h dX5_compared_40 ?_
      refine g_put (ws' := mW (xT X) o a s (paS S u (adv r1.2))) h hE.1 in_X5 tyX5 tyX5_ok nmX5 0 rfl rfl 5 rfl q1379 rfl rfl rfl rfl rfl rfl dX5_compared_41 rfl ?_
      refine g_aload_n h dX5_compared_44 rfl ?_
      refine g_callVW0 h hE (m5_sum_5 _ _ _ o a s S u (adv r1.2) h0 (by first | assumption | omega) (by first | assumption | omega)) 0 rfl rfl (lw_V q1574 q1576 qs51 q95 q1577) gy_X5_sum ⟨Nat.le_of_ble_eq_true rfl, Nat.le_of_ble_eq_true rfl⟩ ⟨Nat.le_of_ble_eq_true rfl, Nat.le_of_ble_eq_true rfl⟩ rfl rfl (Nat.le_of_ble_eq_true rfl) dX5_compared_45 (st' := [.int (bI (((pSum (pOne u s 5) s) (adv r1.2)).1))]) rfl (fun _ e45 => ?_)
      subst e45
      show G X 0 0 (mW (xT X) o a s (paS S u (((pSum (pOne u s 5) s) (adv r1.2)).2))) 48 [(0, .ref o), (1, .int (lk s r1.2))] [.int (bI (((pSum (pOne u s 5) s) (adv r1.2)).1))]
      generalize er45 : (pSum (pOne u s 5) s) (adv r1.2) = r45
      refine g_if_neB h 53 dX5_compared_48 (by decide) (fun c48 => ?_) (fun c48 => ?_)
      · skip
        show G X 0 0 (mW (xT X) o a s (paS S u r45.2)) 53 [(0, .ref o), (1, .int (lk s r1.2))] []
        have e : (pCmp (pOne u s 5) s) p = (true, lay2 3 (lk s r1.2) r45.2) := (by subst er45; subst er1; exact pCmp_t c4 hq c48); have n2 : At s 0 r45.2 := (by subst er45; exact At.ok a2 ((pSum_ok (pOne_ok u s 5)) (adv r1.2) a2.1) c48); have n3 := n2.st h0
        refine g_aload_n h dX5_compared_53 rfl ?_
        refine g_iconst (v := nI 3) h dX5_compared_54 (by decide) ?_
        refine g_iload_n h dX5_compared_55 rfl ?_
        refine g_callVW0 h hE (m5_lays _ _ _ o a s S u r45.2 3 (lk s r1.2) (by first | assumption | omega)) 0 rfl rfl (lw_V q1594 q1596 qs56 q95 q1597) gy_X5_lays ⟨Nat.le_of_ble_eq_true rfl, Nat.le_of_ble_eq_true rfl⟩ ⟨Nat.le_of_ble_eq_true rfl, Nat.le_of_ble_eq_true rfl⟩ rfl rfl (Nat.le_of_ble_eq_true rfl) dX5_compared_56 (st' := []) rfl (fun _ e56 => ?_)
        subst e56
        refine g_iconst (v := nI 1) h dX5_compared_59 (by decide) ?_
        exact g_zretWv h hE dX5_compared_60 (by rw [e]; rfl) (paW_eq (by rw [e]))
      · skip
        show G X 0 0 (mW (xT X) o a s (paS S u r45.2)) 51 [(0, .ref o), (1, .int (lk s r1.2))] []
        have e : (pCmp (pOne u s 5) s) p = (false, r45.2) := (by subst er45; subst er1; exact pCmp_e c4 hq c48)
        refine g_iconst (v := nI 0) h dX5_compared_51 (by decide) ?_
        exact g_zretWv h hE dX5_compared_52 (by rw [e]; rfl) (paW_eq (by rw [e]))
    · skip
      show G X 0 0 (mW (xT X) o a s (paS S u r1.2)) 20 [(0, .ref o), (1, .int (lk s r1.2))] []
      refine g_iload_n h dX5_compared_20 rfl ?_
      refine g_bipush (v := nI 61) h dX5_compared_21 (by decide) ?_
      refine g_toI (y := 61) rfl ?_
      refine g_icmp_eq h 34 dX5_compared_23 (by decide) (fun c23 => ?_) (fun c23 => ?_)
      · skip
        show G X 0 0 (mW (xT X) o a s (paS S u r1.2)) 34 [(0, .ref o), (1, .int (lk s r1.2))] []
        have hq : isCmp (lk s r1.2) = true := by simp [isCmp, c17, c23]
        have hl := lk_lt (by decide) hq; have a2 := a1.adv hl
        refine g_aload_n h dX5_compared_34 rfl ?_
        refine g_dup h dX5_compared_35 rfl ?_
        refine g_get h in_X5 0 rfl rfl 5 rfl q1379 rfl rfl dX5_compared_36 ?_
        show G X 0 0 (mW (xT X) o a s (paS S u r1.2)) 39 [(0, .ref o), (1, .int (lk s r1.2))] [.int (nI r1.2.1), .ref o]
        refine g_iconst (v := nI 1) h dX5_compared_39 (by decide) ?_
        refine g_iaddN h dX5_compared_40 ?_
        refine g_put (ws' := mW (xT X) o a s (paS S u (adv r1.2))) h hE.1 in_X5 tyX5 tyX5_ok nmX5 0 rfl rfl 5 rfl q1379 rfl rfl rfl rfl rfl rfl dX5_compared_41 rfl ?_
        refine g_aload_n h dX5_compared_44 rfl ?_
        refine g_callVW0 h hE (m5_sum_5 _ _ _ o a s S u (adv r1.2) h0 (by first | assumption | omega) (by first | assumption | omega)) 0 rfl rfl (lw_V q1574 q1576 qs51 q95 q1577) gy_X5_sum ⟨Nat.le_of_ble_eq_true rfl, Nat.le_of_ble_eq_true rfl⟩ ⟨Nat.le_of_ble_eq_true rfl, Nat.le_of_ble_eq_true rfl⟩ rfl rfl (Nat.le_of_ble_eq_true rfl) dX5_compared_45 (st' := [.int (bI (((pSum (pOne u s 5) s) (adv r1.2)).1))]) rfl (fun _ e45 => ?_)
        subst e45
        show G X 0 0 (mW (xT X) o a s (paS S u (((pSum (pOne u s 5) s) (adv r1.2)).2))) 48 [(0, .ref o), (1, .int (lk s r1.2))] [.int (bI (((pSum (pOne u s 5) s) (adv r1.2)).1))]
        generalize er45 : (pSum (pOne u s 5) s) (adv r1.2) = r45
        refine g_if_neB h 53 dX5_compared_48 (by decide) (fun c48 => ?_) (fun c48 => ?_)
        · skip
          show G X 0 0 (mW (xT X) o a s (paS S u r45.2)) 53 [(0, .ref o), (1, .int (lk s r1.2))] []
          have e : (pCmp (pOne u s 5) s) p = (true, lay2 3 (lk s r1.2) r45.2) := (by subst er45; subst er1; exact pCmp_t c4 hq c48); have n2 : At s 0 r45.2 := (by subst er45; exact At.ok a2 ((pSum_ok (pOne_ok u s 5)) (adv r1.2) a2.1) c48); have n3 := n2.st h0
          refine g_aload_n h dX5_compared_53 rfl ?_
          refine g_iconst (v := nI 3) h dX5_compared_54 (by decide) ?_
          refine g_iload_n h dX5_compared_55 rfl ?_
          refine g_callVW0 h hE (m5_lays _ _ _ o a s S u r45.2 3 (lk s r1.2) (by first | assumption | omega)) 0 rfl rfl (lw_V q1594 q1596 qs56 q95 q1597) gy_X5_lays ⟨Nat.le_of_ble_eq_true rfl, Nat.le_of_ble_eq_true rfl⟩ ⟨Nat.le_of_ble_eq_true rfl, Nat.le_of_ble_eq_true rfl⟩ rfl rfl (Nat.le_of_ble_eq_true rfl) dX5_compared_56 (st' := []) rfl (fun _ e56 => ?_)
          subst e56
          refine g_iconst (v := nI 1) h dX5_compared_59 (by decide) ?_
          exact g_zretWv h hE dX5_compared_60 (by rw [e]; rfl) (paW_eq (by rw [e]))
        · skip
          show G X 0 0 (mW (xT X) o a s (paS S u r45.2)) 51 [(0, .ref o), (1, .int (lk s r1.2))] []
          have e : (pCmp (pOne u s 5) s) p = (false, r45.2) := (by subst er45; subst er1; exact pCmp_e c4 hq c48)
          refine g_iconst (v := nI 0) h dX5_compared_51 (by decide) ?_
          exact g_zretWv h hE dX5_compared_52 (by rw [e]; rfl) (paW_eq (by rw [e]))
      · skip
        show G X 0 0 (mW (xT X) o a s (paS S u r1.2)) 26 [(0, .ref o), (1, .int (lk s r1.2))] []
        refine g_iload_n h dX5_compared_26 rfl ?_
        refine g_bipush (v := nI 62) h dX5_compared_27 (by decide) ?_
        refine g_toI (y := 62) rfl ?_
        refine g_icmp_eq h 34 dX5_compared_29 (by decide) (fun c29 => ?_) (fun c29 => ?_)
        · skip
          show G X 0 0 (mW (xT X) o a s (paS S u r1.2)) 34 [(0, .ref o), (1, .int (lk s r1.2))] []
          have hq : isCmp (lk s r1.2) = true := by simp [isCmp, c17, c23, c29]
          have hl := lk_lt (by decide) hq; have a2 := a1.adv hl
          refine g_aload_n h dX5_compared_34 rfl ?_
          refine g_dup h dX5_compared_35 rfl ?_
          refine g_get h in_X5 0 rfl rfl 5 rfl q1379 rfl rfl dX5_compared_36 ?_
          show G X 0 0 (mW (xT X) o a s (paS S u r1.2)) 39 [(0, .ref o), (1, .int (lk s r1.2))] [.int (nI r1.2.1), .ref o]
          refine g_iconst (v := nI 1) h dX5_compared_39 (by decide) ?_
          refine g_iaddN h dX5_compared_40 ?_
          refine g_put (ws' := mW (xT X) o a s (paS S u (adv r1.2))) h hE.1 in_X5 tyX5 tyX5_ok nmX5 0 rfl rfl 5 rfl q1379 rfl rfl rfl rfl rfl rfl dX5_compared_41 rfl ?_
          refine g_aload_n h dX5_compared_44 rfl ?_
          refine g_callVW0 h hE (m5_sum_5 _ _ _ o a s S u (adv r1.2) h0 (by first | assumption | omega) (by first | assumption | omega)) 0 rfl rfl (lw_V q1574 q1576 qs51 q95 q1577) gy_X5_sum ⟨Nat.le_of_ble_eq_true rfl, Nat.le_of_ble_eq_true rfl⟩ ⟨Nat.le_of_ble_eq_true rfl, Nat.le_of_ble_eq_true rfl⟩ rfl rfl (Nat.le_of_ble_eq_true rfl) dX5_compared_45 (st' := [.int (bI (((pSum (pOne u s 5) s) (adv r1.2)).1))]) rfl (fun _ e45 => ?_)
          subst e45
          show G X 0 0 (mW (xT X) o a s (paS S u (((pSum (pOne u s 5) s) (adv r1.2)).2))) 48 [(0, .ref o), (1, .int (lk s r1.2))] [.int (bI (((pSum (pOne u s 5) s) (adv r1.2)).1))]
          generalize er45 : (pSum (pOne u s 5) s) (adv r1.2) = r45
          refine g_if_neB h 53 dX5_compared_48 (by decide) (fun c48 => ?_) (fun c48 => ?_)
          · skip
            show G X 0 0 (mW (xT X) o a s (paS S u r45.2)) 53 [(0, .ref o), (1, .int (lk s r1.2))] []
            have e : (pCmp (pOne u s 5) s) p = (true, lay2 3 (lk s r1.2) r45.2) := (by subst er45; subst er1; exact pCmp_t c4 hq c48); have n2 : At s 0 r45.2 := (by subst er45; exact At.ok a2 ((pSum_ok (pOne_ok u s 5)) (adv r1.2) a2.1) c48); have n3 := n2.st h0
            refine g_aload_n h dX5_compared_53 rfl ?_
            refine g_iconst (v := nI 3) h dX5_compared_54 (by decide) ?_
            refine g_iload_n h dX5_compared_55 rfl ?_
            refine g_callVW0 h hE (m5_lays _ _ _ o a s S u r45.2 3 (lk s r1.2) (by first | assumption | omega)) 0 rfl rfl (lw_V q1594 q1596 qs56 q95 q1597) gy_X5_lays ⟨Nat.le_of_ble_eq_true rfl, Nat.le_of_ble_eq_true rfl⟩ ⟨Nat.le_of_ble_eq_true rfl, Nat.le_of_ble_eq_true rfl⟩ rfl rfl (Nat.le_of_ble_eq_true rfl) dX5_compared_56 (st' := []) rfl (fun _ e56 => ?_)
            subst e56
            refine g_iconst (v := nI 1) h dX5_compared_59 (by decide) ?_
            exact g_zretWv h hE dX5_compared_60 (by rw [e]; rfl) (paW_eq (by rw [e]))
          · skip
            show G X 0 0 (mW (xT X) o a s (paS S u r45.2)) 51 [(0, .ref o), (1, .int (lk s r1.2))] []
            have e : (pCmp (pOne u s 5) s) p = (false, r45.2) := (by subst er45; subst er1; exact pCmp_e c4 hq c48)
            refine g_iconst (v := nI 0) h dX5_compared_51 (by decide) ?_
            exact g_zretWv h hE dX5_compared_52 (by rw [e]; rfl) (paW_eq (by rw [e]))
        · skip
          show G X 0 0 (mW (xT X) o a s (paS S u r1.2)) 32 [(0, .ref o), (1, .int (lk s r1.2))] []
          have hq : isCmp (lk s r1.2) = false := by simp [isCmp, c17, c23, c29]
          have e : (pCmp (pOne u s 5) s) p = (true, r1.2) := (by subst er1; exact pCmp_n c4 hq)
          refine g_iconst (v := nI 1) h dX5_compared_32 (by decide) ?_
          exact g_zretWv h hE dX5_compared_33 (by rw [e]; rfl) (paW_eq (by rw [e]))
  · skip
    show G X 0 0 (mW (xT X) o a s (paS S u r1.2)) 7 [(0, .ref o)] []
    have e : (pCmp (pOne u s 5) s) p = (false, r1.2) := (by subst er1; exact pCmp_f c4)
    refine g_iconst (v := nI 0) h dX5_compared_7 (by decide) ?_
    exact g_zretWv h hE dX5_compared_8 (by rw [e]; rfl) (paW_eq (by rw [e]))
set_option maxHeartbeats 4000000 in
set_option maxRecDepth 100000 in
theorem m5_both_5 (l : Launch) (D : va_G) (T : Nat → ClassId) (o : Nat) (a : Nat → Nat) (s : Nat → Int32) (S : Nat → Nat → Int32) (u : Nat) (p : PS) (h0 : Inv s) (h1 : u < 2) (h2 : At s 0 p) : MetW l D T yX5_both cX5_both 1 (some .boolean) 35 738 0 0 [.ref o] (mW T o a s (paS S u p)) (fun r_ w_ => r_ = some (.int (bI (((pBoth (pOne u s 5) s) p).1))) ∧ (w_ = mW T o a s (paS S u (((pBoth (pOne u s 5) s) p).2)))) := by
  refine metW (own := RX5) rfl (by decide) rfl (fun X h hl hDx hTx hnm hE => ?_)
  subst hl; subst hDx; subst hTx
  have hnp := h0.npl; have hnt := h0.ntl; have hnq := h0.nql
  have hnc := h0.ncl; have l0 := h2.1; have b0 := h2.2.1; have z0 := h2.2.2; have y0 := h2.st h0
  show G X 0 0 (mW (xT X) o a s (paS S u p)) 0 [(0, .ref o)] []
  refine g_aload_n h dX5_both_0 rfl ?_
  refine g_callVW0 h hE (m5_compared_5 _ _ _ o a s S u p h0 (by first | assumption | omega) (by first | assumption | omega)) 0 rfl rfl (lw_V q1570 q1572 qs50 q95 q1573) gy_X5_compared ⟨Nat.le_of_ble_eq_true rfl, Nat.le_of_ble_eq_true rfl⟩ ⟨Nat.le_of_ble_eq_true rfl, Nat.le_of_ble_eq_true rfl⟩ rfl rfl (Nat.le_of_ble_eq_true rfl) dX5_both_1 (st' := [.int (bI (((pCmp (pOne u s 5) s) p).1))]) rfl (fun _ e1 => ?_)
  subst e1
  show G X 0 0 (mW (xT X) o a s (paS S u (((pCmp (pOne u s 5) s) p).2))) 4 [(0, .ref o)] [.int (bI (((pCmp (pOne u s 5) s) p).1))]
  generalize er1 : (pCmp (pOne u s 5) s) p = r1
  refine g_if_neB h 9 dX5_both_4 (by decide) (fun c4 => ?_) (fun c4 => ?_)
  · skip
    show G X 0 0 (mW (xT X) o a s (paS S u r1.2)) 9 [(0, .ref o)] []
    have a0 : At s 0 r1.2 := (by subst er1; exact h2.ok ((pCmp_ok (pOne_ok u s 5)) p l0) c4); have l1 := a0.1
    have lw : ∀ q_ : (PS) × (Nat), (match q_ with | (q, m) => ((pBoth (pOne u s 5) s) p = pR (pCmp (pOne u s 5) s) s isAnd m q) → (At s 0 q) → (nC s - q.1 < m) → G X 0 0 (mW (xT X) o a s (paS S u q)) 9 [(0, .ref o)] []) := by
      refine g_rec (fun q_ => match q_ with | (q, m) => m) ?_
      rintro ⟨q, m⟩ ih_lw e0_lw e1_lw e2_lw
      skip
      have a1 := e1_lw; have l2 := a1.1; have y2 := a1.st h0
      refine g_aload_n h dX5_both_9 rfl ?_
      refine g_callVR h (m5_look _ _ _ o a s S u q h0 (by first | assumption | omega)) (fun _ q => q) 0 rfl rfl (lw_V q1586 q1588 qs54 q95 q1589) gy_X5_look ⟨Nat.le_of_ble_eq_true rfl, Nat.le_of_ble_eq_true rfl⟩ ⟨Nat.le_of_ble_eq_true rfl, Nat.le_of_ble_eq_true rfl⟩ rfl rfl (Nat.le_of_ble_eq_true rfl) dX5_both_10 ?_
      refine g_bipush (v := nI 38) h dX5_both_13 (by decide) ?_
      refine g_toI (y := 38) rfl ?_
      refine g_icmp_ne h 47 dX5_both_15 (by decide) (fun c15 => ?_) (fun c15 => ?_)
      · skip
        show G X 0 0 (mW (xT X) o a s (paS S u q)) 47 [(0, .ref o)] []
        have hq : isAnd (lk s q) = false := by simp [isAnd, c15]
        have e : (pBoth (pOne u s 5) s) p = (true, q) := e0_lw.trans (pR_n hq)
        refine g_iconst (v := nI 1) h dX5_both_47 (by decide) ?_
        exact g_zretWv h hE dX5_both_48 (by rw [e]; rfl) (paW_eq (by rw [e]))
      · skip
        show G X 0 0 (mW (xT X) o a s (paS S u q)) 18 [(0, .ref o)] []
        have hq : isAnd (lk s q) = true := by simp [isAnd, c15]
        have hl := lk_lt (by decide) hq; obtain ⟨m0, rfl⟩ : ∃ k, m = k + 1 := ⟨m - 1, by omega⟩; have a2 := a1.adv hl
        refine g_aload_n h dX5_both_18 rfl ?_
        refine g_dup h dX5_both_19 rfl ?_
        refine g_get h in_X5 0 rfl rfl 5 rfl q1379 rfl rfl dX5_both_20 ?_
        show G X 0 0 (mW (xT X) o a s (paS S u q)) 23 [(0, .ref o)] [.int (nI q.1), .ref o]
        refine g_iconst (v := nI 1) h dX5_both_23 (by decide) ?_
        refine g_iaddN h dX5_both_24 ?_
        refine g_put (ws' := mW (xT X) o a s (paS S u (adv q))) h hE.1 in_X5 tyX5 tyX5_ok nmX5 0 rfl rfl 5 rfl q1379 rfl rfl rfl rfl rfl rfl dX5_both_25 rfl ?_
        refine g_aload_n h dX5_both_28 rfl ?_
        refine g_callVW0 h hE (m5_compared_5 _ _ _ o a s S u (adv q) h0 (by first | assumption | omega) (by first | assumption | omega)) 0 rfl rfl (lw_V q1570 q1572 qs50 q95 q1573) gy_X5_compared ⟨Nat.le_of_ble_eq_true rfl, Nat.le_of_ble_eq_true rfl⟩ ⟨Nat.le_of_ble_eq_true rfl, Nat.le_of_ble_eq_true rfl⟩ rfl rfl (Nat.le_of_ble_eq_true rfl) dX5_both_29 (st' := [.int (bI (((pCmp (pOne u s 5) s) (adv q)).1))]) rfl (fun _ e29 => ?_)
        subst e29
        show G X 0 0 (mW (xT X) o a s (paS S u (((pCmp (pOne u s 5) s) (adv q)).2))) 32 [(0, .ref o)] [.int (bI (((pCmp (pOne u s 5) s) (adv q)).1))]
        generalize er29 : (pCmp (pOne u s 5) s) (adv q) = r29
        refine g_if_neB h 37 dX5_both_32 (by decide) (fun c32 => ?_) (fun c32 => ?_)
        · skip
          show G X 0 0 (mW (xT X) o a s (paS S u r29.2)) 37 [(0, .ref o)] []
          have n0 : OKp s q (true, lay2 3 (lk s q) r29.2) := (by subst er29; exact adv_ok (pCmp_ok (pOne_ok u s 5)) 3 (lk s q) hl c32); have n1 := At.ok a1 n0 rfl; have n2 : At s 0 r29.2 := (by subst er29; exact At.ok a2 ((pCmp_ok (pOne_ok u s 5)) (adv q) a2.1) c32); have n3 := n2.st h0
          refine g_aload_n h dX5_both_37 rfl ?_
          refine g_iconst (v := nI 3) h dX5_both_38 (by decide) ?_
          refine g_bipush (v := nI 38) h dX5_both_39 (by decide) ?_
          refine g_toI (y := lk s q) c15.symm ?_
          refine g_callVW0 h hE (m5_lays _ _ _ o a s S u r29.2 3 (lk s q) (by first | assumption | omega)) 0 rfl rfl (lw_V q1594 q1596 qs56 q95 q1597) gy_X5_lays ⟨Nat.le_of_ble_eq_true rfl, Nat.le_of_ble_eq_true rfl⟩ ⟨Nat.le_of_ble_eq_true rfl, Nat.le_of_ble_eq_true rfl⟩ rfl rfl (Nat.le_of_ble_eq_true rfl) dX5_both_41 (st' := []) rfl (fun _ e41 => ?_)
          subst e41
          refine g_goto h 9 dX5_both_44 (by decide) ?_
          exact ih_lw (lay2 3 (lk s q) r29.2, m0) (by show m0 < m0 + 1; omega) (by subst er29; exact e0_lw.trans (pR_t hq c32)) n1 (by subst er29; exact mu_ok ((pCmp_ok (pOne_ok u s 5)) (adv q) a2.1) hl e2_lw)
        · skip
          show G X 0 0 (mW (xT X) o a s (paS S u r29.2)) 35 [(0, .ref o)] []
          have e : (pBoth (pOne u s 5) s) p = (false, r29.2) := (by subst er29; exact e0_lw.trans (pR_f hq c32))
          refine g_iconst (v := nI 0) h dX5_both_35 (by decide) ?_
          exact g_zretWv h hE dX5_both_36 (by rw [e]; rfl) (paW_eq (by rw [e]))
    exact lw (r1.2, 61) (by subst er1; exact pBoth_t c4) a0 (by omega)
  · skip
    show G X 0 0 (mW (xT X) o a s (paS S u r1.2)) 7 [(0, .ref o)] []
    have e : (pBoth (pOne u s 5) s) p = (false, r1.2) := (by subst er1; exact pBoth_f c4)
    refine g_iconst (v := nI 0) h dX5_both_7 (by decide) ?_
    exact g_zretWv h hE dX5_both_8 (by rw [e]; rfl) (paW_eq (by rw [e]))
set_option maxHeartbeats 4000000 in
set_option maxRecDepth 100000 in
theorem m5_whole_5 (l : Launch) (D : va_G) (T : Nat → ClassId) (o : Nat) (a : Nat → Nat) (s : Nat → Int32) (S : Nat → Nat → Int32) (u : Nat) (p : PS) (h0 : Inv s) (h1 : u < 2) (h2 : At s 0 p) : MetW l D T yX5_whole cX5_whole 1 (some .boolean) 36 758 0 0 [.ref o] (mW T o a s (paS S u p)) (fun r_ w_ => r_ = some (.int (bI (((pWhole (pOne u s 5) s) p).1))) ∧ (w_ = mW T o a s (paS S u (((pWhole (pOne u s 5) s) p).2)))) := by
  refine metW (own := RX5) rfl (by decide) rfl (fun X h hl hDx hTx hnm hE => ?_)
  subst hl; subst hDx; subst hTx
  have hnp := h0.npl; have hnt := h0.ntl; have hnq := h0.nql
  have hnc := h0.ncl; have l0 := h2.1; have b0 := h2.2.1; have z0 := h2.2.2; have y0 := h2.st h0
  show G X 0 0 (mW (xT X) o a s (paS S u p)) 0 [(0, .ref o)] []
  refine g_aload_n h dX5_whole_0 rfl ?_
  refine g_callVW0 h hE (m5_both_5 _ _ _ o a s S u p h0 (by first | assumption | omega) (by first | assumption | omega)) 0 rfl rfl (lw_V q1566 q1568 qs49 q95 q1569) gy_X5_both ⟨Nat.le_of_ble_eq_true rfl, Nat.le_of_ble_eq_true rfl⟩ ⟨Nat.le_of_ble_eq_true rfl, Nat.le_of_ble_eq_true rfl⟩ rfl rfl (Nat.le_of_ble_eq_true rfl) dX5_whole_1 (st' := [.int (bI (((pBoth (pOne u s 5) s) p).1))]) rfl (fun _ e1 => ?_)
  subst e1
  show G X 0 0 (mW (xT X) o a s (paS S u (((pBoth (pOne u s 5) s) p).2))) 4 [(0, .ref o)] [.int (bI (((pBoth (pOne u s 5) s) p).1))]
  generalize er1 : (pBoth (pOne u s 5) s) p = r1
  refine g_if_neB h 9 dX5_whole_4 (by decide) (fun c4 => ?_) (fun c4 => ?_)
  · skip
    show G X 0 0 (mW (xT X) o a s (paS S u r1.2)) 9 [(0, .ref o)] []
    have a0 : At s 0 r1.2 := (by subst er1; exact h2.ok ((pBoth_ok (pOne_ok u s 5)) p l0) c4); have l1 := a0.1
    have lw : ∀ q_ : (PS) × (Nat), (match q_ with | (q, m) => ((pWhole (pOne u s 5) s) p = pR (pBoth (pOne u s 5) s) s isOr m q) → (At s 0 q) → (nC s - q.1 < m) → G X 0 0 (mW (xT X) o a s (paS S u q)) 9 [(0, .ref o)] []) := by
      refine g_rec (fun q_ => match q_ with | (q, m) => m) ?_
      rintro ⟨q, m⟩ ih_lw e0_lw e1_lw e2_lw
      skip
      have a1 := e1_lw; have l2 := a1.1; have y2 := a1.st h0
      refine g_aload_n h dX5_whole_9 rfl ?_
      refine g_callVR h (m5_look _ _ _ o a s S u q h0 (by first | assumption | omega)) (fun _ q => q) 0 rfl rfl (lw_V q1586 q1588 qs54 q95 q1589) gy_X5_look ⟨Nat.le_of_ble_eq_true rfl, Nat.le_of_ble_eq_true rfl⟩ ⟨Nat.le_of_ble_eq_true rfl, Nat.le_of_ble_eq_true rfl⟩ rfl rfl (Nat.le_of_ble_eq_true rfl) dX5_whole_10 ?_
      refine g_bipush (v := nI 124) h dX5_whole_13 (by decide) ?_
      refine g_toI (y := 124) rfl ?_
      refine g_icmp_ne h 47 dX5_whole_15 (by decide) (fun c15 => ?_) (fun c15 => ?_)
      · skip
        show G X 0 0 (mW (xT X) o a s (paS S u q)) 47 [(0, .ref o)] []
        have hq : isOr (lk s q) = false := by simp [isOr, c15]
        have e : (pWhole (pOne u s 5) s) p = (true, q) := e0_lw.trans (pR_n hq)
        refine g_iconst (v := nI 1) h dX5_whole_47 (by decide) ?_
        exact g_zretWv h hE dX5_whole_48 (by rw [e]; rfl) (paW_eq (by rw [e]))
      · skip
        show G X 0 0 (mW (xT X) o a s (paS S u q)) 18 [(0, .ref o)] []
        have hq : isOr (lk s q) = true := by simp [isOr, c15]
        have hl := lk_lt (by decide) hq; obtain ⟨m0, rfl⟩ : ∃ k, m = k + 1 := ⟨m - 1, by omega⟩; have a2 := a1.adv hl
        refine g_aload_n h dX5_whole_18 rfl ?_
        refine g_dup h dX5_whole_19 rfl ?_
        refine g_get h in_X5 0 rfl rfl 5 rfl q1379 rfl rfl dX5_whole_20 ?_
        show G X 0 0 (mW (xT X) o a s (paS S u q)) 23 [(0, .ref o)] [.int (nI q.1), .ref o]
        refine g_iconst (v := nI 1) h dX5_whole_23 (by decide) ?_
        refine g_iaddN h dX5_whole_24 ?_
        refine g_put (ws' := mW (xT X) o a s (paS S u (adv q))) h hE.1 in_X5 tyX5 tyX5_ok nmX5 0 rfl rfl 5 rfl q1379 rfl rfl rfl rfl rfl rfl dX5_whole_25 rfl ?_
        refine g_aload_n h dX5_whole_28 rfl ?_
        refine g_callVW0 h hE (m5_both_5 _ _ _ o a s S u (adv q) h0 (by first | assumption | omega) (by first | assumption | omega)) 0 rfl rfl (lw_V q1566 q1568 qs49 q95 q1569) gy_X5_both ⟨Nat.le_of_ble_eq_true rfl, Nat.le_of_ble_eq_true rfl⟩ ⟨Nat.le_of_ble_eq_true rfl, Nat.le_of_ble_eq_true rfl⟩ rfl rfl (Nat.le_of_ble_eq_true rfl) dX5_whole_29 (st' := [.int (bI (((pBoth (pOne u s 5) s) (adv q)).1))]) rfl (fun _ e29 => ?_)
        subst e29
        show G X 0 0 (mW (xT X) o a s (paS S u (((pBoth (pOne u s 5) s) (adv q)).2))) 32 [(0, .ref o)] [.int (bI (((pBoth (pOne u s 5) s) (adv q)).1))]
        generalize er29 : (pBoth (pOne u s 5) s) (adv q) = r29
        refine g_if_neB h 37 dX5_whole_32 (by decide) (fun c32 => ?_) (fun c32 => ?_)
        · skip
          show G X 0 0 (mW (xT X) o a s (paS S u r29.2)) 37 [(0, .ref o)] []
          have n0 : OKp s q (true, lay2 3 (lk s q) r29.2) := (by subst er29; exact adv_ok (pBoth_ok (pOne_ok u s 5)) 3 (lk s q) hl c32); have n1 := At.ok a1 n0 rfl; have n2 : At s 0 r29.2 := (by subst er29; exact At.ok a2 ((pBoth_ok (pOne_ok u s 5)) (adv q) a2.1) c32); have n3 := n2.st h0
          refine g_aload_n h dX5_whole_37 rfl ?_
          refine g_iconst (v := nI 3) h dX5_whole_38 (by decide) ?_
          refine g_bipush (v := nI 124) h dX5_whole_39 (by decide) ?_
          refine g_toI (y := lk s q) c15.symm ?_
          refine g_callVW0 h hE (m5_lays _ _ _ o a s S u r29.2 3 (lk s q) (by first | assumption | omega)) 0 rfl rfl (lw_V q1594 q1596 qs56 q95 q1597) gy_X5_lays ⟨Nat.le_of_ble_eq_true rfl, Nat.le_of_ble_eq_true rfl⟩ ⟨Nat.le_of_ble_eq_true rfl, Nat.le_of_ble_eq_true rfl⟩ rfl rfl (Nat.le_of_ble_eq_true rfl) dX5_whole_41 (st' := []) rfl (fun _ e41 => ?_)
          subst e41
          refine g_goto h 9 dX5_whole_44 (by decide) ?_
          exact ih_lw (lay2 3 (lk s q) r29.2, m0) (by show m0 < m0 + 1; omega) (by subst er29; exact e0_lw.trans (pR_t hq c32)) n1 (by subst er29; exact mu_ok ((pBoth_ok (pOne_ok u s 5)) (adv q) a2.1) hl e2_lw)
        · skip
          show G X 0 0 (mW (xT X) o a s (paS S u r29.2)) 35 [(0, .ref o)] []
          have e : (pWhole (pOne u s 5) s) p = (false, r29.2) := (by subst er29; exact e0_lw.trans (pR_f hq c32))
          refine g_iconst (v := nI 0) h dX5_whole_35 (by decide) ?_
          exact g_zretWv h hE dX5_whole_36 (by rw [e]; rfl) (paW_eq (by rw [e]))
    exact lw (r1.2, 61) (by subst er1; exact pWhole_t c4) a0 (by omega)
  · skip
    show G X 0 0 (mW (xT X) o a s (paS S u r1.2)) 7 [(0, .ref o)] []
    have e : (pWhole (pOne u s 5) s) p = (false, r1.2) := (by subst er1; exact pWhole_f c4)
    refine g_iconst (v := nI 0) h dX5_whole_7 (by decide) ?_
    exact g_zretWv h hE dX5_whole_8 (by rw [e]; rfl) (paW_eq (by rw [e]))
