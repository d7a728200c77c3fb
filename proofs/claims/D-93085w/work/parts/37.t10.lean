
theorem gy_X5_isSheet : gY yX5_isSheet RX5 1 := ⟨rfl, by decide +kernel, by decide +kernel, by decide +kernel⟩
theorem gy_X5_sheet : gY yX5_sheet RX5 3 := ⟨rfl, by decide +kernel, by decide +kernel, by decide +kernel⟩
theorem gy_X5_put : gY yX5_put RX5 3 := ⟨rfl, by decide +kernel, by decide +kernel, by decide +kernel⟩
theorem gy_X5_move : gY yX5_move RX5 5 := ⟨rfl, by decide +kernel, by decide +kernel, by decide +kernel⟩
set_option maxHeartbeats 4000000 in
set_option maxRecDepth 100000 in
theorem m5_isSheet (l : Launch) (D : va_G) (T : Nat → ClassId) (x : Int32) : MetR l D T yX5_isSheet cX5_isSheet 1 (some .boolean) 1 22 [.int x] (([] : va_W)) (fun r_ => r_ = some (.int (bI (isSh x)))) := by
  refine metR (own := RX5) rfl (by decide) rfl (fun X h hl hDx hTx hE => ?_)
  subst hl; subst hDx; subst hTx
  show G X 0 0 (([] : va_W)) 0 [(0, .int x)] []
  refine g_iload_n h dX5_isSheet_0 rfl ?_
  refine g_iconst (v := nI 0) h dX5_isSheet_1 (by decide) ?_
  refine g_iconst (v := nI 3) h dX5_isSheet_2 (by decide) ?_
  refine g_callSR h (m5_in _ _ _ x 0 3 ) (fun _ q => nomatch q) (lw_S q1439 q1440 q95 q1441) gy_X5_in ⟨Nat.le_of_ble_eq_true rfl, Nat.le_of_ble_eq_true rfl⟩ ⟨Nat.le_of_ble_eq_true rfl, Nat.le_of_ble_eq_true rfl⟩ rfl rfl (Nat.le_of_ble_eq_true rfl) dX5_isSheet_3 ?_
  exact g_zretRv h hE dX5_isSheet_6 (by first | rfl | exact congrArg bI (by first | (simp []; done) | (simp_all []; done)))
set_option maxHeartbeats 4000000 in
set_option maxRecDepth 100000 in
theorem m5_sheet (l : Launch) (D : va_G) (T : Nat → ClassId) (o : Nat) (a : Nat → Nat) (s : Nat → Int32) (S : Nat → Nat → Int32) (x : Int32) (b : Int32) (n : Int32) : MetW l D T yX5_sheet cX5_sheet 5 (some .int) 2 42 0 0 [.ref o, .int x, .int b, .int n] (mW T o a s S) (fun r_ w_ => r_ = some (.int ((o_sheet (hS S) (S 3) x b n).1)) ∧ (w_ = mW T o a s (shW S (o_sheet (hS S) (S 3) x b n).2.1 (o_sheet (hS S) (S 3) x b n).2.2))) := by
  refine metW (own := RX5) rfl (by decide) rfl (fun X h hl hDx hTx hnm hE => ?_)
  subst hl; subst hDx; subst hTx
  show G X 0 0 (mW (xT X) o a s S) 0 [(0, .ref o), (1, .int x), (2, .int b), (3, .int n)] []
  refine g_iload_n h dX5_sheet_0 rfl ?_
  refine g_callSR h (m5_isSheet _ _ _ x ) (fun _ q => nomatch q) (lw_S q1808 q1809 q95 q1810) gy_X5_isSheet ⟨Nat.le_of_ble_eq_true rfl, Nat.le_of_ble_eq_true rfl⟩ ⟨Nat.le_of_ble_eq_true rfl, Nat.le_of_ble_eq_true rfl⟩ rfl rfl (Nat.le_of_ble_eq_true rfl) dX5_sheet_1 ?_
  refine g_if_eqB h 29 dX5_sheet_4 (by decide) (fun c4 => ?_) (fun c4 => ?_)
  · skip
    show G X 0 0 (mW (xT X) o a s S) 29 [(0, .ref o), (1, .int x), (2, .int b), (3, .int n)] []
    refine g_aload_n h dX5_sheet_29 rfl ?_
    refine g_iconst (v := nI 1) h dX5_sheet_30 (by decide) ?_
    refine g_callVW0 h hE (m5_error _ _ _ o a s S 1 (by first | assumption | omega)) 0 rfl rfl (lw_V q1446 q1448 qs35 q95 q1449) gy_X5_error ⟨Nat.le_of_ble_eq_true rfl, Nat.le_of_ble_eq_true rfl⟩ ⟨Nat.le_of_ble_eq_true rfl, Nat.le_of_ble_eq_true rfl⟩ rfl rfl (Nat.le_of_ble_eq_true rfl) dX5_sheet_31 (st' := [.int (LOW - nI 1)]) rfl (fun _ e31 => ?_)
    subst e31
    exact g_iretWv h hE dX5_sheet_34 (by first | (simp [o_sheet, bitOK, shW, sU_self, sU3, sU3a, hS, erH, er, LOW, sU_self, nI_pred, nv_nI, c4]; done) | (simp_all [o_sheet, bitOK, shW, sU_self, sU3, sU3a, hS, erH, er, LOW, sU_self, nI_pred, nv_nI, c4]; done)) (mW_eq rfl (by first | (simp [o_sheet, bitOK, shW, sU_self, sU3, sU3a, hS, erH, er, LOW, sU_self, nI_pred, nv_nI, c4]; done) | (simp_all [o_sheet, bitOK, shW, sU_self, sU3, sU3a, hS, erH, er, LOW, sU_self, nI_pred, nv_nI, c4]; done)))
  · skip
    show G X 0 0 (mW (xT X) o a s S) 7 [(0, .ref o), (1, .int x), (2, .int b), (3, .int n)] []
    obtain ⟨xn, hx, rfl⟩ := inB_of (n := 3) (by decide) c4
    have vx : nv (nI xn) = xn := nv_nI (by omega)
    refine g_iload_n h dX5_sheet_7 rfl ?_
    refine g_if_eq h 35 dX5_sheet_8 (by decide) (fun c8 => ?_) (fun c8 => ?_)
    · skip
      show G X 0 0 (mW (xT X) o a s S) 35 [(0, .ref o), (1, .int (nI xn)), (2, .int b), (3, .int n)] []
      refine g_iload_n h dX5_sheet_35 rfl ?_
      refine g_if_eq h 49 dX5_sheet_36 (by decide) (fun c36 => ?_) (fun c36 => ?_)
      · skip
        show G X 0 0 (mW (xT X) o a s S) 49 [(0, .ref o), (1, .int (nI xn)), (2, .int b), (3, .int n)] []
        refine g_iload_n h dX5_sheet_49 rfl ?_
        refine g_if_eq h 65 dX5_sheet_50 (by decide) (fun c50 => ?_) (fun c50 => ?_)
        · skip
          show G X 0 0 (mW (xT X) o a s S) 65 [(0, .ref o), (1, .int (nI xn)), (2, .int b), (3, .int n)] []
          refine g_aload_n h dX5_sheet_65 rfl ?_
          refine g_get h in_X5 0 rfl rfl 16 rfl q1390 rfl rfl dX5_sheet_66 ?_
          refine g_iload_n h dX5_sheet_69 rfl ?_
          refine g_iload_n h dX5_sheet_70 rfl ?_
          refine g_iast (ws' := mW (xT X) o a s (sU S 8 (upd (S 8) xn b))) h hE.1 9 rfl (by first | assumption | omega) (by decide) dX5_sheet_71 rfl ?_
          refine g_aload_n h dX5_sheet_72 rfl ?_
          refine g_get h in_X5 0 rfl rfl 17 rfl q1391 rfl rfl dX5_sheet_73 ?_
          refine g_iload_n h dX5_sheet_76 rfl ?_
          refine g_iload_n h dX5_sheet_77 rfl ?_
          refine g_if_ne h 85 dX5_sheet_78 (by decide) (fun c78 => ?_) (fun c78 => ?_)
          · skip
            show G X 0 0 (mW (xT X) o a s (sU S 8 (upd (S 8) xn b))) 85 [(0, .ref o), (1, .int (nI xn)), (2, .int b), (3, .int n)] [.int (nI xn), .ref (a 9)]
            exact absurd c50 c78
          · skip
            show G X 0 0 (mW (xT X) o a s (sU S 8 (upd (S 8) xn b))) 81 [(0, .ref o), (1, .int (nI xn)), (2, .int b), (3, .int n)] [.int (nI xn), .ref (a 9)]
            refine g_iconst (v := nI 0) h dX5_sheet_81 (by decide) ?_
            refine g_goto h 86 dX5_sheet_82 (by decide) ?_
            refine g_iast (ws' := mW (xT X) o a s (sU (sU S 8 (upd (S 8) xn b)) 9 (upd (S 9) xn 0))) h hE.1 10 rfl (by first | assumption | omega) (by decide) dX5_sheet_86 rfl ?_
            refine g_iconst (v := nI 0) h dX5_sheet_87 (by decide) ?_
            refine g_istore (lv' := [(0, .ref o), (1, .int (nI xn)), (2, .int b), (3, .int n), (4, .int (nI 0))]) h dX5_sheet_88 (by decide) rfl ?_
            have lp : ∀ i, i ≤ 24 → ∀ (_u : Unit) (Q : Nat → Int32), (Q = fo i (zerF xn) (S 10)) → G X 0 0 (mW (xT X) o a s (sU (sU (sU S 8 (upd (S 8) xn b)) 9 (upd (S 9) xn 0)) 10 Q)) 90 [(0, .ref o), (1, .int (nI xn)), (2, .int b), (3, .int n), (4, .int (nI i))] [] := by
              refine g_ind (N := 24) (fun i hi_i ih_lp => ?_)
              intro _u Q e0_lp
              refine g_iload h dX5_sheet_90 rfl ?_
              refine g_bipush (v := nI 24) h dX5_sheet_92 (by decide) ?_
              refine g_icmp_geN h 116 dX5_sheet_94 (by decide) (by first | omega | decide) (by first | omega | decide) (fun c94 => ?_) (fun c94 => ?_)
              · skip
                show G X 0 0 (mW (xT X) o a s (sU (sU (sU S 8 (upd (S 8) xn b)) 9 (upd (S 9) xn 0)) 10 Q)) 116 [(0, .ref o), (1, .int (nI xn)), (2, .int b), (3, .int n), (4, .int (nI i))] []
                refine g_iconst (v := nI 1) h dX5_sheet_116 (by decide) ?_
                refine g_toI (y := 1) rfl ?_
                exact g_iretWv h hE dX5_sheet_117 (by first | (simp [o_sheet, bitOK, shW, sU_self, sU3, sU3a, hS, erH, er, LOW, sU_self, nI_pred, nv_nI, c4, vx, c8, c36, c50, c78, c94]; done) | (simp_all [o_sheet, bitOK, shW, sU_self, sU3, sU3a, hS, erH, er, LOW, sU_self, nI_pred, nv_nI, c4, vx, c8, c36, c50, c78, c94]; done)) (mW_eq rfl (by rw [e0_lp, show i = 24 by omega]; first | (simp [o_sheet, bitOK, shW, sU_self, sU3, sU3a, hS, erH, er, LOW, sU_self, nI_pred, nv_nI, c4, vx, c8, c36, c50, c78, c94]; done) | (simp_all [o_sheet, bitOK, shW, sU_self, sU3, sU3a, hS, erH, er, LOW, sU_self, nI_pred, nv_nI, c4, vx, c8, c36, c50, c78, c94]; done)))
              · skip
                show G X 0 0 (mW (xT X) o a s (sU (sU (sU S 8 (upd (S 8) xn b)) 9 (upd (S 9) xn 0)) 10 Q)) 97 [(0, .ref o), (1, .int (nI xn)), (2, .int b), (3, .int n), (4, .int (nI i))] []
                refine g_aload_n h dX5_sheet_97 rfl ?_
                refine g_get h in_X5 0 rfl rfl 18 rfl q1392 rfl rfl dX5_sheet_98 ?_
                refine g_bipush (v := nI 24) h dX5_sheet_101 (by decide) ?_
                refine g_iload_n h dX5_sheet_103 rfl ?_
                refine g_imulN h dX5_sheet_104 ?_
                refine g_iload h dX5_sheet_105 rfl ?_
                refine g_iaddN h dX5_sheet_107 ?_
                refine g_iconst (v := nI 0) h dX5_sheet_108 (by decide) ?_
                refine g_iast (ws' := mW (xT X) o a s (sU (sU (sU S 8 (upd (S 8) xn b)) 9 (upd (S 9) xn 0)) 10 (upd Q (24 * xn + i) 0))) h hE.1 11 rfl (by first | assumption | omega) (by decide) dX5_sheet_109 rfl ?_
                refine g_iincN (b := 1) (lv' := [(0, .ref o), (1, .int (nI xn)), (2, .int b), (3, .int n), (4, .int (nI (i + 1)))]) h dX5_sheet_110 rfl rfl (by decide) rfl ?_
                refine g_goto h 90 dX5_sheet_113 (by decide) ?_
                exact ih_lp (i + 1) (by omega) (by omega) () (upd Q (24 * xn + i) 0) (by rw [fo_s, ← e0_lp]; rfl)
            exact lp (0) (by omega) () (S 10) rfl
        · skip
          show G X 0 0 (mW (xT X) o a s S) 53 [(0, .ref o), (1, .int (nI xn)), (2, .int b), (3, .int n)] []
          exact absurd c36 c50
      · skip
        show G X 0 0 (mW (xT X) o a s S) 39 [(0, .ref o), (1, .int (nI xn)), (2, .int b), (3, .int n)] []
        exact absurd c8 c36
    · skip
      show G X 0 0 (mW (xT X) o a s S) 11 [(0, .ref o), (1, .int (nI xn)), (2, .int b), (3, .int n)] []
      refine g_iload_n h dX5_sheet_11 rfl ?_
      refine g_bipush (v := nI 8) h dX5_sheet_12 (by decide) ?_
      refine g_toI (y := 8) rfl ?_
      refine g_icmp_eq h 35 dX5_sheet_14 (by decide) (fun c14 => ?_) (fun c14 => ?_)
      · skip
        show G X 0 0 (mW (xT X) o a s S) 35 [(0, .ref o), (1, .int (nI xn)), (2, .int b), (3, .int n)] []
        refine g_iload_n h dX5_sheet_35 rfl ?_
        refine g_if_eq h 49 dX5_sheet_36 (by decide) (fun c36 => ?_) (fun c36 => ?_)
        · skip
          show G X 0 0 (mW (xT X) o a s S) 49 [(0, .ref o), (1, .int (nI xn)), (2, .int b), (3, .int n)] []
          exact absurd c36 c8
        · skip
          show G X 0 0 (mW (xT X) o a s S) 39 [(0, .ref o), (1, .int (nI xn)), (2, .int b), (3, .int n)] []
          refine g_iload_n h dX5_sheet_39 rfl ?_
          refine g_if_geC h 49 dX5_sheet_40 (by decide) (fun c40 => ?_) (fun c40 => ?_)
          · skip
            show G X 0 0 (mW (xT X) o a s S) 49 [(0, .ref o), (1, .int (nI xn)), (2, .int b), (3, .int n)] []
            refine g_iload_n h dX5_sheet_49 rfl ?_
            refine g_if_eq h 65 dX5_sheet_50 (by decide) (fun c50 => ?_) (fun c50 => ?_)
            · skip
              show G X 0 0 (mW (xT X) o a s S) 65 [(0, .ref o), (1, .int (nI xn)), (2, .int b), (3, .int n)] []
              exact absurd c50 c36
            · skip
              show G X 0 0 (mW (xT X) o a s S) 53 [(0, .ref o), (1, .int (nI xn)), (2, .int b), (3, .int n)] []
              refine g_iload_n h dX5_sheet_53 rfl ?_
              refine g_bipush (v := nI 24) h dX5_sheet_54 (by decide) ?_
              refine g_toI (y := 24) rfl ?_
              refine g_icmp_leC h 65 dX5_sheet_56 (by decide) (fun c56 => ?_) (fun c56 => ?_)
              · skip
                show G X 0 0 (mW (xT X) o a s S) 65 [(0, .ref o), (1, .int (nI xn)), (2, .int b), (3, .int n)] []
                refine g_aload_n h dX5_sheet_65 rfl ?_
                refine g_get h in_X5 0 rfl rfl 16 rfl q1390 rfl rfl dX5_sheet_66 ?_
                refine g_iload_n h dX5_sheet_69 rfl ?_
                refine g_iload_n h dX5_sheet_70 rfl ?_
                refine g_iast (ws' := mW (xT X) o a s (sU S 8 (upd (S 8) xn b))) h hE.1 9 rfl (by first | assumption | omega) (by decide) dX5_sheet_71 rfl ?_
                refine g_aload_n h dX5_sheet_72 rfl ?_
                refine g_get h in_X5 0 rfl rfl 17 rfl q1391 rfl rfl dX5_sheet_73 ?_
                refine g_iload_n h dX5_sheet_76 rfl ?_
                refine g_iload_n h dX5_sheet_77 rfl ?_
                refine g_if_ne h 85 dX5_sheet_78 (by decide) (fun c78 => ?_) (fun c78 => ?_)
                · skip
                  show G X 0 0 (mW (xT X) o a s (sU S 8 (upd (S 8) xn b))) 85 [(0, .ref o), (1, .int (nI xn)), (2, .int b), (3, .int n)] [.int (nI xn), .ref (a 9)]
                  refine g_iload_n h dX5_sheet_85 rfl ?_
                  refine g_iast (ws' := mW (xT X) o a s (sU (sU S 8 (upd (S 8) xn b)) 9 (upd (S 9) xn n))) h hE.1 10 rfl (by first | assumption | omega) (by decide) dX5_sheet_86 rfl ?_
                  refine g_iconst (v := nI 0) h dX5_sheet_87 (by decide) ?_
                  refine g_istore (lv' := [(0, .ref o), (1, .int (nI xn)), (2, .int b), (3, .int n), (4, .int (nI 0))]) h dX5_sheet_88 (by decide) rfl ?_
                  have lp : ∀ i, i ≤ 24 → ∀ (_u : Unit) (Q : Nat → Int32), (Q = fo i (zerF xn) (S 10)) → G X 0 0 (mW (xT X) o a s (sU (sU (sU S 8 (upd (S 8) xn b)) 9 (upd (S 9) xn n)) 10 Q)) 90 [(0, .ref o), (1, .int (nI xn)), (2, .int b), (3, .int n), (4, .int (nI i))] [] := by
                    refine g_ind (N := 24) (fun i hi_i ih_lp => ?_)
                    intro _u Q e0_lp
                    refine g_iload h dX5_sheet_90 rfl ?_
                    refine g_bipush (v := nI 24) h dX5_sheet_92 (by decide) ?_
                    refine g_icmp_geN h 116 dX5_sheet_94 (by decide) (by first | omega | decide) (by first | omega | decide) (fun c94 => ?_) (fun c94 => ?_)
                    · skip
                      show G X 0 0 (mW (xT X) o a s (sU (sU (sU S 8 (upd (S 8) xn b)) 9 (upd (S 9) xn n)) 10 Q)) 116 [(0, .ref o), (1, .int (nI xn)), (2, .int b), (3, .int n), (4, .int (nI i))] []
                      refine g_iconst (v := nI 1) h dX5_sheet_116 (by decide) ?_
                      refine g_toI (y := 1) rfl ?_
                      exact g_iretWv h hE dX5_sheet_117 (by first | (simp [o_sheet, bitOK, shW, sU_self, sU3, sU3a, hS, erH, er, LOW, sU_self, nI_pred, nv_nI, c4, vx, c8, c14, c36, c40, c50, c56, c78, c94]; done) | (simp_all [o_sheet, bitOK, shW, sU_self, sU3, sU3a, hS, erH, er, LOW, sU_self, nI_pred, nv_nI, c4, vx, c8, c14, c36, c40, c50, c56, c78, c94]; done)) (mW_eq rfl (by rw [e0_lp, show i = 24 by omega]; first | (simp [o_sheet, bitOK, shW, sU_self, sU3, sU3a, hS, erH, er, LOW, sU_self, nI_pred, nv_nI, c4, vx, c8, c14, c36, c40, c50, c56, c78, c94]; done) | (simp_all [o_sheet, bitOK, shW, sU_self, sU3, sU3a, hS, erH, er, LOW, sU_self, nI_pred, nv_nI, c4, vx, c8, c14, c36, c40, c50, c56, c78, c94]; done)))
                    · skip
                      show G X 0 0 (mW (xT X) o a s (sU (sU (sU S 8 (upd (S 8) xn b)) 9 (upd (S 9) xn n)) 10 Q)) 97 [(0, .ref o), (1, .int (nI xn)), (2, .int b), (3, .int n), (4, .int (nI i))] []
                      refine g_aload_n h dX5_sheet_97 rfl ?_
                      refine g_get h in_X5 0 rfl rfl 18 rfl q1392 rfl rfl dX5_sheet_98 ?_
                      refine g_bipush (v := nI 24) h dX5_sheet_101 (by decide) ?_
                      refine g_iload_n h dX5_sheet_103 rfl ?_
                      refine g_imulN h dX5_sheet_104 ?_
                      refine g_iload h dX5_sheet_105 rfl ?_
                      refine g_iaddN h dX5_sheet_107 ?_
                      refine g_iconst (v := nI 0) h dX5_sheet_108 (by decide) ?_
                      refine g_iast (ws' := mW (xT X) o a s (sU (sU (sU S 8 (upd (S 8) xn b)) 9 (upd (S 9) xn n)) 10 (upd Q (24 * xn + i) 0))) h hE.1 11 rfl (by first | assumption | omega) (by decide) dX5_sheet_109 rfl ?_
                      refine g_iincN (b := 1) (lv' := [(0, .ref o), (1, .int (nI xn)), (2, .int b), (3, .int n), (4, .int (nI (i + 1)))]) h dX5_sheet_110 rfl rfl (by decide) rfl ?_
                      refine g_goto h 90 dX5_sheet_113 (by decide) ?_
                      exact ih_lp (i + 1) (by omega) (by omega) () (upd Q (24 * xn + i) 0) (by rw [fo_s, ← e0_lp]; rfl)
                  exact lp (0) (by omega) () (S 10) rfl
                · skip
                  show G X 0 0 (mW (xT X) o a s (sU S 8 (upd (S 8) xn b))) 81 [(0, .ref o), (1, .int (nI xn)), (2, .int b), (3, .int n)] [.int (nI xn), .ref (a 9)]
                  exact absurd c78 c50
              · skip
                show G X 0 0 (mW (xT X) o a s S) 59 [(0, .ref o), (1, .int (nI xn)), (2, .int b), (3, .int n)] []
                refine g_aload_n h dX5_sheet_59 rfl ?_
                refine g_iconst (v := nI 1) h dX5_sheet_60 (by decide) ?_
                refine g_callVW0 h hE (m5_error _ _ _ o a s S 1 (by first | assumption | omega)) 0 rfl rfl (lw_V q1446 q1448 qs35 q95 q1449) gy_X5_error ⟨Nat.le_of_ble_eq_true rfl, Nat.le_of_ble_eq_true rfl⟩ ⟨Nat.le_of_ble_eq_true rfl, Nat.le_of_ble_eq_true rfl⟩ rfl rfl (Nat.le_of_ble_eq_true rfl) dX5_sheet_61 (st' := [.int (LOW - nI 1)]) rfl (fun _ e61 => ?_)
                subst e61
                exact g_iretWv h hE dX5_sheet_64 (by first | (simp [o_sheet, bitOK, shW, sU_self, sU3, sU3a, hS, erH, er, LOW, sU_self, nI_pred, nv_nI, c4, vx, c8, c14, c36, c40, c50, c56]; done) | (simp_all [o_sheet, bitOK, shW, sU_self, sU3, sU3a, hS, erH, er, LOW, sU_self, nI_pred, nv_nI, c4, vx, c8, c14, c36, c40, c50, c56]; done)) (mW_eq rfl (by first | (simp [o_sheet, bitOK, shW, sU_self, sU3, sU3a, hS, erH, er, LOW, sU_self, nI_pred, nv_nI, c4, vx, c8, c14, c36, c40, c50, c56]; done) | (simp_all [o_sheet, bitOK, shW, sU_self, sU3, sU3a, hS, erH, er, LOW, sU_self, nI_pred, nv_nI, c4, vx, c8, c14, c36, c40, c50, c56]; done)))
          · skip
            show G X 0 0 (mW (xT X) o a s S) 43 [(0, .ref o), (1, .int (nI xn)), (2, .int b), (3, .int n)] []
            refine g_aload_n h dX5_sheet_43 rfl ?_
            refine g_iconst (v := nI 3) h dX5_sheet_44 (by decide) ?_
            refine g_callVW0 h hE (m5_error _ _ _ o a s S 3 (by first | assumption | omega)) 0 rfl rfl (lw_V q1446 q1448 qs35 q95 q1449) gy_X5_error ⟨Nat.le_of_ble_eq_true rfl, Nat.le_of_ble_eq_true rfl⟩ ⟨Nat.le_of_ble_eq_true rfl, Nat.le_of_ble_eq_true rfl⟩ rfl rfl (Nat.le_of_ble_eq_true rfl) dX5_sheet_45 (st' := [.int (LOW - nI 3)]) rfl (fun _ e45 => ?_)
            subst e45
            exact g_iretWv h hE dX5_sheet_48 (by first | (simp [o_sheet, bitOK, shW, sU_self, sU3, sU3a, hS, erH, er, LOW, sU_self, nI_pred, nv_nI, c4, vx, c8, c14, c36, c40]; done) | (simp_all [o_sheet, bitOK, shW, sU_self, sU3, sU3a, hS, erH, er, LOW, sU_self, nI_pred, nv_nI, c4, vx, c8, c14, c36, c40]; done)) (mW_eq rfl (by first | (simp [o_sheet, bitOK, shW, sU_self, sU3, sU3a, hS, erH, er, LOW, sU_self, nI_pred, nv_nI, c4, vx, c8, c14, c36, c40]; done) | (simp_all [o_sheet, bitOK, shW, sU_self, sU3, sU3a, hS, erH, er, LOW, sU_self, nI_pred, nv_nI, c4, vx, c8, c14, c36, c40]; done)))
      · skip
        show G X 0 0 (mW (xT X) o a s S) 17 [(0, .ref o), (1, .int (nI xn)), (2, .int b), (3, .int n)] []
        refine g_iload_n h dX5_sheet_17 rfl ?_
        refine g_bipush (v := nI 16) h dX5_sheet_18 (by decide) ?_
        refine g_toI (y := 16) rfl ?_
        refine g_icmp_eq h 35 dX5_sheet_20 (by decide) (fun c20 => ?_) (fun c20 => ?_)
        · skip
          show G X 0 0 (mW (xT X) o a s S) 35 [(0, .ref o), (1, .int (nI xn)), (2, .int b), (3, .int n)] []
          refine g_iload_n h dX5_sheet_35 rfl ?_
          refine g_if_eq h 49 dX5_sheet_36 (by decide) (fun c36 => ?_) (fun c36 => ?_)
          · skip
            show G X 0 0 (mW (xT X) o a s S) 49 [(0, .ref o), (1, .int (nI xn)), (2, .int b), (3, .int n)] []
            exact absurd c36 c8
          · skip
            show G X 0 0 (mW (xT X) o a s S) 39 [(0, .ref o), (1, .int (nI xn)), (2, .int b), (3, .int n)] []
            refine g_iload_n h dX5_sheet_39 rfl ?_
            refine g_if_geC h 49 dX5_sheet_40 (by decide) (fun c40 => ?_) (fun c40 => ?_)
            · skip
              show G X 0 0 (mW (xT X) o a s S) 49 [(0, .ref o), (1, .int (nI xn)), (2, .int b), (3, .int n)] []
              refine g_iload_n h dX5_sheet_49 rfl ?_
              refine g_if_eq h 65 dX5_sheet_50 (by decide) (fun c50 => ?_) (fun c50 => ?_)
              · skip
                show G X 0 0 (mW (xT X) o a s S) 65 [(0, .ref o), (1, .int (nI xn)), (2, .int b), (3, .int n)] []
                exact absurd c50 c36
              · skip
                show G X 0 0 (mW (xT X) o a s S) 53 [(0, .ref o), (1, .int (nI xn)), (2, .int b), (3, .int n)] []
                refine g_iload_n h dX5_sheet_53 rfl ?_
                refine g_bipush (v := nI 24) h dX5_sheet_54 (by decide) ?_
                refine g_toI (y := 24) rfl ?_
                refine g_icmp_leC h 65 dX5_sheet_56 (by decide) (fun c56 => ?_) (fun c56 => ?_)
                · skip
                  show G X 0 0 (mW (xT X) o a s S) 65 [(0, .ref o), (1, .int (nI xn)), (2, .int b), (3, .int n)] []
                  refine g_aload_n h dX5_sheet_65 rfl ?_
                  refine g_get h in_X5 0 rfl rfl 16 rfl q1390 rfl rfl dX5_sheet_66 ?_
                  refine g_iload_n h dX5_sheet_69 rfl ?_
                  refine g_iload_n h dX5_sheet_70 rfl ?_
                  refine g_iast (ws' := mW (xT X) o a s (sU S 8 (upd (S 8) xn b))) h hE.1 9 rfl (by first | assumption | omega) (by decide) dX5_sheet_71 rfl ?_
                  refine g_aload_n h dX5_sheet_72 rfl ?_
                  refine g_get h in_X5 0 rfl rfl 17 rfl q1391 rfl rfl dX5_sheet_73 ?_
                  refine g_iload_n h dX5_sheet_76 rfl ?_
                  refine g_iload_n h dX5_sheet_77 rfl ?_
                  refine g_if_ne h 85 dX5_sheet_78 (by decide) (fun c78 => ?_) (fun c78 => ?_)
                  · skip
                    show G X 0 0 (mW (xT X) o a s (sU S 8 (upd (S 8) xn b))) 85 [(0, .ref o), (1, .int (nI xn)), (2, .int b), (3, .int n)] [.int (nI xn), .ref (a 9)]
                    refine g_iload_n h dX5_sheet_85 rfl ?_
                    refine g_iast (ws' := mW (xT X) o a s (sU (sU S 8 (upd (S 8) xn b)) 9 (upd (S 9) xn n))) h hE.1 10 rfl (by first | assumption | omega) (by decide) dX5_sheet_86 rfl ?_
                    refine g_iconst (v := nI 0) h dX5_sheet_87 (by decide) ?_
                    refine g_istore (lv' := [(0, .ref o), (1, .int (nI xn)), (2, .int b), (3, .int n), (4, .int (nI 0))]) h dX5_sheet_88 (by decide) rfl ?_
                    have lp : ∀ i, i ≤ 24 → ∀ (_u : Unit) (Q : Nat → Int32), (Q = fo i (zerF xn) (S 10)) → G X 0 0 (mW (xT X) o a s (sU (sU (sU S 8 (upd (S 8) xn b)) 9 (upd (S 9) xn n)) 10 Q)) 90 [(0, .ref o), (1, .int (nI xn)), (2, .int b), (3, .int n), (4, .int (nI i))] [] := by
                      refine g_ind (N := 24) (fun i hi_i ih_lp => ?_)
                      intro _u Q e0_lp
                      refine g_iload h dX5_sheet_90 rfl ?_
                      refine g_bipush (v := nI 24) h dX5_sheet_92 (by decide) ?_
                      refine g_icmp_geN h 116 dX5_sheet_94 (by decide) (by first | omega | decide) (by first | omega | decide) (fun c94 => ?_) (fun c94 => ?_)
                      · skip
                        show G X 0 0 (mW (xT X) o a s (sU (sU (sU S 8 (upd (S 8) xn b)) 9 (upd (S 9) xn n)) 10 Q)) 116 [(0, .ref o), (1, .int (nI xn)), (2, .int b), (3, .int n), (4, .int (nI i))] []
                        refine g_iconst (v := nI 1) h dX5_sheet_116 (by decide) ?_
                        refine g_toI (y := 1) rfl ?_
                        exact g_iretWv h hE dX5_sheet_117 (by first | (simp [o_sheet, bitOK, shW, sU_self, sU3, sU3a, hS, erH, er, LOW, sU_self, nI_pred, nv_nI, c4, vx, c8, c14, c20, c36, c40, c50, c56, c78, c94]; done) | (simp_all [o_sheet, bitOK, shW, sU_self, sU3, sU3a, hS, erH, er, LOW, sU_self, nI_pred, nv_nI, c4, vx, c8, c14, c20, c36, c40, c50, c56, c78, c94]; done)) (mW_eq rfl (by rw [e0_lp, show i = 24 by omega]; first | (simp [o_sheet, bitOK, shW, sU_self, sU3, sU3a, hS, erH, er, LOW, sU_self, nI_pred, nv_nI, c4, vx, c8, c14, c20, c36, c40, c50, c56, c78, c94]; done) | (simp_all [o_sheet, bitOK, shW, sU_self, sU3, sU3a, hS, erH, er, LOW, sU_self, nI_pred, nv_nI, c4, vx, c8, c14, c20, c36, c40, c50, c56, c78, c94]; done)))
                      · skip
                        show G X 0 0 (mW (xT X) o a s (sU (sU (sU S 8 (upd (S 8) xn b)) 9 (upd (S 9) xn n)) 10 Q)) 97 [(0, .ref o), (1, .int (nI xn)), (2, .int b), (3, .int n), (4, .int (nI i))] []
                        refine g_aload_n h dX5_sheet_97 rfl ?_
                        refine g_get h in_X5 0 rfl rfl 18 rfl q1392 rfl rfl dX5_sheet_98 ?_
                        refine g_bipush (v := nI 24) h dX5_sheet_101 (by decide) ?_
                        refine g_iload_n h dX5_sheet_103 rfl ?_
                        refine g_imulN h dX5_sheet_104 ?_
                        refine g_iload h dX5_sheet_105 rfl ?_
                        refine g_iaddN h dX5_sheet_107 ?_
                        refine g_iconst (v := nI 0) h dX5_sheet_108 (by decide) ?_
                        refine g_iast (ws' := mW (xT X) o a s (sU (sU (sU S 8 (upd (S 8) xn b)) 9 (upd (S 9) xn n)) 10 (upd Q (24 * xn + i) 0))) h hE.1 11 rfl (by first | assumption | omega) (by decide) dX5_sheet_109 rfl ?_
                        refine g_iincN (b := 1) (lv' := [(0, .ref o), (1, .int (nI xn)), (2, .int b), (3, .int n), (4, .int (nI (i + 1)))]) h dX5_sheet_110 rfl rfl (by decide) rfl ?_
                        refine g_goto h 90 dX5_sheet_113 (by decide) ?_
                        exact ih_lp (i + 1) (by omega) (by omega) () (upd Q (24 * xn + i) 0) (by rw [fo_s, ← e0_lp]; rfl)
                    exact lp (0) (by omega) () (S 10) rfl
                  · skip
                    show G X 0 0 (mW (xT X) o a s (sU S 8 (upd (S 8) xn b))) 81 [(0, .ref o), (1, .int (nI xn)), (2, .int b), (3, .int n)] [.int (nI xn), .ref (a 9)]
                    exact absurd c78 c50
                · skip
                  show G X 0 0 (mW (xT X) o a s S) 59 [(0, .ref o), (1, .int (nI xn)), (2, .int b), (3, .int n)] []
                  refine g_aload_n h dX5_sheet_59 rfl ?_
                  refine g_iconst (v := nI 1) h dX5_sheet_60 (by decide) ?_
                  refine g_callVW0 h hE (m5_error _ _ _ o a s S 1 (by first | assumption | omega)) 0 rfl rfl (lw_V q1446 q1448 qs35 q95 q1449) gy_X5_error ⟨Nat.le_of_ble_eq_true rfl, Nat.le_of_ble_eq_true rfl⟩ ⟨Nat.le_of_ble_eq_true rfl, Nat.le_of_ble_eq_true rfl⟩ rfl rfl (Nat.le_of_ble_eq_true rfl) dX5_sheet_61 (st' := [.int (LOW - nI 1)]) rfl (fun _ e61 => ?_)
                  subst e61
                  exact g_iretWv h hE dX5_sheet_64 (by first | (simp [o_sheet, bitOK, shW, sU_self, sU3, sU3a, hS, erH, er, LOW, sU_self, nI_pred, nv_nI, c4, vx, c8, c14, c20, c36, c40, c50, c56]; done) | (simp_all [o_sheet, bitOK, shW, sU_self, sU3, sU3a, hS, erH, er, LOW, sU_self, nI_pred, nv_nI, c4, vx, c8, c14, c20, c36, c40, c50, c56]; done)) (mW_eq rfl (by first | (simp [o_sheet, bitOK, shW, sU_self, sU3, sU3a, hS, erH, er, LOW, sU_self, nI_pred, nv_nI, c4, vx, c8, c14, c20, c36, c40, c50, c56]; done) | (simp_all [o_sheet, bitOK, shW, sU_self, sU3, sU3a, hS, erH, er, LOW, sU_self, nI_pred, nv_nI, c4, vx, c8, c14, c20, c36, c40, c50, c56]; done)))
            · skip
              show G X 0 0 (mW (xT X) o a s S) 43 [(0, .ref o), (1, .int (nI xn)), (2, .int b), (3, .int n)] []
              refine g_aload_n h dX5_sheet_43 rfl ?_
              refine g_iconst (v := nI 3) h dX5_sheet_44 (by decide) ?_
              refine g_callVW0 h hE (m5_error _ _ _ o a s S 3 (by first | assumption | omega)) 0 rfl rfl (lw_V q1446 q1448 qs35 q95 q1449) gy_X5_error ⟨Nat.le_of_ble_eq_true rfl, Nat.le_of_ble_eq_true rfl⟩ ⟨Nat.le_of_ble_eq_true rfl, Nat.le_of_ble_eq_true rfl⟩ rfl rfl (Nat.le_of_ble_eq_true rfl) dX5_sheet_45 (st' := [.int (LOW - nI 3)]) rfl (fun _ e45 => ?_)
              subst e45
              exact g_iretWv h hE dX5_sheet_48 (by first | (simp [o_sheet, bitOK, shW, sU_self, sU3, sU3a, hS, erH, er, LOW, sU_self, nI_pred, nv_nI, c4, vx, c8, c14, c20, c36, c40]; done) | (simp_all [o_sheet, bitOK, shW, sU_self, sU3, sU3a, hS, erH, er, LOW, sU_self, nI_pred, nv_nI, c4, vx, c8, c14, c20, c36, c40]; done)) (mW_eq rfl (by first | (simp [o_sheet, bitOK, shW, sU_self, sU3, sU3a, hS, erH, er, LOW, sU_self, nI_pred, nv_nI, c4, vx, c8, c14, c20, c36, c40]; done) | (simp_all [o_sheet, bitOK, shW, sU_self, sU3, sU3a, hS, erH, er, LOW, sU_self, nI_pred, nv_nI, c4, vx, c8, c14, c20, c36, c40]; done)))
        · skip
          show G X 0 0 (mW (xT X) o a s S) 23 [(0, .ref o), (1, .int (nI xn)), (2, .int b), (3, .int n)] []
          refine g_iload_n h dX5_sheet_23 rfl ?_
          refine g_bipush (v := nI 32) h dX5_sheet_24 (by decide) ?_
          refine g_toI (y := 32) rfl ?_
          refine g_icmp_eq h 35 dX5_sheet_26 (by decide) (fun c26 => ?_) (fun c26 => ?_)
          · skip
            show G X 0 0 (mW (xT X) o a s S) 35 [(0, .ref o), (1, .int (nI xn)), (2, .int b), (3, .int n)] []
            refine g_iload_n h dX5_sheet_35 rfl ?_
            refine g_if_eq h 49 dX5_sheet_36 (by decide) (fun c36 => ?_) (fun c36 => ?_)
            · skip
              show G X 0 0 (mW (xT X) o a s S) 49 [(0, .ref o), (1, .int (nI xn)), (2, .int b), (3, .int n)] []
              exact absurd c36 c8
            · skip
              show G X 0 0 (mW (xT X) o a s S) 39 [(0, .ref o), (1, .int (nI xn)), (2, .int b), (3, .int n)] []
              refine g_iload_n h dX5_sheet_39 rfl ?_
              refine g_if_geC h 49 dX5_sheet_40 (by decide) (fun c40 => ?_) (fun c40 => ?_)
              · skip
                show G X 0 0 (mW (xT X) o a s S) 49 [(0, .ref o), (1, .int (nI xn)), (2, .int b), (3, .int n)] []
                refine g_iload_n h dX5_sheet_49 rfl ?_
                refine g_if_eq h 65 dX5_sheet_50 (by decide) (fun c50 => ?_) (fun c50 => ?_)
                · skip
                  show G X 0 0 (mW (xT X) o a s S) 65 [(0, .ref o), (1, .int (nI xn)), (2, .int b), (3, .int n)] []
                  exact absurd c50 c36
                · skip
                  show G X 0 0 (mW (xT X) o a s S) 53 [(0, .ref o), (1, .int (nI xn)), (2, .int b), (3, .int n)] []
                  refine g_iload_n h dX5_sheet_53 rfl ?_
                  refine g_bipush (v := nI 24) h dX5_sheet_54 (by decide) ?_
                  refine g_toI (y := 24) rfl ?_
                  refine g_icmp_leC h 65 dX5_sheet_56 (by decide) (fun c56 => ?_) (fun c56 => ?_)
                  · skip
                    show G X 0 0 (mW (xT X) o a s S) 65 [(0, .ref o), (1, .int (nI xn)), (2, .int b), (3, .int n)] []
                    refine g_aload_n h dX5_sheet_65 rfl ?_
                    refine g_get h in_X5 0 rfl rfl 16 rfl q1390 rfl rfl dX5_sheet_66 ?_
                    refine g_iload_n h dX5_sheet_69 rfl ?_
                    refine g_iload_n h dX5_sheet_70 rfl ?_
                    refine g_iast (ws' := mW (xT X) o a s (sU S 8 (upd (S 8) xn b))) h hE.1 9 rfl (by first | assumption | omega) (by decide) dX5_sheet_71 rfl ?_
                    refine g_aload_n h dX5_sheet_72 rfl ?_
                    refine g_get h in_X5 0 rfl rfl 17 rfl q1391 rfl rfl dX5_sheet_73 ?_
                    refine g_iload_n h dX5_sheet_76 rfl ?_
                    refine g_iload_n h dX5_sheet_77 rfl ?_
                    refine g_if_ne h 85 dX5_sheet_78 (by decide) (fun c78 => ?_) (fun c78 => ?_)
                    · skip
                      show G X 0 0 (mW (xT X) o a s (sU S 8 (upd (S 8) xn b))) 85 [(0, .ref o), (1, .int (nI xn)), (2, .int b), (3, .int n)] [.int (nI xn), .ref (a 9)]
                      refine g_iload_n h dX5_sheet_85 rfl ?_
                      refine g_iast (ws' := mW (xT X) o a s (sU (sU S 8 (upd (S 8) xn b)) 9 (upd (S 9) xn n))) h hE.1 10 rfl (by first | assumption | omega) (by decide) dX5_sheet_86 rfl ?_
                      refine g_iconst (v := nI 0) h dX5_sheet_87 (by decide) ?_
                      refine g_istore (lv' := [(0, .ref o), (1, .int (nI xn)), (2, .int b), (3, .int n), (4, .int (nI 0))]) h dX5_sheet_88 (by decide) rfl ?_
                      have lp : ∀ i, i ≤ 24 → ∀ (_u : Unit) (Q : Nat → Int32), (Q = fo i (zerF xn) (S 10)) → G X 0 0 (mW (xT X) o a s (sU (sU (sU S 8 (upd (S 8) xn b)) 9 (upd (S 9) xn n)) 10 Q)) 90 [(0, .ref o), (1, .int (nI xn)), (2, .int b), (3, .int n), (4, .int (nI i))] [] := by
                        refine g_ind (N := 24) (fun i hi_i ih_lp => ?_)
                        intro _u Q e0_lp
                        refine g_iload h dX5_sheet_90 rfl ?_
                        refine g_bipush (v := nI 24) h dX5_sheet_92 (by decide) ?_
                        refine g_icmp_geN h 116 dX5_sheet_94 (by decide) (by first | omega | decide) (by first | omega | decide) (fun c94 => ?_) (fun c94 => ?_)
                        · skip
                          show G X 0 0 (mW (xT X) o a s (sU (sU (sU S 8 (upd (S 8) xn b)) 9 (upd (S 9) xn n)) 10 Q)) 116 [(0, .ref o), (1, .int (nI xn)), (2, .int b), (3, .int n), (4, .int (nI i))] []
                          refine g_iconst (v := nI 1) h dX5_sheet_116 (by decide) ?_
                          refine g_toI (y := 1) rfl ?_
                          exact g_iretWv h hE dX5_sheet_117 (by first | (simp [o_sheet, bitOK, shW, sU_self, sU3, sU3a, hS, erH, er, LOW, sU_self, nI_pred, nv_nI, c4, vx, c8, c14, c20, c26, c36, c40, c50, c56, c78, c94]; done) | (simp_all [o_sheet, bitOK, shW, sU_self, sU3, sU3a, hS, erH, er, LOW, sU_self, nI_pred, nv_nI, c4, vx, c8, c14, c20, c26, c36, c40, c50, c56, c78, c94]; done)) (mW_eq rfl (by rw [e0_lp, show i = 24 by omega]; first | (simp [o_sheet, bitOK, shW, sU_self, sU3, sU3a, hS, erH, er, LOW, sU_self, nI_pred, nv_nI, c4, vx, c8, c14, c20, c26, c36, c40, c50, c56, c78, c94]; done) | (simp_all [o_sheet, bitOK, shW, sU_self, sU3, sU3a, hS, erH, er, LOW, sU_self, nI_pred, nv_nI, c4, vx, c8, c14, c20, c26, c36, c40, c50, c56, c78, c94]; done)))
                        · skip
                          show G X 0 0 (mW (xT X) o a s (sU (sU (sU S 8 (upd (S 8) xn b)) 9 (upd (S 9) xn n)) 10 Q)) 97 [(0, .ref o), (1, .int (nI xn)), (2, .int b), (3, .int n), (4, .int (nI i))] []
                          refine g_aload_n h dX5_sheet_97 rfl ?_
                          refine g_get h in_X5 0 rfl rfl 18 rfl q1392 rfl rfl dX5_sheet_98 ?_
                          refine g_bipush (v := nI 24) h dX5_sheet_101 (by decide) ?_
                          refine g_iload_n h dX5_sheet_103 rfl ?_
                          refine g_imulN h dX5_sheet_104 ?_
                          refine g_iload h dX5_sheet_105 rfl ?_
                          refine g_iaddN h dX5_sheet_107 ?_
                          refine g_iconst (v := nI 0) h dX5_sheet_108 (by decide) ?_
                          refine g_iast (ws' := mW (xT X) o a s (sU (sU (sU S 8 (upd (S 8) xn b)) 9 (upd (S 9) xn n)) 10 (upd Q (24 * xn + i) 0))) h hE.1 11 rfl (by first | assumption | omega) (by decide) dX5_sheet_109 rfl ?_
                          refine g_iincN (b := 1) (lv' := [(0, .ref o), (1, .int (nI xn)), (2, .int b), (3, .int n), (4, .int (nI (i + 1)))]) h dX5_sheet_110 rfl rfl (by decide) rfl ?_
                          refine g_goto h 90 dX5_sheet_113 (by decide) ?_
                          exact ih_lp (i + 1) (by omega) (by omega) () (upd Q (24 * xn + i) 0) (by rw [fo_s, ← e0_lp]; rfl)
                      exact lp (0) (by omega) () (S 10) rfl
                    · skip
                      show G X 0 0 (mW (xT X) o a s (sU S 8 (upd (S 8) xn b))) 81 [(0, .ref o), (1, .int (nI xn)), (2, .int b), (3, .int n)] [.int (nI xn), .ref (a 9)]
                      exact absurd c78 c50
                  · skip
                    show G X 0 0 (mW (xT X) o a s S) 59 [(0, .ref o), (1, .int (nI xn)), (2, .int b), (3, .int n)] []
                    refine g_aload_n h dX5_sheet_59 rfl ?_
                    refine g_iconst (v := nI 1) h dX5_sheet_60 (by decide) ?_
                    refine g_callVW0 h hE (m5_error _ _ _ o a s S 1 (by first | assumption | omega)) 0 rfl rfl (lw_V q1446 q1448 qs35 q95 q1449) gy_X5_error ⟨Nat.le_of_ble_eq_true rfl, Nat.le_of_ble_eq_true rfl⟩ ⟨Nat.le_of_ble_eq_true rfl, Nat.le_of_ble_eq_true rfl⟩ rfl rfl (Nat.le_of_ble_eq_true rfl) dX5_sheet_61 (st' := [.int (LOW - nI 1)]) rfl (fun _ e61 => ?_)
                    subst e61
                    exact g_iretWv h hE dX5_sheet_64 (by first | (simp [o_sheet, bitOK, shW, sU_self, sU3, sU3a, hS, erH, er, LOW, sU_self, nI_pred, nv_nI, c4, vx, c8, c14, c20, c26, c36, c40, c50, c56]; done) | (simp_all [o_sheet, bitOK, shW, sU_self, sU3, sU3a, hS, erH, er, LOW, sU_self, nI_pred, nv_nI, c4, vx, c8, c14, c20, c26, c36, c40, c50, c56]; done)) (mW_eq rfl (by first | (simp [o_sheet, bitOK, shW, sU_self, sU3, sU3a, hS, erH, er, LOW, sU_self, nI_pred, nv_nI, c4, vx, c8, c14, c20, c26, c36, c40, c50, c56]; done) | (simp_all [o_sheet, bitOK, shW, sU_self, sU3, sU3a, hS, erH, er, LOW, sU_self, nI_pred, nv_nI, c4, vx, c8, c14, c20, c26, c36, c40, c50, c56]; done)))
              · skip
                show G X 0 0 (mW (xT X) o a s S) 43 [(0, .ref o), (1, .int (nI xn)), (2, .int b), (3, .int n)] []
                refine g_aload_n h dX5_sheet_43 rfl ?_
                refine g_iconst (v := nI 3) h dX5_sheet_44 (by decide) ?_
                refine g_callVW0 h hE (m5_error _ _ _ o a s S 3 (by first | assumption | omega)) 0 rfl rfl (lw_V q1446 q1448 qs35 q95 q1449) gy_X5_error ⟨Nat.le_of_ble_eq_true rfl, Nat.le_of_ble_eq_true rfl⟩ ⟨Nat.le_of_ble_eq_true rfl, Nat.le_of_ble_eq_true rfl⟩ rfl rfl (Nat.le_of_ble_eq_true rfl) dX5_sheet_45 (st' := [.int (LOW - nI 3)]) rfl (fun _ e45 => ?_)
                subst e45
                exact g_iretWv h hE dX5_sheet_48 (by first | (simp [o_sheet, bitOK, shW, sU_self, sU3, sU3a, hS, erH, er, LOW, sU_self, nI_pred, nv_nI, c4, vx, c8, c14, c20, c26, c36, c40]; done) | (simp_all [o_sheet, bitOK, shW, sU_self, sU3, sU3a, hS, erH, er, LOW, sU_self, nI_pred, nv_nI, c4, vx, c8, c14, c20, c26, c36, c40]; done)) (mW_eq rfl (by first | (simp [o_sheet, bitOK, shW, sU_self, sU3, sU3a, hS, erH, er, LOW, sU_self, nI_pred, nv_nI, c4, vx, c8, c14, c20, c26, c36, c40]; done) | (simp_all [o_sheet, bitOK, shW, sU_self, sU3, sU3a, hS, erH, er, LOW, sU_self, nI_pred, nv_nI, c4, vx, c8, c14, c20, c26, c36, c40]; done)))
          · skip
            show G X 0 0 (mW (xT X) o a s S) 29 [(0, .ref o), (1, .int (nI xn)), (2, .int b), (3, .int n)] []
            refine g_aload_n h dX5_sheet_29 rfl ?_
            refine g_iconst (v := nI 1) h dX5_sheet_30 (by decide) ?_
            refine g_callVW0 h hE (m5_error _ _ _ o a s S 1 (by first | assumption | omega)) 0 rfl rfl (lw_V q1446 q1448 qs35 q95 q1449) gy_X5_error ⟨Nat.le_of_ble_eq_true rfl, Nat.le_of_ble_eq_true rfl⟩ ⟨Nat.le_of_ble_eq_true rfl, Nat.le_of_ble_eq_true rfl⟩ rfl rfl (Nat.le_of_ble_eq_true rfl) dX5_sheet_31 (st' := [.int (LOW - nI 1)]) rfl (fun _ e31 => ?_)
            subst e31
            exact g_iretWv h hE dX5_sheet_34 (by first | (simp [o_sheet, bitOK, shW, sU_self, sU3, sU3a, hS, erH, er, LOW, sU_self, nI_pred, nv_nI, c4, vx, c8, c14, c20, c26]; done) | (simp_all [o_sheet, bitOK, shW, sU_self, sU3, sU3a, hS, erH, er, LOW, sU_self, nI_pred, nv_nI, c4, vx, c8, c14, c20, c26]; done)) (mW_eq rfl (by first | (simp [o_sheet, bitOK, shW, sU_self, sU3, sU3a, hS, erH, er, LOW, sU_self, nI_pred, nv_nI, c4, vx, c8, c14, c20, c26]; done) | (simp_all [o_sheet, bitOK, shW, sU_self, sU3, sU3a, hS, erH, er, LOW, sU_self, nI_pred, nv_nI, c4, vx, c8, c14, c20, c26]; done)))
set_option maxHeartbeats 4000000 in
set_option maxRecDepth 100000 in
theorem m5_put (l : Launch) (D : va_G) (T : Nat → ClassId) (o : Nat) (a : Nat → Nat) (s : Nat → Int32) (S : Nat → Nat → Int32) (x : Int32) (i : Int32) (v : Int32) (h0 : ShI S) : MetW l D T yX5_put cX5_put 5 (some .int) 2 42 0 0 [.ref o, .int x, .int i, .int v] (mW T o a s S) (fun r_ w_ => r_ = some (.int ((o_put (hS S) (S 3) x i v).1)) ∧ (w_ = mW T o a s (shW S (o_put (hS S) (S 3) x i v).2.1 (o_put (hS S) (S 3) x i v).2.2))) := by
  refine metW (own := RX5) rfl (by decide) rfl (fun X h hl hDx hTx hnm hE => ?_)
  subst hl; subst hDx; subst hTx
  show G X 0 0 (mW (xT X) o a s S) 0 [(0, .ref o), (1, .int x), (2, .int i), (3, .int v)] []
  refine g_iload_n h dX5_put_0 rfl ?_
  refine g_callSR h (m5_isSheet _ _ _ x ) (fun _ q => nomatch q) (lw_S q1808 q1809 q95 q1810) gy_X5_isSheet ⟨Nat.le_of_ble_eq_true rfl, Nat.le_of_ble_eq_true rfl⟩ ⟨Nat.le_of_ble_eq_true rfl, Nat.le_of_ble_eq_true rfl⟩ rfl rfl (Nat.le_of_ble_eq_true rfl) dX5_put_1 ?_
  refine g_if_neB h 13 dX5_put_4 (by decide) (fun c4 => ?_) (fun c4 => ?_)
  · skip
    show G X 0 0 (mW (xT X) o a s S) 13 [(0, .ref o), (1, .int x), (2, .int i), (3, .int v)] []
    obtain ⟨xn, hx, rfl⟩ := inB_of (n := 3) (by decide) c4
    have vx : nv (nI xn) = xn := nv_nI (by omega)
    refine g_aload_n h dX5_put_13 rfl ?_
    refine g_get h in_X5 0 rfl rfl 16 rfl q1390 rfl rfl dX5_put_14 ?_
    refine g_iload_n h dX5_put_17 rfl ?_
    refine g_iald h 9 rfl (by first | assumption | omega) (by decide) dX5_put_18 ?_
    refine g_toI (y := S 8 xn) (show S 8 xn = _ from rfl) ?_
    refine g_if_ne h 28 dX5_put_19 (by decide) (fun c19 => ?_) (fun c19 => ?_)
    · skip
      show G X 0 0 (mW (xT X) o a s S) 28 [(0, .ref o), (1, .int (nI xn)), (2, .int i), (3, .int v)] []
      refine g_iload_n h dX5_put_28 rfl ?_
      refine g_iconst (v := nI 0) h dX5_put_29 (by decide) ?_
      refine g_aload_n h dX5_put_30 rfl ?_
      refine g_get h in_X5 0 rfl rfl 17 rfl q1391 rfl rfl dX5_put_31 ?_
      refine g_iload_n h dX5_put_34 rfl ?_
      refine g_iald h 10 rfl (by first | assumption | omega) (by decide) dX5_put_35 ?_
      refine g_toI (y := S 9 xn) (show S 9 xn = _ from rfl) ?_
      refine g_iconst (v := nI 1) h dX5_put_36 (by decide) ?_
      refine g_toI (y := 1) rfl ?_
      refine g_isub h dX5_put_37 ?_
      refine g_callSR h (m5_in _ _ _ i 0 ((S 9 xn) - 1) ) (fun _ q => nomatch q) (lw_S q1439 q1440 q95 q1441) gy_X5_in ⟨Nat.le_of_ble_eq_true rfl, Nat.le_of_ble_eq_true rfl⟩ ⟨Nat.le_of_ble_eq_true rfl, Nat.le_of_ble_eq_true rfl⟩ rfl rfl (Nat.le_of_ble_eq_true rfl) dX5_put_38 ?_
      refine g_if_neB h 50 dX5_put_41 (by decide) (fun c41 => ?_) (fun c41 => ?_)
      · skip
        show G X 0 0 (mW (xT X) o a s S) 50 [(0, .ref o), (1, .int (nI xn)), (2, .int i), (3, .int v)] []
        obtain ⟨jn, hj, rfl⟩ := isPT_of (Nat.lt_of_le_of_lt (h0 xn (by omega)).2 (by decide)) (h0 xn (by omega)).1 c41
        have hz := (h0 xn (by omega)).2; have vi : nv (nI jn) = jn := nv_nI (by omega)
        refine g_bipush (v := nI 32) h dX5_put_50 (by decide) ?_
        refine g_aload_n h dX5_put_52 rfl ?_
        refine g_get h in_X5 0 rfl rfl 16 rfl q1390 rfl rfl dX5_put_53 ?_
        refine g_iload_n h dX5_put_56 rfl ?_
        refine g_iald h 9 rfl (by first | assumption | omega) (by decide) dX5_put_57 ?_
        refine g_toI (y := S 8 xn) (show S 8 xn = _ from rfl) ?_
        refine g_toI2 (y := 32) rfl ?_
        refine g_isub h dX5_put_58 ?_
        refine g_istore (lv' := [(0, .ref o), (1, .int (nI xn)), (2, .int (nI jn)), (3, .int v), (4, .int (32 - (S 8 xn)))]) h dX5_put_59 (by decide) rfl ?_
        refine g_aload_n h dX5_put_61 rfl ?_
        refine g_get h in_X5 0 rfl rfl 18 rfl q1392 rfl rfl dX5_put_62 ?_
        refine g_bipush (v := nI 24) h dX5_put_65 (by decide) ?_
        refine g_iload_n h dX5_put_67 rfl ?_
        refine g_imulN h dX5_put_68 ?_
        refine g_iload_n h dX5_put_69 rfl ?_
        refine g_iaddN h dX5_put_70 ?_
        refine g_iload_n h dX5_put_71 rfl ?_
        refine g_iload h dX5_put_72 rfl ?_
        refine g_ishl h dX5_put_74 ?_
        refine g_iload h dX5_put_75 rfl ?_
        refine g_ishr h dX5_put_77 ?_
        refine g_iast (ws' := mW (xT X) o a s (sU S 10 (upd (S 10) (24 * xn + jn) ((v <<< ((32 - (S 8 xn)) &&& 31)) >>> ((32 - (S 8 xn)) &&& 31))))) h hE.1 11 rfl (by first | assumption | omega) (by decide) dX5_put_78 rfl ?_
        refine g_iconst (v := nI 1) h dX5_put_79 (by decide) ?_
        refine g_toI (y := 1) rfl ?_
        exact g_iretWv h hE dX5_put_80 (by first | (simp [o_put, shW, sU_self, sU3, sU3a, hS, erH, er, LOW, sU_self, nI_pred, nv_nI, c4, vx, c19, c41, vi]; done) | (simp_all [o_put, shW, sU_self, sU3, sU3a, hS, erH, er, LOW, sU_self, nI_pred, nv_nI, c4, vx, c19, c41, vi]; done)) (mW_eq rfl (by first | (simp [o_put, shW, sU_self, sU3, sU3a, hS, erH, er, LOW, sU_self, nI_pred, nv_nI, c4, vx, c19, c41, vi]; done) | (simp_all [o_put, shW, sU_self, sU3, sU3a, hS, erH, er, LOW, sU_self, nI_pred, nv_nI, c4, vx, c19, c41, vi]; done)))
      · skip
        show G X 0 0 (mW (xT X) o a s S) 44 [(0, .ref o), (1, .int (nI xn)), (2, .int i), (3, .int v)] []
        refine g_aload_n h dX5_put_44 rfl ?_
        refine g_iconst (v := nI 1) h dX5_put_45 (by decide) ?_
        refine g_callVW0 h hE (m5_error _ _ _ o a s S 1 (by first | assumption | omega)) 0 rfl rfl (lw_V q1446 q1448 qs35 q95 q1449) gy_X5_error ⟨Nat.le_of_ble_eq_true rfl, Nat.le_of_ble_eq_true rfl⟩ ⟨Nat.le_of_ble_eq_true rfl, Nat.le_of_ble_eq_true rfl⟩ rfl rfl (Nat.le_of_ble_eq_true rfl) dX5_put_46 (st' := [.int (LOW - nI 1)]) rfl (fun _ e46 => ?_)
        subst e46
        exact g_iretWv h hE dX5_put_49 (by first | (simp [o_put, shW, sU_self, sU3, sU3a, hS, erH, er, LOW, sU_self, nI_pred, nv_nI, c4, vx, c19, c41]; done) | (simp_all [o_put, shW, sU_self, sU3, sU3a, hS, erH, er, LOW, sU_self, nI_pred, nv_nI, c4, vx, c19, c41]; done)) (mW_eq rfl (by first | (simp [o_put, shW, sU_self, sU3, sU3a, hS, erH, er, LOW, sU_self, nI_pred, nv_nI, c4, vx, c19, c41]; done) | (simp_all [o_put, shW, sU_self, sU3, sU3a, hS, erH, er, LOW, sU_self, nI_pred, nv_nI, c4, vx, c19, c41]; done)))
    · skip
      show G X 0 0 (mW (xT X) o a s S) 22 [(0, .ref o), (1, .int (nI xn)), (2, .int i), (3, .int v)] []
      refine g_aload_n h dX5_put_22 rfl ?_
      refine g_iconst (v := nI 2) h dX5_put_23 (by decide) ?_
      refine g_callVW0 h hE (m5_error _ _ _ o a s S 2 (by first | assumption | omega)) 0 rfl rfl (lw_V q1446 q1448 qs35 q95 q1449) gy_X5_error ⟨Nat.le_of_ble_eq_true rfl, Nat.le_of_ble_eq_true rfl⟩ ⟨Nat.le_of_ble_eq_true rfl, Nat.le_of_ble_eq_true rfl⟩ rfl rfl (Nat.le_of_ble_eq_true rfl) dX5_put_24 (st' := [.int (LOW - nI 2)]) rfl (fun _ e24 => ?_)
      subst e24
      exact g_iretWv h hE dX5_put_27 (by first | (simp [o_put, shW, sU_self, sU3, sU3a, hS, erH, er, LOW, sU_self, nI_pred, nv_nI, c4, vx, c19]; done) | (simp_all [o_put, shW, sU_self, sU3, sU3a, hS, erH, er, LOW, sU_self, nI_pred, nv_nI, c4, vx, c19]; done)) (mW_eq rfl (by first | (simp [o_put, shW, sU_self, sU3, sU3a, hS, erH, er, LOW, sU_self, nI_pred, nv_nI, c4, vx, c19]; done) | (simp_all [o_put, shW, sU_self, sU3, sU3a, hS, erH, er, LOW, sU_self, nI_pred, nv_nI, c4, vx, c19]; done)))
  · skip
    show G X 0 0 (mW (xT X) o a s S) 7 [(0, .ref o), (1, .int x), (2, .int i), (3, .int v)] []
    refine g_aload_n h dX5_put_7 rfl ?_
    refine g_iconst (v := nI 1) h dX5_put_8 (by decide) ?_
    refine g_callVW0 h hE (m5_error _ _ _ o a s S 1 (by first | assumption | omega)) 0 rfl rfl (lw_V q1446 q1448 qs35 q95 q1449) gy_X5_error ⟨Nat.le_of_ble_eq_true rfl, Nat.le_of_ble_eq_true rfl⟩ ⟨Nat.le_of_ble_eq_true rfl, Nat.le_of_ble_eq_true rfl⟩ rfl rfl (Nat.le_of_ble_eq_true rfl) dX5_put_9 (st' := [.int (LOW - nI 1)]) rfl (fun _ e9 => ?_)
    subst e9
    exact g_iretWv h hE dX5_put_12 (by first | (simp [o_put, shW, sU_self, sU3, sU3a, hS, erH, er, LOW, sU_self, nI_pred, nv_nI, c4]; done) | (simp_all [o_put, shW, sU_self, sU3, sU3a, hS, erH, er, LOW, sU_self, nI_pred, nv_nI, c4]; done)) (mW_eq rfl (by first | (simp [o_put, shW, sU_self, sU3, sU3a, hS, erH, er, LOW, sU_self, nI_pred, nv_nI, c4]; done) | (simp_all [o_put, shW, sU_self, sU3, sU3a, hS, erH, er, LOW, sU_self, nI_pred, nv_nI, c4]; done)))
set_option maxHeartbeats 4000000 in
set_option maxRecDepth 100000 in
theorem m5_move (l : Launch) (D : va_G) (T : Nat → ClassId) (o : Nat) (a : Nat → Nat) (s : Nat → Int32) (S : Nat → Nat → Int32) (x : Int32) (i : Int32) (y : Int32) (j : Int32) (n : Int32) (h0 : ShI S) : MetW l D T yX5_move cX5_move 7 (some .int) 2 42 0 0 [.ref o, .int x, .int i, .int y, .int j, .int n] (mW T o a s S) (fun r_ w_ => r_ = some (.int ((o_move (hS S) (S 3) x i y j n).1)) ∧ (∃ (Q : Nat → Int32), w_ = mW T o a s (shW (sU S 11 Q) (o_move (hS S) (S 3) x i y j n).2.1 (o_move (hS S) (S 3) x i y j n).2.2))) := by
  refine metW (own := RX5) rfl (by decide) rfl (fun X h hl hDx hTx hnm hE => ?_)
  subst hl; subst hDx; subst hTx
  show G X 0 0 (mW (xT X) o a s S) 0 [(0, .ref o), (1, .int x), (2, .int i), (3, .int y), (4, .int j), (5, .int n)] []
  refine g_iload_n h dX5_move_0 rfl ?_
  refine g_callSR h (m5_isSheet _ _ _ x ) (fun _ q => nomatch q) (lw_S q1808 q1809 q95 q1810) gy_X5_isSheet ⟨Nat.le_of_ble_eq_true rfl, Nat.le_of_ble_eq_true rfl⟩ ⟨Nat.le_of_ble_eq_true rfl, Nat.le_of_ble_eq_true rfl⟩ rfl rfl (Nat.le_of_ble_eq_true rfl) dX5_move_1 ?_
  refine g_if_eqB h 14 dX5_move_4 (by decide) (fun c4 => ?_) (fun c4 => ?_)
  · skip
    show G X 0 0 (mW (xT X) o a s S) 14 [(0, .ref o), (1, .int x), (2, .int i), (3, .int y), (4, .int j), (5, .int n)] []
    refine g_aload_n h dX5_move_14 rfl ?_
    refine g_iconst (v := nI 1) h dX5_move_15 (by decide) ?_
    refine g_callVW0 h hE (m5_error _ _ _ o a s S 1 (by first | assumption | omega)) 0 rfl rfl (lw_V q1446 q1448 qs35 q95 q1449) gy_X5_error ⟨Nat.le_of_ble_eq_true rfl, Nat.le_of_ble_eq_true rfl⟩ ⟨Nat.le_of_ble_eq_true rfl, Nat.le_of_ble_eq_true rfl⟩ rfl rfl (Nat.le_of_ble_eq_true rfl) dX5_move_16 (st' := [.int (LOW - nI 1)]) rfl (fun _ e16 => ?_)
    subst e16
    exact g_iretWv h hE dX5_move_19 (by first | (simp [o_move, shW, sU_self, sU3, sU3a, hS, erH, er, LOW, sU_self, nI_pred, nv_nI, c4]; done) | (simp_all [o_move, shW, sU_self, sU3, sU3a, hS, erH, er, LOW, sU_self, nI_pred, nv_nI, c4]; done)) (⟨S 11, mW_eq rfl (by first | (simp [o_move, shW, sU_self, sU3, sU3a, hS, erH, er, LOW, sU_self, nI_pred, nv_nI, c4, sU_self, sU3, sU3a, sU3b]; done) | (simp_all [o_move, shW, sU_self, sU3, sU3a, hS, erH, er, LOW, sU_self, nI_pred, nv_nI, c4, sU_self, sU3, sU3a, sU3b]; done))⟩)
  · skip
    show G X 0 0 (mW (xT X) o a s S) 7 [(0, .ref o), (1, .int x), (2, .int i), (3, .int y), (4, .int j), (5, .int n)] []
    obtain ⟨xn, hx, rfl⟩ := inB_of (n := 3) (by decide) c4
    have vx : nv (nI xn) = xn := nv_nI (by omega)
    refine g_iload_n h dX5_move_7 rfl ?_
    refine g_callSR h (m5_isSheet _ _ _ y ) (fun _ q => nomatch q) (lw_S q1808 q1809 q95 q1810) gy_X5_isSheet ⟨Nat.le_of_ble_eq_true rfl, Nat.le_of_ble_eq_true rfl⟩ ⟨Nat.le_of_ble_eq_true rfl, Nat.le_of_ble_eq_true rfl⟩ rfl rfl (Nat.le_of_ble_eq_true rfl) dX5_move_8 ?_
    refine g_if_neB h 20 dX5_move_11 (by decide) (fun c11 => ?_) (fun c11 => ?_)
    · skip
      show G X 0 0 (mW (xT X) o a s S) 20 [(0, .ref o), (1, .int (nI xn)), (2, .int i), (3, .int y), (4, .int j), (5, .int n)] []
      obtain ⟨yn, hy, rfl⟩ := inB_of (n := 3) (by decide) c11
      have vy : nv (nI yn) = yn := nv_nI (by omega)
      refine g_aload_n h dX5_move_20 rfl ?_
      refine g_get h in_X5 0 rfl rfl 16 rfl q1390 rfl rfl dX5_move_21 ?_
      refine g_iload_n h dX5_move_24 rfl ?_
      refine g_iald h 9 rfl (by first | assumption | omega) (by decide) dX5_move_25 ?_
      refine g_toI (y := S 8 xn) (show S 8 xn = _ from rfl) ?_
      refine g_if_eq h 38 dX5_move_26 (by decide) (fun c26 => ?_) (fun c26 => ?_)
      · skip
        show G X 0 0 (mW (xT X) o a s S) 38 [(0, .ref o), (1, .int (nI xn)), (2, .int i), (3, .int (nI yn)), (4, .int j), (5, .int n)] []
        refine g_aload_n h dX5_move_38 rfl ?_
        refine g_iconst (v := nI 2) h dX5_move_39 (by decide) ?_
        refine g_callVW0 h hE (m5_error _ _ _ o a s S 2 (by first | assumption | omega)) 0 rfl rfl (lw_V q1446 q1448 qs35 q95 q1449) gy_X5_error ⟨Nat.le_of_ble_eq_true rfl, Nat.le_of_ble_eq_true rfl⟩ ⟨Nat.le_of_ble_eq_true rfl, Nat.le_of_ble_eq_true rfl⟩ rfl rfl (Nat.le_of_ble_eq_true rfl) dX5_move_40 (st' := [.int (LOW - nI 2)]) rfl (fun _ e40 => ?_)
        subst e40
        exact g_iretWv h hE dX5_move_43 (by first | (simp [o_move, shW, sU_self, sU3, sU3a, hS, erH, er, LOW, sU_self, nI_pred, nv_nI, c4, vx, c11, vy, c26]; done) | (simp_all [o_move, shW, sU_self, sU3, sU3a, hS, erH, er, LOW, sU_self, nI_pred, nv_nI, c4, vx, c11, vy, c26]; done)) (⟨S 11, mW_eq rfl (by first | (simp [o_move, shW, sU_self, sU3, sU3a, hS, erH, er, LOW, sU_self, nI_pred, nv_nI, c4, vx, c11, vy, c26, sU_self, sU3, sU3a, sU3b]; done) | (simp_all [o_move, shW, sU_self, sU3, sU3a, hS, erH, er, LOW, sU_self, nI_pred, nv_nI, c4, vx, c11, vy, c26, sU_self, sU3, sU3a, sU3b]; done))⟩)
      · skip
        show G X 0 0 (mW (xT X) o a s S) 29 [(0, .ref o), (1, .int (nI xn)), (2, .int i), (3, .int (nI yn)), (4, .int j), (5, .int n)] []
        refine g_aload_n h dX5_move_29 rfl ?_
        refine g_get h in_X5 0 rfl rfl 16 rfl q1390 rfl rfl dX5_move_30 ?_
        refine g_iload_n h dX5_move_33 rfl ?_
        refine g_iald h 9 rfl (by first | assumption | omega) (by decide) dX5_move_34 ?_
        refine g_toI (y := S 8 yn) (show S 8 yn = _ from rfl) ?_
        refine g_if_ne h 44 dX5_move_35 (by decide) (fun c35 => ?_) (fun c35 => ?_)
        · skip
          show G X 0 0 (mW (xT X) o a s S) 44 [(0, .ref o), (1, .int (nI xn)), (2, .int i), (3, .int (nI yn)), (4, .int j), (5, .int n)] []
          refine g_aload_n h dX5_move_44 rfl ?_
          refine g_get h in_X5 0 rfl rfl 16 rfl q1390 rfl rfl dX5_move_45 ?_
          refine g_iload_n h dX5_move_48 rfl ?_
          refine g_iald h 9 rfl (by first | assumption | omega) (by decide) dX5_move_49 ?_
          refine g_toI (y := S 8 xn) (show S 8 xn = _ from rfl) ?_
          refine g_aload_n h dX5_move_50 rfl ?_
          refine g_get h in_X5 0 rfl rfl 16 rfl q1390 rfl rfl dX5_move_51 ?_
          refine g_iload_n h dX5_move_54 rfl ?_
          refine g_iald h 9 rfl (by first | assumption | omega) (by decide) dX5_move_55 ?_
          refine g_toI (y := S 8 yn) (show S 8 yn = _ from rfl) ?_
          refine g_icmp_eq h 65 dX5_move_56 (by decide) (fun c56 => ?_) (fun c56 => ?_)
          · skip
            show G X 0 0 (mW (xT X) o a s S) 65 [(0, .ref o), (1, .int (nI xn)), (2, .int i), (3, .int (nI yn)), (4, .int j), (5, .int n)] []
            refine g_iload h dX5_move_65 rfl ?_
            refine g_if_lt h 106 dX5_move_67 (by decide) (fun c67 => ?_) (fun c67 => ?_)
            · skip
              show G X 0 0 (mW (xT X) o a s S) 106 [(0, .ref o), (1, .int (nI xn)), (2, .int i), (3, .int (nI yn)), (4, .int j), (5, .int n)] []
              refine g_aload_n h dX5_move_106 rfl ?_
              refine g_iconst (v := nI 1) h dX5_move_107 (by decide) ?_
              refine g_callVW0 h hE (m5_error _ _ _ o a s S 1 (by first | assumption | omega)) 0 rfl rfl (lw_V q1446 q1448 qs35 q95 q1449) gy_X5_error ⟨Nat.le_of_ble_eq_true rfl, Nat.le_of_ble_eq_true rfl⟩ ⟨Nat.le_of_ble_eq_true rfl, Nat.le_of_ble_eq_true rfl⟩ rfl rfl (Nat.le_of_ble_eq_true rfl) dX5_move_108 (st' := [.int (LOW - nI 1)]) rfl (fun _ e108 => ?_)
              subst e108
              exact g_iretWv h hE dX5_move_111 (by first | (simp [o_move, shW, sU_self, sU3, sU3a, hS, erH, er, LOW, sU_self, nI_pred, nv_nI, c4, vx, c11, vy, c26, c35, c56, c67]; done) | (simp_all [o_move, shW, sU_self, sU3, sU3a, hS, erH, er, LOW, sU_self, nI_pred, nv_nI, c4, vx, c11, vy, c26, c35, c56, c67]; done)) (⟨S 11, mW_eq rfl (by first | (simp [o_move, shW, sU_self, sU3, sU3a, hS, erH, er, LOW, sU_self, nI_pred, nv_nI, c4, vx, c11, vy, c26, c35, c56, c67, sU_self, sU3, sU3a, sU3b]; done) | (simp_all [o_move, shW, sU_self, sU3, sU3a, hS, erH, er, LOW, sU_self, nI_pred, nv_nI, c4, vx, c11, vy, c26, c35, c56, c67, sU_self, sU3, sU3a, sU3b]; done))⟩)
            · skip
              show G X 0 0 (mW (xT X) o a s S) 70 [(0, .ref o), (1, .int (nI xn)), (2, .int i), (3, .int (nI yn)), (4, .int j), (5, .int n)] []
              obtain ⟨nm, hn, rfl⟩ := nI_of c67
              have vn : nv (nI nm) = nm := nv_nI hn
              refine g_iload_n h dX5_move_70 rfl ?_
              refine g_if_lt h 106 dX5_move_71 (by decide) (fun c71 => ?_) (fun c71 => ?_)
              · skip
                show G X 0 0 (mW (xT X) o a s S) 106 [(0, .ref o), (1, .int (nI xn)), (2, .int i), (3, .int (nI yn)), (4, .int j), (5, .int (nI nm))] []
                refine g_aload_n h dX5_move_106 rfl ?_
                refine g_iconst (v := nI 1) h dX5_move_107 (by decide) ?_
                refine g_callVW0 h hE (m5_error _ _ _ o a s S 1 (by first | assumption | omega)) 0 rfl rfl (lw_V q1446 q1448 qs35 q95 q1449) gy_X5_error ⟨Nat.le_of_ble_eq_true rfl, Nat.le_of_ble_eq_true rfl⟩ ⟨Nat.le_of_ble_eq_true rfl, Nat.le_of_ble_eq_true rfl⟩ rfl rfl (Nat.le_of_ble_eq_true rfl) dX5_move_108 (st' := [.int (LOW - nI 1)]) rfl (fun _ e108 => ?_)
                subst e108
                exact g_iretWv h hE dX5_move_111 (by first | (simp [o_move, shW, sU_self, sU3, sU3a, hS, erH, er, LOW, sU_self, nI_pred, nv_nI, c4, vx, c11, vy, c26, c35, c56, c67, vn, c71]; done) | (simp_all [o_move, shW, sU_self, sU3, sU3a, hS, erH, er, LOW, sU_self, nI_pred, nv_nI, c4, vx, c11, vy, c26, c35, c56, c67, vn, c71]; done)) (⟨S 11, mW_eq rfl (by first | (simp [o_move, shW, sU_self, sU3, sU3a, hS, erH, er, LOW, sU_self, nI_pred, nv_nI, c4, vx, c11, vy, c26, c35, c56, c67, vn, c71, sU_self, sU3, sU3a, sU3b]; done) | (simp_all [o_move, shW, sU_self, sU3, sU3a, hS, erH, er, LOW, sU_self, nI_pred, nv_nI, c4, vx, c11, vy, c26, c35, c56, c67, vn, c71, sU_self, sU3, sU3a, sU3b]; done))⟩)
              · skip
                show G X 0 0 (mW (xT X) o a s S) 74 [(0, .ref o), (1, .int (nI xn)), (2, .int i), (3, .int (nI yn)), (4, .int j), (5, .int (nI nm))] []
                obtain ⟨im, hi, rfl⟩ := nI_of c71
                have vi : nv (nI im) = im := nv_nI hi
                refine g_iload h dX5_move_74 rfl ?_
                refine g_if_lt h 106 dX5_move_76 (by decide) (fun c76 => ?_) (fun c76 => ?_)
                · skip
                  show G X 0 0 (mW (xT X) o a s S) 106 [(0, .ref o), (1, .int (nI xn)), (2, .int (nI im)), (3, .int (nI yn)), (4, .int j), (5, .int (nI nm))] []
                  refine g_aload_n h dX5_move_106 rfl ?_
                  refine g_iconst (v := nI 1) h dX5_move_107 (by decide) ?_
                  refine g_callVW0 h hE (m5_error _ _ _ o a s S 1 (by first | assumption | omega)) 0 rfl rfl (lw_V q1446 q1448 qs35 q95 q1449) gy_X5_error ⟨Nat.le_of_ble_eq_true rfl, Nat.le_of_ble_eq_true rfl⟩ ⟨Nat.le_of_ble_eq_true rfl, Nat.le_of_ble_eq_true rfl⟩ rfl rfl (Nat.le_of_ble_eq_true rfl) dX5_move_108 (st' := [.int (LOW - nI 1)]) rfl (fun _ e108 => ?_)
                  subst e108
                  exact g_iretWv h hE dX5_move_111 (by first | (simp [o_move, shW, sU_self, sU3, sU3a, hS, erH, er, LOW, sU_self, nI_pred, nv_nI, c4, vx, c11, vy, c26, c35, c56, c67, vn, c71, vi, c76]; done) | (simp_all [o_move, shW, sU_self, sU3, sU3a, hS, erH, er, LOW, sU_self, nI_pred, nv_nI, c4, vx, c11, vy, c26, c35, c56, c67, vn, c71, vi, c76]; done)) (⟨S 11, mW_eq rfl (by first | (simp [o_move, shW, sU_self, sU3, sU3a, hS, erH, er, LOW, sU_self, nI_pred, nv_nI, c4, vx, c11, vy, c26, c35, c56, c67, vn, c71, vi, c76, sU_self, sU3, sU3a, sU3b]; done) | (simp_all [o_move, shW, sU_self, sU3, sU3a, hS, erH, er, LOW, sU_self, nI_pred, nv_nI, c4, vx, c11, vy, c26, c35, c56, c67, vn, c71, vi, c76, sU_self, sU3, sU3a, sU3b]; done))⟩)
                · skip
                  show G X 0 0 (mW (xT X) o a s S) 79 [(0, .ref o), (1, .int (nI xn)), (2, .int (nI im)), (3, .int (nI yn)), (4, .int j), (5, .int (nI nm))] []
                  obtain ⟨jm, hj, rfl⟩ := nI_of c76
                  have vj : nv (nI jm) = jm := nv_nI hj
                  refine g_iload_n h dX5_move_79 rfl ?_
                  refine g_aload_n h dX5_move_80 rfl ?_
                  refine g_get h in_X5 0 rfl rfl 17 rfl q1391 rfl rfl dX5_move_81 ?_
                  refine g_iload_n h dX5_move_84 rfl ?_
                  refine g_iald h 10 rfl (by first | assumption | omega) (by decide) dX5_move_85 ?_
                  refine g_toI (y := S 9 xn) (show S 9 xn = _ from rfl) ?_
                  refine g_iload h dX5_move_86 rfl ?_
                  refine g_isub h dX5_move_88 ?_
                  refine g_icmp_gt h 106 dX5_move_89 (by decide) (fun c89 => ?_) (fun c89 => ?_)
                  · skip
                    show G X 0 0 (mW (xT X) o a s S) 106 [(0, .ref o), (1, .int (nI xn)), (2, .int (nI im)), (3, .int (nI yn)), (4, .int (nI jm)), (5, .int (nI nm))] []
                    refine g_aload_n h dX5_move_106 rfl ?_
                    refine g_iconst (v := nI 1) h dX5_move_107 (by decide) ?_
                    refine g_callVW0 h hE (m5_error _ _ _ o a s S 1 (by first | assumption | omega)) 0 rfl rfl (lw_V q1446 q1448 qs35 q95 q1449) gy_X5_error ⟨Nat.le_of_ble_eq_true rfl, Nat.le_of_ble_eq_true rfl⟩ ⟨Nat.le_of_ble_eq_true rfl, Nat.le_of_ble_eq_true rfl⟩ rfl rfl (Nat.le_of_ble_eq_true rfl) dX5_move_108 (st' := [.int (LOW - nI 1)]) rfl (fun _ e108 => ?_)
                    subst e108
                    exact g_iretWv h hE dX5_move_111 (by first | (simp [o_move, shW, sU_self, sU3, sU3a, hS, erH, er, LOW, sU_self, nI_pred, nv_nI, c4, vx, c11, vy, c26, c35, c56, c67, vn, c71, vi, c76, vj, c89]; done) | (simp_all [o_move, shW, sU_self, sU3, sU3a, hS, erH, er, LOW, sU_self, nI_pred, nv_nI, c4, vx, c11, vy, c26, c35, c56, c67, vn, c71, vi, c76, vj, c89]; done)) (⟨S 11, mW_eq rfl (by first | (simp [o_move, shW, sU_self, sU3, sU3a, hS, erH, er, LOW, sU_self, nI_pred, nv_nI, c4, vx, c11, vy, c26, c35, c56, c67, vn, c71, vi, c76, vj, c89, sU_self, sU3, sU3a, sU3b]; done) | (simp_all [o_move, shW, sU_self, sU3, sU3a, hS, erH, er, LOW, sU_self, nI_pred, nv_nI, c4, vx, c11, vy, c26, c35, c56, c67, vn, c71, vi, c76, vj, c89, sU_self, sU3, sU3a, sU3b]; done))⟩)
                  · skip
                    show G X 0 0 (mW (xT X) o a s S) 92 [(0, .ref o), (1, .int (nI xn)), (2, .int (nI im)), (3, .int (nI yn)), (4, .int (nI jm)), (5, .int (nI nm))] []
                    refine g_iload h dX5_move_92 rfl ?_
                    refine g_aload_n h dX5_move_94 rfl ?_
                    refine g_get h in_X5 0 rfl rfl 17 rfl q1391 rfl rfl dX5_move_95 ?_
                    refine g_iload_n h dX5_move_98 rfl ?_
                    refine g_iald h 10 rfl (by first | assumption | omega) (by decide) dX5_move_99 ?_
                    refine g_toI (y := S 9 yn) (show S 9 yn = _ from rfl) ?_
                    refine g_iload h dX5_move_100 rfl ?_
                    refine g_isub h dX5_move_102 ?_
                    refine g_icmp_leC h 112 dX5_move_103 (by decide) (fun c103 => ?_) (fun c103 => ?_)
                    · skip
                      show G X 0 0 (mW (xT X) o a s S) 112 [(0, .ref o), (1, .int (nI xn)), (2, .int (nI im)), (3, .int (nI yn)), (4, .int (nI jm)), (5, .int (nI nm))] []
                      have zx := h0 xn (by omega); have zy := h0 yn (by omega)
                      have b1 := move_le (i := im) zx.2 hn hi (by rw [← zx.1]; exact c89); have b2 := move_le (i := jm) zy.2 hn hj (by rw [← zy.1]; exact c103)
                      have zx2 := zx.2; have zy2 := zy.2
                      refine g_iconst (v := nI 0) h dX5_move_112 (by decide) ?_
                      refine g_istore (lv' := [(0, .ref o), (1, .int (nI xn)), (2, .int (nI im)), (3, .int (nI yn)), (4, .int (nI jm)), (5, .int (nI nm)), (6, .int (nI 0))]) h dX5_move_113 (by decide) rfl ?_
                      have la : ∀ q, q ≤ nm → ∀ (_u : Unit) (Q : Nat → Int32), (∀ k, k < q → Q k = S 10 (24 * xn + im + k)) → G X 0 0 (mW (xT X) o a s (sU S 11 Q)) 115 [(0, .ref o), (1, .int (nI xn)), (2, .int (nI im)), (3, .int (nI yn)), (4, .int (nI jm)), (5, .int (nI nm)), (6, .int (nI q))] [] := by
                        refine g_ind (N := nm) (fun q hi_q ih_la => ?_)
                        intro _u Q e0_la
                        refine g_iload h dX5_move_115 rfl ?_
                        refine g_iload h dX5_move_117 rfl ?_
                        refine g_icmp_geN h 149 dX5_move_119 (by decide) (by first | omega | decide) (by first | omega | decide) (fun c119 => ?_) (fun c119 => ?_)
                        · skip
                          show G X 0 0 (mW (xT X) o a s (sU S 11 Q)) 149 [(0, .ref o), (1, .int (nI xn)), (2, .int (nI im)), (3, .int (nI yn)), (4, .int (nI jm)), (5, .int (nI nm)), (6, .int (nI q))] []
                          refine g_iconst (v := nI 0) h dX5_move_149 (by decide) ?_
                          refine g_istore (lv' := [(0, .ref o), (1, .int (nI xn)), (2, .int (nI im)), (3, .int (nI yn)), (4, .int (nI jm)), (5, .int (nI nm)), (6, .int (nI 0))]) h dX5_move_150 (by decide) rfl ?_
                          have lb : ∀ r, r ≤ nm → ∀ (_u : Unit) (R : Nat → Int32), (R = fo r (movF (S 10) xn im yn jm) (S 10)) → G X 0 0 (mW (xT X) o a s (sU (sU S 11 Q) 10 R)) 152 [(0, .ref o), (1, .int (nI xn)), (2, .int (nI im)), (3, .int (nI yn)), (4, .int (nI jm)), (5, .int (nI nm)), (6, .int (nI r))] [] := by
                            refine g_ind (N := nm) (fun r hi_r ih_lb => ?_)
                            intro _u R e0_lb
                            refine g_iload h dX5_move_152 rfl ?_
                            refine g_iload h dX5_move_154 rfl ?_
                            refine g_icmp_geN h 187 dX5_move_156 (by decide) (by first | omega | decide) (by first | omega | decide) (fun c156 => ?_) (fun c156 => ?_)
                            · skip
                              show G X 0 0 (mW (xT X) o a s (sU (sU S 11 Q) 10 R)) 187 [(0, .ref o), (1, .int (nI xn)), (2, .int (nI im)), (3, .int (nI yn)), (4, .int (nI jm)), (5, .int (nI nm)), (6, .int (nI r))] []
                              refine g_iload h dX5_move_187 rfl ?_
                              exact g_iretWv h hE dX5_move_189 (by first | (simp [o_move, shW, sU_self, sU3, sU3a, hS, erH, er, LOW, sU_self, nI_pred, nv_nI, c4, vx, c11, vy, c26, c35, c56, c67, vn, c71, vi, c76, vj, c89, c103, c119, c156]; done) | (simp_all [o_move, shW, sU_self, sU3, sU3a, hS, erH, er, LOW, sU_self, nI_pred, nv_nI, c4, vx, c11, vy, c26, c35, c56, c67, vn, c71, vi, c76, vj, c89, c103, c119, c156]; done)) (⟨Q, mW_eq rfl (by rw [e0_lb, show r = nm by omega]; have e : o_move (hS S) (S 3) (nI xn) (nI im) (nI yn) (nI jm) (nI nm) = (nI nm, (S 8, S 9, fo nm (movF (S 10) xn im yn jm) (S 10)), S 3) := (by simp only [o_move, hS]; simp [o_move, shW, sU_self, sU3, sU3a, hS, erH, er, LOW, sU_self, nI_pred, nv_nI, c4, vx, c11, vy, c26, c35, c56, c67, vn, c71, vi, c76, vj, c89, c103, c119, c156]); rw [e]; exact (sU3b S Q _).symm)⟩)
                            · skip
                              show G X 0 0 (mW (xT X) o a s (sU (sU S 11 Q) 10 R)) 159 [(0, .ref o), (1, .int (nI xn)), (2, .int (nI im)), (3, .int (nI yn)), (4, .int (nI jm)), (5, .int (nI nm)), (6, .int (nI r))] []
                              refine g_aload_n h dX5_move_159 rfl ?_
                              refine g_get h in_X5 0 rfl rfl 18 rfl q1392 rfl rfl dX5_move_160 ?_
                              refine g_bipush (v := nI 24) h dX5_move_163 (by decide) ?_
                              refine g_iload_n h dX5_move_165 rfl ?_
                              refine g_imulN h dX5_move_166 ?_
                              refine g_iload h dX5_move_167 rfl ?_
                              refine g_iaddN h dX5_move_169 ?_
                              refine g_iload h dX5_move_170 rfl ?_
                              refine g_iaddN h dX5_move_172 ?_
                              refine g_aload_n h dX5_move_173 rfl ?_
                              refine g_get h in_X5 0 rfl rfl 19 rfl q1393 rfl rfl dX5_move_174 ?_
                              refine g_iload h dX5_move_177 rfl ?_
                              refine g_iald h 12 rfl (by first | assumption | omega) (by decide) dX5_move_179 ?_
                              refine g_toI (y := Q r) (show (sU (sU S 11 Q) 10 R) 11 r = _ from rfl) ?_
                              refine g_toI (y := S 10 (24 * xn + im + r)) (e0_la r (by omega)) ?_
                              refine g_iast (ws' := mW (xT X) o a s (sU (sU S 11 Q) 10 (upd R (24 * yn + jm + r) (S 10 (24 * xn + im + r))))) h hE.1 11 rfl (by first | assumption | omega) (by decide) dX5_move_180 rfl ?_
                              refine g_iincN (b := 1) (lv' := [(0, .ref o), (1, .int (nI xn)), (2, .int (nI im)), (3, .int (nI yn)), (4, .int (nI jm)), (5, .int (nI nm)), (6, .int (nI (r + 1)))]) h dX5_move_181 rfl rfl (by decide) rfl ?_
                              refine g_goto h 152 dX5_move_184 (by decide) ?_
                              exact ih_lb (r + 1) (by omega) (by omega) () (upd R (24 * yn + jm + r) (S 10 (24 * xn + im + r))) (by rw [fo_s, ← e0_lb]; rfl)
                          exact lb (0) (by omega) () (S 10) rfl
                        · skip
                          show G X 0 0 (mW (xT X) o a s (sU S 11 Q)) 122 [(0, .ref o), (1, .int (nI xn)), (2, .int (nI im)), (3, .int (nI yn)), (4, .int (nI jm)), (5, .int (nI nm)), (6, .int (nI q))] []
                          refine g_aload_n h dX5_move_122 rfl ?_
                          refine g_get h in_X5 0 rfl rfl 19 rfl q1393 rfl rfl dX5_move_123 ?_
                          refine g_iload h dX5_move_126 rfl ?_
                          refine g_aload_n h dX5_move_128 rfl ?_
                          refine g_get h in_X5 0 rfl rfl 18 rfl q1392 rfl rfl dX5_move_129 ?_
                          refine g_bipush (v := nI 24) h dX5_move_132 (by decide) ?_
                          refine g_iload_n h dX5_move_134 rfl ?_
                          refine g_imulN h dX5_move_135 ?_
                          refine g_iload_n h dX5_move_136 rfl ?_
                          refine g_iaddN h dX5_move_137 ?_
                          refine g_iload h dX5_move_138 rfl ?_
                          refine g_iaddN h dX5_move_140 ?_
                          refine g_iald h 11 rfl (by first | assumption | omega) (by decide) dX5_move_141 ?_
                          refine g_toI (y := S 10 (24 * xn + im + q)) (show (sU S 11 Q) 10 (24 * xn + im + q) = _ from rfl) ?_
                          refine g_iast (ws' := mW (xT X) o a s (sU S 11 (upd Q q (S 10 (24 * xn + im + q))))) h hE.1 12 rfl (by first | assumption | omega) (by decide) dX5_move_142 rfl ?_
                          refine g_iincN (b := 1) (lv' := [(0, .ref o), (1, .int (nI xn)), (2, .int (nI im)), (3, .int (nI yn)), (4, .int (nI jm)), (5, .int (nI nm)), (6, .int (nI (q + 1)))]) h dX5_move_143 rfl rfl (by decide) rfl ?_
                          refine g_goto h 115 dX5_move_146 (by decide) ?_
                          exact ih_la (q + 1) (by omega) (by omega) () (upd Q q (S 10 (24 * xn + im + q))) (fun k hk => by unfold upd; by_cases e : k = q; rw [if_pos e, e]; rw [if_neg e]; exact e0_la k (by omega))
                      exact la (0) (by omega) () (S 11) (fun k hk => absurd hk (by omega))
                    · skip
                      show G X 0 0 (mW (xT X) o a s S) 106 [(0, .ref o), (1, .int (nI xn)), (2, .int (nI im)), (3, .int (nI yn)), (4, .int (nI jm)), (5, .int (nI nm))] []
                      refine g_aload_n h dX5_move_106 rfl ?_
                      refine g_iconst (v := nI 1) h dX5_move_107 (by decide) ?_
                      refine g_callVW0 h hE (m5_error _ _ _ o a s S 1 (by first | assumption | omega)) 0 rfl rfl (lw_V q1446 q1448 qs35 q95 q1449) gy_X5_error ⟨Nat.le_of_ble_eq_true rfl, Nat.le_of_ble_eq_true rfl⟩ ⟨Nat.le_of_ble_eq_true rfl, Nat.le_of_ble_eq_true rfl⟩ rfl rfl (Nat.le_of_ble_eq_true rfl) dX5_move_108 (st' := [.int (LOW - nI 1)]) rfl (fun _ e108 => ?_)
                      subst e108
                      exact g_iretWv h hE dX5_move_111 (by first | (simp [o_move, shW, sU_self, sU3, sU3a, hS, erH, er, LOW, sU_self, nI_pred, nv_nI, c4, vx, c11, vy, c26, c35, c56, c67, vn, c71, vi, c76, vj, c89, c103]; done) | (simp_all [o_move, shW, sU_self, sU3, sU3a, hS, erH, er, LOW, sU_self, nI_pred, nv_nI, c4, vx, c11, vy, c26, c35, c56, c67, vn, c71, vi, c76, vj, c89, c103]; done)) (⟨S 11, mW_eq rfl (by first | (simp [o_move, shW, sU_self, sU3, sU3a, hS, erH, er, LOW, sU_self, nI_pred, nv_nI, c4, vx, c11, vy, c26, c35, c56, c67, vn, c71, vi, c76, vj, c89, c103, sU_self, sU3, sU3a, sU3b]; done) | (simp_all [o_move, shW, sU_self, sU3, sU3a, hS, erH, er, LOW, sU_self, nI_pred, nv_nI, c4, vx, c11, vy, c26, c35, c56, c67, vn, c71, vi, c76, vj, c89, c103, sU_self, sU3, sU3a, sU3b]; done))⟩)
          · skip
            show G X 0 0 (mW (xT X) o a s S) 59 [(0, .ref o), (1, .int (nI xn)), (2, .int i), (3, .int (nI yn)), (4, .int j), (5, .int n)] []
            refine g_aload_n h dX5_move_59 rfl ?_
            refine g_iconst (v := nI 5) h dX5_move_60 (by decide) ?_
            refine g_callVW0 h hE (m5_error _ _ _ o a s S 5 (by first | assumption | omega)) 0 rfl rfl (lw_V q1446 q1448 qs35 q95 q1449) gy_X5_error ⟨Nat.le_of_ble_eq_true rfl, Nat.le_of_ble_eq_true rfl⟩ ⟨Nat.le_of_ble_eq_true rfl, Nat.le_of_ble_eq_true rfl⟩ rfl rfl (Nat.le_of_ble_eq_true rfl) dX5_move_61 (st' := [.int (LOW - nI 5)]) rfl (fun _ e61 => ?_)
            subst e61
            exact g_iretWv h hE dX5_move_64 (by first | (simp [o_move, shW, sU_self, sU3, sU3a, hS, erH, er, LOW, sU_self, nI_pred, nv_nI, c4, vx, c11, vy, c26, c35, c56]; done) | (simp_all [o_move, shW, sU_self, sU3, sU3a, hS, erH, er, LOW, sU_self, nI_pred, nv_nI, c4, vx, c11, vy, c26, c35, c56]; done)) (⟨S 11, mW_eq rfl (by first | (simp [o_move, shW, sU_self, sU3, sU3a, hS, erH, er, LOW, sU_self, nI_pred, nv_nI, c4, vx, c11, vy, c26, c35, c56, sU_self, sU3, sU3a, sU3b]; done) | (simp_all [o_move, shW, sU_self, sU3, sU3a, hS, erH, er, LOW, sU_self, nI_pred, nv_nI, c4, vx, c11, vy, c26, c35, c56, sU_self, sU3, sU3a, sU3b]; done))⟩)
        · skip
          show G X 0 0 (mW (xT X) o a s S) 38 [(0, .ref o), (1, .int (nI xn)), (2, .int i), (3, .int (nI yn)), (4, .int j), (5, .int n)] []
          refine g_aload_n h dX5_move_38 rfl ?_
          refine g_iconst (v := nI 2) h dX5_move_39 (by decide) ?_
          refine g_callVW0 h hE (m5_error _ _ _ o a s S 2 (by first | assumption | omega)) 0 rfl rfl (lw_V q1446 q1448 qs35 q95 q1449) gy_X5_error ⟨Nat.le_of_ble_eq_true rfl, Nat.le_of_ble_eq_true rfl⟩ ⟨Nat.le_of_ble_eq_true rfl, Nat.le_of_ble_eq_true rfl⟩ rfl rfl (Nat.le_of_ble_eq_true rfl) dX5_move_40 (st' := [.int (LOW - nI 2)]) rfl (fun _ e40 => ?_)
          subst e40
          exact g_iretWv h hE dX5_move_43 (by first | (simp [o_move, shW, sU_self, sU3, sU3a, hS, erH, er, LOW, sU_self, nI_pred, nv_nI, c4, vx, c11, vy, c26, c35]; done) | (simp_all [o_move, shW, sU_self, sU3, sU3a, hS, erH, er, LOW, sU_self, nI_pred, nv_nI, c4, vx, c11, vy, c26, c35]; done)) (⟨S 11, mW_eq rfl (by first | (simp [o_move, shW, sU_self, sU3, sU3a, hS, erH, er, LOW, sU_self, nI_pred, nv_nI, c4, vx, c11, vy, c26, c35, sU_self, sU3, sU3a, sU3b]; done) | (simp_all [o_move, shW, sU_self, sU3, sU3a, hS, erH, er, LOW, sU_self, nI_pred, nv_nI, c4, vx, c11, vy, c26, c35, sU_self, sU3, sU3a, sU3b]; done))⟩)
    · skip
      show G X 0 0 (mW (xT X) o a s S) 14 [(0, .ref o), (1, .int (nI xn)), (2, .int i), (3, .int y), (4, .int j), (5, .int n)] []
      refine g_aload_n h dX5_move_14 rfl ?_
      refine g_iconst (v := nI 1) h dX5_move_15 (by decide) ?_
      refine g_callVW0 h hE (m5_error _ _ _ o a s S 1 (by first | assumption | omega)) 0 rfl rfl (lw_V q1446 q1448 qs35 q95 q1449) gy_X5_error ⟨Nat.le_of_ble_eq_true rfl, Nat.le_of_ble_eq_true rfl⟩ ⟨Nat.le_of_ble_eq_true rfl, Nat.le_of_ble_eq_true rfl⟩ rfl rfl (Nat.le_of_ble_eq_true rfl) dX5_move_16 (st' := [.int (LOW - nI 1)]) rfl (fun _ e16 => ?_)
      subst e16
      exact g_iretWv h hE dX5_move_19 (by first | (simp [o_move, shW, sU_self, sU3, sU3a, hS, erH, er, LOW, sU_self, nI_pred, nv_nI, c4, vx, c11]; done) | (simp_all [o_move, shW, sU_self, sU3, sU3a, hS, erH, er, LOW, sU_self, nI_pred, nv_nI, c4, vx, c11]; done)) (⟨S 11, mW_eq rfl (by first | (simp [o_move, shW, sU_self, sU3, sU3a, hS, erH, er, LOW, sU_self, nI_pred, nv_nI, c4, vx, c11, sU_self, sU3, sU3a, sU3b]; done) | (simp_all [o_move, shW, sU_self, sU3, sU3a, hS, erH, er, LOW, sU_self, nI_pred, nv_nI, c4, vx, c11, sU_self, sU3, sU3a, sU3b]; done))⟩)
