/-! THE MODEL: an apology named, put, written down (printed by tools/m61.py) -/
set_option maxRecDepth 100000
set_option maxHeartbeats 4000000

theorem au_reg_MA (j : Int) : au_reg MA j = 0 := rfl
/-- what laws stand on, of the model -/
def EnA (T A : Int → Int) (n : Int) (B Pr : Int → Int) (Lw : au_Lw) : Prop :=
  A 0 = n ∧ (∀ o, 0 ≤ o → o < 10 → A (90 + o) = B o) ∧ Bs B n ∧ (∀ o, 0 ≤ o → o < 10 → A (100 + o) = Pr o) ∧ (∀ o, 0 ≤ o → o < n → 0 ≤ Pr o ∧ Pr o ≤ 9) ∧ TmAt T (A 2) Lw
theorem EnA.fr {T A A' : Int → Int} {n : Int} {B Pr : Int → Int} {Lw : au_Lw} (h : EnA T A n B Pr Lw) {wr : Int} (f : FrW wr A A') : EnA T A' n B Pr Lw := by
  obtain ⟨h1, h2, h3, h4, h5, h6⟩ := h
  exact ⟨(f.1 0 (by decide)).trans h1, fun o a b => (f.1 _ (by omega)).trans (h2 o a b), h3, fun o a b => (f.1 _ (by omega)).trans (h4 o a b), h5, by rw [f.1 2 (by decide)]; exact h6⟩
theorem EnA.g {T A : Int → Int} {n : Int} {B Pr : Int → Int} {Lw : au_Lw} (h : EnA T A n B Pr Lw) (mi : au_A → Int → Int) : rowS mi MA A MA 0 = n ∧ (∀ o, 0 ≤ o → o < 10 → rowS mi MA A MA (90 + o) = B o) ∧ (∀ o, 0 ≤ o → o < 10 → rowS mi MA A MA (100 + o) = Pr o) :=
  ⟨(rowS_self _ _ _ _).trans h.1, fun o a b => (rowS_self _ _ _ _).trans (h.2.1 o a b), fun o a b => (rowS_self _ _ _ _).trans (h.2.2.2.1 o a b)⟩
theorem EnA.gT {A : Int → Int} {n : Int} {B Pr : Int → Int} {Lw : au_Lw} {mi : au_A → Int → Int} (h : EnA (mi MT) A n B Pr Lw) : TmAt (rowS mi MA A MT) (A 2) Lw := by
  rw [rowS_neF _ _ (show MT ≠ MA by decide)]; exact h.2.2.2.2.2
theorem MRow.g {A R : Int → Int} (h : MRow A R) (mi : au_A → Int → Int) : ∀ k w, 0 ≤ k → k < 10 → 0 ≤ w → w ≤ 6 → rowS mi MA A MA (20 + 7 * k + w) = (fun k w => R (3 + 7 * k + w)) k w := fun k w a b c d => (rowS_self _ _ _ _).trans (h.2.2.2.2 k w a b c d)
theorem up1_comm (R : Int → Int) {j k v w : Int} (h : j ≠ k) : up1 (up1 R j v) k w = up1 (up1 R k w) j v := by
  funext i
  unfold up1
  by_cases h1 : i = k
  · rw [if_pos h1, if_neg (by omega), if_pos h1]
  · rw [if_neg h1, if_neg h1]

theorem kX2_getR (G : au_G) (k w : Int) (R : Int → Int) (A : Int → Int) (mi si hi sl : au_A → Int → Int) (r : au_A → Int → Option au_A) (nx : Nat) (hF : Fix r) (hM : MRow A R) (h0 : 0 ≤ k) (h1 : k < 10) (h2 : 0 ≤ w) (h3 : w ≤ 6) : au_Ctr G yX2_get cX2_get 3 (some .int) 0 0 0 [au_r MO, au_i k, au_i w] (rowS mi MA A, si, hi, sl, r, nx) (au_pure (au_i (R (3 + 7 * k + w))) (rowS mi MA A, si, hi, sl, r, nx)) :=
  kX2_getA G k w (rowS mi MA A) si hi sl r nx hF (fun k w => R (3 + 7 * k + w)) (hM.g mi) h0 h1 h2 h3
theorem kX2_put (G : au_G) (k w v : Int) (A : Int → Int) (mi si hi sl : au_A → Int → Int) (r : au_A → Int → Option au_A) (nx : Nat) (hF : Fix r) (h0 : 0 ≤ k) (h1 : k < 10) (h2 : 0 ≤ w) (h3 : w ≤ 6) : au_Ctr G yX2_put cX2_put 4 none 0 0 0 [au_r MO, au_i k, au_i w, au_i v] (rowS mi MA A, si, hi, sl, r, nx) (fun rv M' => rv = none ∧ M' = (rowS mi MA (up1 A (20 + 7 * k + w) v), si, hi, sl, r, nx)) := by
  refine au_of (by decide) (Nat.le_of_ble_eq_true rfl) ?_
  show au_Go G _ _ 0 [some (au_r MO), some (au_i k), some (au_i w), some (au_i v)] [] (rowS mi MA A, si, hi, sl, r, nx) 0 0
  refine au_aload_n dX2_put_0 rfl ?_
  refine au_getf (C := RX2) (T := TX2) (N := 35) in_X2 (by decide) rfl 0 (by decide) rfl rfl q1359 rfl dX2_put_1 (v := au_r MA) (congrArg au_q (fx_MO_0 hF)) ?_
  refine au_bipush dX2_put_4 rfl rfl ?_
  refine au_bipush dX2_put_6 rfl rfl ?_
  refine au_iload_n dX2_put_8 rfl ?_
  refine au_imul dX2_put_9 (by omega) (by omega) ?_
  refine au_iadd dX2_put_10 (by omega) (by omega) ?_
  refine au_iload_n dX2_put_11 rfl ?_
  refine au_iadd dX2_put_12 (by omega) (by omega) ?_
  refine au_iload_n dX2_put_13 rfl ?_
  refine au_iast dX2_put_14 rfl (by decide) (by omega) (by show _ < ((4544 : Nat) : Int); omega) (M' := ((au_up (rowS mi MA A) MA ((20 + (7 * k)) + w) v), si, hi, sl, r, nx)) (au_wv_m (au_reg_MA _)) ?_
  rw [au_up_row (rowS mi MA A) MA ((20 + (7 * k)) + w) v, rowS_selfF, rowS_rowS]
  exact au_vret dX2_put_15 rfl rfl (Nat.le_of_ble_eq_true rfl) (Nat.le_of_ble_eq_true rfl) (⟨rfl, rfl⟩)
theorem kX2_anew (G : au_G) (R : Int → Int) (A : Int → Int) (mi si hi sl : au_A → Int → Int) (r : au_A → Int → Option au_A) (nx : Nat) (hF : Fix r) (hM : MRow A R) (h0 : 0 ≤ R 1) (h1 : R 1 < 30539) : au_Ctr G yX2_anew cX2_anew 1 none 0 0 0 [au_r MO] (rowS mi MA A, si, hi, sl, r, nx) (fun rv M' => rv = none ∧ M' = (rowS mi MA (up1 A 7 ((R 1 * 421 + 307) % 30539)), si, hi, sl, r, nx)) := by
  refine au_of (by decide) (Nat.le_of_ble_eq_true rfl) ?_
  show au_Go G _ _ 0 [some (au_r MO)] [] (rowS mi MA A, si, hi, sl, r, nx) 0 0
  refine au_aload_n dX2_anew_0 rfl ?_
  refine au_getf (C := RX2) (T := TX2) (N := 35) in_X2 (by decide) rfl 0 (by decide) rfl rfl q1359 rfl dX2_anew_1 (v := au_r MA) (congrArg au_q (fx_MO_0 hF)) ?_
  refine au_bipush dX2_anew_4 rfl rfl ?_
  refine au_aload_n dX2_anew_6 rfl ?_
  refine au_getf (C := RX2) (T := TX2) (N := 35) in_X2 (by decide) rfl 0 (by decide) rfl rfl q1359 rfl dX2_anew_7 (v := au_r MA) (congrArg au_q (fx_MO_0 hF)) ?_
  refine au_bipush dX2_anew_10 rfl rfl ?_
  refine au_iald dX2_anew_12 rfl (by omega) (by show _ < ((4544 : Nat) : Int); omega) (v := au_i (R 1)) (congrArg au_i (((au_gi_m (au_reg_MA _)).trans (show rowS mi MA A MA 7 = A 7 from (rowS_self _ _ _ _).trans (rfl))).trans (hM.2.1))) ?_
  refine au_i2l dX2_anew_13 ?_
  refine au_ldc2 q1771 rfl dX2_anew_14 ?_
  show au_Go G _ _ 17 [some (au_r MO)] [au_l 421, au_l (R 1), au_i 7, au_r MA] ((rowS mi MA A), si, hi, sl, r, nx) 0 0
  refine au_lmul dX2_anew_17 (by omega) (by omega) ?_
  refine au_ldc2 q1772 rfl dX2_anew_18 ?_
  show au_Go G _ _ 21 [some (au_r MO)] [au_l 307, au_l ((R 1) * 421), au_i 7, au_r MA] ((rowS mi MA A), si, hi, sl, r, nx) 0 0
  refine au_ladd dX2_anew_21 (by omega) (by omega) ?_
  refine au_ldc2 q1773 rfl dX2_anew_22 ?_
  show au_Go G _ _ 25 [some (au_r MO)] [au_l 30539, au_l (((R 1) * 421) + 307), au_i 7, au_r MA] ((rowS mi MA A), si, hi, sl, r, nx) 0 0
  refine au_lrem dX2_anew_25 (by omega) (by omega) ?_
  refine au_l2i dX2_anew_26 (by omega) (by omega) ?_
  refine au_iast dX2_anew_27 rfl (by decide) (by omega) (by show _ < ((4544 : Nat) : Int); omega) (M' := ((au_up (rowS mi MA A) MA 7 ((((R 1) * 421) + 307) % 30539)), si, hi, sl, r, nx)) (au_wv_m (au_reg_MA _)) ?_
  rw [au_up_row (rowS mi MA A) MA 7 ((((R 1) * 421) + 307) % 30539), rowS_selfF, rowS_rowS]
  exact au_vret dX2_anew_28 rfl rfl (Nat.le_of_ble_eq_true rfl) (Nat.le_of_ble_eq_true rfl) (⟨rfl, rfl⟩)
theorem kX2_write (G : au_G) (k w wr : Int) (R : Int → Int) (A : Int → Int) (mi si hi sl : au_A → Int → Int) (r : au_A → Int → Option au_A) (nx : Nat) (hF : Fix r) (hW : mi MO 23 = wr) (hwr : wr = 0 ∨ wr = 1) (hM : MRel wr A R) (k0 : 0 ≤ k) (k1 : k < 10) (w0 : 0 ≤ w) (w1 : w ≤ 3) (h0 : 0 ≤ R 83 ∧ R 83 ≤ 30) (d0 : 0 ≤ R 0 ∧ R 0 ≤ 10000) (s0 : 0 ≤ R (3 + 7 * k + 3) ∧ R (3 + 7 * k + 3) ≤ 9999) : au_Ctr G yX2_write cX2_write 4 none 1 0 0 [au_r MO, au_i k, au_i w] (rowS mi MA A, si, hi, sl, r, nx) (fun rv M' => rv = none ∧ ∃ A' : Int → Int, M' = (rowS mi MA A', si, hi, sl, r, nx) ∧ MRel wr A' (wrF R k w) ∧ FrW wr A A') := by
  refine au_of (by decide) (Nat.le_of_ble_eq_true rfl) ?_
  rcases hwr with rfl | rfl
  show au_Go G _ _ 0 [some (au_r MO), some (au_i k), some (au_i w), none] [] (rowS mi MA A, si, hi, sl, r, nx) 0 0
  · refine au_aload_n dX2_write_0 rfl ?_
    refine au_getf (C := RX2) (T := TX2) (N := 35) in_X2 (by decide) rfl 23 (by decide) rfl rfl q1382 rfl dX2_write_1 (v := au_i (0)) (congrArg au_i hW) ?_
    refine au_if_ne (tgt := 8) dX2_write_4 (by decide) (fun c4 => ?_) (fun c4 => ?_)
    · exact absurd c4 (by decide)
    · exact au_vret dX2_write_7 rfl rfl (Nat.le_of_ble_eq_true rfl) (Nat.le_of_ble_eq_true rfl) (⟨rfl, A, rfl, hM.wr0 h0.1 h0.2 k w, FrW.rf 0 A⟩)
  · have e9 := (hM.2 rfl).1.1
    have e91 : 0 ≤ mw1 A 9 ∧ mw1 A 9 < 30 := by
      unfold mw1
      split
      · exact ⟨by show (0 : Int) ≤ 29; decide, by show (29 : Int) < 30; decide⟩
      · omega
    have eo : ∀ j, 6 ≤ j → j < 90 → j ≠ 9 → mw1 A j = A j := fun j j0 j1 j2 => by
      unfold mw1
      split
      · show (if j = 9 then _ else _) = _
        rw [if_neg j2, if_neg (by omega)]
      · rfl
    have e6 : mw1 A 6 = R 0 := (eo 6 (by decide) (by decide) (by decide)).trans hM.1.1
    have hM1 : MRow (mw1 A) (wr1 R) ∧ True := ⟨hM.1.of eo (fun j _ j1 => wr1_lo R j1), trivial⟩
    have e3 : wr1 R (3 + 7 * k + 3) = R (3 + 7 * k + 3) := wr1_lo R (by omega)
    have h67 : ∀ x3, au_Go G (yX2_write.cls, cX2_write, 4, none, au_rm 1 0 0, yX2_write.name) (au_QM G (au_rm 1 0 0) (fun rv M' => rv = none ∧ ∃ A' : Int → Int, M' = (rowS mi MA A', si, hi, sl, r, nx) ∧ MRel 1 A' (wrF R k w) ∧ FrW 1 A A')) 67 [some (au_r MO), some (au_i k), some (au_i w), x3] [] (rowS mi MA (mw1 A), si, hi, sl, r, nx) 0 0 := by
      intro x3
      refine au_aload_n dX2_write_67 rfl ?_
      refine au_getf (C := RX2) (T := TX2) (N := 35) in_X2 (by decide) rfl 0 (by decide) rfl rfl q1359 rfl dX2_write_68 (v := au_r MA) (congrArg au_q (fx_MO_0 hF)) ?_
      refine au_sipush dX2_write_71 rfl rfl ?_
      refine au_iconst dX2_write_74 rfl rfl ?_
      refine au_aload_n dX2_write_75 rfl ?_
      refine au_getf (C := RX2) (T := TX2) (N := 35) in_X2 (by decide) rfl 0 (by decide) rfl rfl q1359 rfl dX2_write_76 (v := au_r MA) (congrArg au_q (fx_MO_0 hF)) ?_
      refine au_bipush dX2_write_79 rfl rfl ?_
      refine au_iald dX2_write_81 rfl (by omega) (by show _ < ((4544 : Nat) : Int); omega) (v := au_i ((mw1 A) 9)) (congrArg au_i (((au_gi_m (au_reg_MA _)).trans (show rowS mi MA (mw1 A) MA 9 = (mw1 A) 9 from (rowS_self _ _ _ _).trans (rfl))).trans (rfl))) ?_
      refine au_imul dX2_write_82 (by omega) (by omega) ?_
      refine au_iadd dX2_write_83 (by omega) (by omega) ?_
      refine au_aload_n dX2_write_84 rfl ?_
      refine au_getf (C := RX2) (T := TX2) (N := 35) in_X2 (by decide) rfl 0 (by decide) rfl rfl q1359 rfl dX2_write_85 (v := au_r MA) (congrArg au_q (fx_MO_0 hF)) ?_
      refine au_bipush dX2_write_88 rfl rfl ?_
      refine au_iald dX2_write_90 rfl (by omega) (by show _ < ((4544 : Nat) : Int); omega) (v := au_i (R 0)) (congrArg au_i (((au_gi_m (au_reg_MA _)).trans (show rowS mi MA (mw1 A) MA 6 = (mw1 A) 6 from (rowS_self _ _ _ _).trans (rfl))).trans (e6))) ?_
      refine au_iast dX2_write_91 rfl (by decide) (by omega) (by show _ < ((4544 : Nat) : Int); omega) (M' := ((au_up (rowS mi MA (mw1 A)) MA (4484 + (2 * ((mw1 A) 9))) (R 0)), si, hi, sl, r, nx)) (au_wv_m (au_reg_MA _)) ?_
      rw [au_up_row (rowS mi MA (mw1 A)) MA (4484 + (2 * ((mw1 A) 9))) (R 0), rowS_selfF, rowS_rowS]
      refine au_aload_n dX2_write_92 rfl ?_
      refine au_getf (C := RX2) (T := TX2) (N := 35) in_X2 (by decide) rfl 0 (by decide) rfl rfl q1359 rfl dX2_write_93 (v := au_r MA) (congrArg au_q (fx_MO_0 hF)) ?_
      refine au_sipush dX2_write_96 rfl rfl ?_
      refine au_iconst dX2_write_99 rfl rfl ?_
      refine au_aload_n dX2_write_100 rfl ?_
      refine au_getf (C := RX2) (T := TX2) (N := 35) in_X2 (by decide) rfl 0 (by decide) rfl rfl q1359 rfl dX2_write_101 (v := au_r MA) (congrArg au_q (fx_MO_0 hF)) ?_
      refine au_bipush dX2_write_104 rfl rfl ?_
      refine au_iald dX2_write_106 rfl (by omega) (by show _ < ((4544 : Nat) : Int); omega) (v := au_i ((mw1 A) 9)) (congrArg au_i (((au_gi_m (au_reg_MA _)).trans (show rowS mi MA (up1 (mw1 A) (4484 + (2 * ((mw1 A) 9))) (R 0)) MA 9 = (mw1 A) 9 from (rowS_self _ _ _ _).trans ((up1_ne _ _ (show 9 ≠ (4484 + (2 * ((mw1 A) 9))) by omega)).trans (rfl)))).trans (rfl))) ?_
      refine au_imul dX2_write_107 (by omega) (by omega) ?_
      refine au_iadd dX2_write_108 (by omega) (by omega) ?_
      refine au_iconst dX2_write_109 rfl rfl ?_
      refine au_iadd dX2_write_110 (by omega) (by omega) ?_
      refine au_iload_n dX2_write_111 rfl ?_
      refine au_iconst dX2_write_112 rfl rfl ?_
      refine au_imul dX2_write_113 (by omega) (by omega) ?_
      refine au_iload_n dX2_write_114 rfl ?_
      refine au_iadd dX2_write_115 (by omega) (by omega) ?_
      refine au_sipush dX2_write_116 rfl rfl ?_
      refine au_imul dX2_write_119 (by omega) (by omega) ?_
      refine au_aload_n dX2_write_120 rfl ?_
      refine au_iload_n dX2_write_121 rfl ?_
      refine au_iconst dX2_write_122 rfl rfl ?_
      refine au_callVp (n := 2) (kX2_getR G k 3 (wr1 R) (up1 (mw1 A) (4484 + (2 * ((mw1 A) 9))) (R 0)) mi si hi sl r nx hF (hM1.1.of (fun j j0 j1 j2 => up1_ne _ _ (by omega)) (fun _ _ _ => rfl)) (by omega) (by omega) (by decide) (by decide)) (lw_V q1694 q1696 qs93 q134 q1697) rfl (by decide +kernel) (by decide) (T := TX2) (N := 35) rfl rfl rfl rfl (Nat.le_of_ble_eq_true rfl) (Nat.le_of_ble_eq_true rfl) (Nat.le_of_ble_eq_true rfl) (Nat.le_of_ble_eq_true rfl) (Nat.le_of_ble_eq_true rfl) dX2_write_123 ?_
      refine au_iadd dX2_write_126 (by omega) (by omega) ?_
      refine au_iast dX2_write_127 rfl (by decide) (by omega) (by show _ < ((4544 : Nat) : Int); omega) (M' := ((au_up (rowS mi MA (up1 (mw1 A) (4484 + (2 * ((mw1 A) 9))) (R 0))) MA ((4484 + (2 * ((mw1 A) 9))) + 1) ((((k * 4) + w) * 10000) + ((wr1 R) (3 + 7 * k + 3)))), si, hi, sl, r, nx)) (au_wv_m (au_reg_MA _)) ?_
      rw [au_up_row (rowS mi MA (up1 (mw1 A) (4484 + (2 * ((mw1 A) 9))) (R 0))) MA ((4484 + (2 * ((mw1 A) 9))) + 1) ((((k * 4) + w) * 10000) + ((wr1 R) (3 + 7 * k + 3))), rowS_selfF, rowS_rowS]
      refine au_aload_n dX2_write_128 rfl ?_
      refine au_getf (C := RX2) (T := TX2) (N := 35) in_X2 (by decide) rfl 0 (by decide) rfl rfl q1359 rfl dX2_write_129 (v := au_r MA) (congrArg au_q (fx_MO_0 hF)) ?_
      refine au_bipush dX2_write_132 rfl rfl ?_
      refine au_dup2 dX2_write_134 rfl rfl ?_
      refine au_iald dX2_write_135 rfl (by omega) (by show _ < ((4544 : Nat) : Int); omega) (v := au_i ((mw1 A) 9)) (congrArg au_i (((au_gi_m (au_reg_MA _)).trans (show rowS mi MA (up1 (up1 (mw1 A) (4484 + (2 * ((mw1 A) 9))) (R 0)) ((4484 + (2 * ((mw1 A) 9))) + 1) ((((k * 4) + w) * 10000) + ((wr1 R) (3 + 7 * k + 3)))) MA 9 = (mw1 A) 9 from (rowS_self _ _ _ _).trans ((up1_ne _ _ (show 9 ≠ ((4484 + (2 * ((mw1 A) 9))) + 1) by omega)).trans ((up1_ne _ _ (show 9 ≠ (4484 + (2 * ((mw1 A) 9))) by omega)).trans (rfl))))).trans (rfl))) ?_
      refine au_iconst dX2_write_136 rfl rfl ?_
      refine au_iadd dX2_write_137 (by omega) (by omega) ?_
      refine au_iast dX2_write_138 rfl (by decide) (by omega) (by show _ < ((4544 : Nat) : Int); omega) (M' := ((au_up (rowS mi MA (up1 (up1 (mw1 A) (4484 + (2 * ((mw1 A) 9))) (R 0)) ((4484 + (2 * ((mw1 A) 9))) + 1) ((((k * 4) + w) * 10000) + ((wr1 R) (3 + 7 * k + 3))))) MA 9 (((mw1 A) 9) + 1)), si, hi, sl, r, nx)) (au_wv_m (au_reg_MA _)) ?_
      rw [au_up_row (rowS mi MA (up1 (up1 (mw1 A) (4484 + (2 * ((mw1 A) 9))) (R 0)) ((4484 + (2 * ((mw1 A) 9))) + 1) ((((k * 4) + w) * 10000) + ((wr1 R) (3 + 7 * k + 3))))) MA 9 (((mw1 A) 9) + 1), rowS_selfF, rowS_rowS]
      refine au_vret dX2_write_139 rfl rfl (Nat.le_of_ble_eq_true rfl) (Nat.le_of_ble_eq_true rfl) ?_
      refine ⟨rfl, _, rfl, ?_, ?_⟩
      · have := (hM.wr h0.1 h0.2 k0 (by omega) w0 w1 s0.1 s0.2).1
        unfold mw2 at this
        rw [e3]
        exact this
      · have := (hM.wr h0.1 h0.2 k0 (by omega) w0 w1 s0.1 s0.2).2
        unfold mw2 at this
        rw [e3]
        exact this
    refine au_aload_n dX2_write_0 rfl ?_
    refine au_getf (C := RX2) (T := TX2) (N := 35) in_X2 (by decide) rfl 23 (by decide) rfl rfl q1382 rfl dX2_write_1 (v := au_i (1)) (congrArg au_i hW) ?_
    refine au_if_ne (tgt := 8) dX2_write_4 (by decide) (fun c4 => ?_) (fun c4 => ?_)
    · refine au_aload_n dX2_write_8 rfl ?_
      refine au_getf (C := RX2) (T := TX2) (N := 35) in_X2 (by decide) rfl 0 (by decide) rfl rfl q1359 rfl dX2_write_9 (v := au_r MA) (congrArg au_q (fx_MO_0 hF)) ?_
      refine au_bipush dX2_write_12 rfl rfl ?_
      refine au_iald dX2_write_14 rfl (by omega) (by show _ < ((4544 : Nat) : Int); omega) (v := au_i (A 9)) (congrArg au_i ((au_gi_m (au_reg_MA _)).trans (show rowS mi MA A MA 9 = A 9 from (rowS_self _ _ _ _).trans (rfl)))) ?_
      refine au_bipush dX2_write_15 rfl rfl ?_
      refine au_icmp_ne (tgt := 67) dX2_write_17 (by decide) (fun c17 => ?_) (fun c17 => ?_)
      · have eq : A = mw1 A := by
          unfold mw1
          rw [if_neg c17]
        have h := h67 none
        rw [← eq] at h
        exact h
      · refine au_iconst dX2_write_20 rfl rfl ?_
        refine au_istore_n dX2_write_21 (show 3 < 4 by decide) ?_
        show au_Go G _ _ 22 [some (au_r MO), some (au_i k), some (au_i w), some (au_i 2)] [] ((rowS mi MA A), si, hi, sl, r, nx) 0 0
        have hl : ∀ (f : Nat) (i : Int) (Ai : Int → Int), 2 ≤ i → i ≤ 60 → (∀ j, Ai j = if 4484 ≤ j ∧ j < 4484 + i - 2 then A (j + 2) else A j) → 60 - i < (f : Int) → au_Go G (yX2_write.cls, cX2_write, 4, none, au_rm 1 0 0, yX2_write.name) (au_QM G (au_rm 1 0 0) (fun rv M' => rv = none ∧ ∃ A' : Int → Int, M' = (rowS mi MA A', si, hi, sl, r, nx) ∧ MRel 1 A' (wrF R k w) ∧ FrW 1 A A')) 22 [some (au_r MO), some (au_i k), some (au_i w), some (au_i i)] [] (rowS mi MA Ai, si, hi, sl, r, nx) 0 0 := by
          intro f
          induction f with
          | zero => intro i Ai i0 i1 hA hf; exfalso; omega
          | succ f ih =>
            intro i Ai i0 i1 hA hf
            refine au_iload_n dX2_write_22 rfl ?_
            refine au_bipush dX2_write_23 rfl rfl ?_
            refine au_icmp_ge (tgt := 56) dX2_write_25 (by decide) (fun c25 => ?_) (fun c25 => ?_)
            · refine au_aload_n dX2_write_56 rfl ?_
              refine au_getf (C := RX2) (T := TX2) (N := 35) in_X2 (by decide) rfl 0 (by decide) rfl rfl q1359 rfl dX2_write_57 (v := au_r MA) (congrArg au_q (fx_MO_0 hF)) ?_
              refine au_bipush dX2_write_60 rfl rfl ?_
              refine au_dup2 dX2_write_62 rfl rfl ?_
              refine au_iald dX2_write_63 rfl (by omega) (by show _ < ((4544 : Nat) : Int); omega) (v := au_i (30)) (congrArg au_i (((au_gi_m (au_reg_MA _)).trans (show rowS mi MA Ai MA 9 = Ai 9 from (rowS_self _ _ _ _).trans (rfl))).trans (((hA 9).trans (if_neg (by omega))).trans c17))) ?_
              refine au_iconst dX2_write_64 rfl rfl ?_
              refine au_isub dX2_write_65 (by omega) (by omega) ?_
              refine au_iast dX2_write_66 rfl (by decide) (by omega) (by show _ < ((4544 : Nat) : Int); omega) (M' := ((au_up (rowS mi MA Ai) MA 9 (30 - 1)), si, hi, sl, r, nx)) (au_wv_m (au_reg_MA _)) ?_
              rw [au_up_row (rowS mi MA Ai) MA 9 (30 - 1), rowS_selfF, rowS_rowS]
              have eq : up1 Ai 9 (30 - 1) = mw1 A := by
                funext j
                unfold up1 mw1
                rw [if_pos c17]
                show _ = if j = 9 then 29 else if 4484 ≤ j ∧ j < 4542 then A (j + 2) else A j
                by_cases e : j = 9
                · rw [if_pos e, if_pos e]; rfl
                · rw [if_neg e, if_neg e, hA]
                  have hi60 : i = 60 := by omega
                  rw [hi60]
                  by_cases e2 : 4484 ≤ j ∧ j < 4542
                  · rw [if_pos e2, if_pos (by omega)]
                  · rw [if_neg e2, if_neg (by omega)]
              rw [eq]
              exact h67 _
            · refine au_aload_n dX2_write_28 rfl ?_
              refine au_getf (C := RX2) (T := TX2) (N := 35) in_X2 (by decide) rfl 0 (by decide) rfl rfl q1359 rfl dX2_write_29 (v := au_r MA) (congrArg au_q (fx_MO_0 hF)) ?_
              refine au_sipush dX2_write_32 rfl rfl ?_
              refine au_iload_n dX2_write_35 rfl ?_
              refine au_iadd dX2_write_36 (by omega) (by omega) ?_
              refine au_iconst dX2_write_37 rfl rfl ?_
              refine au_isub dX2_write_38 (by omega) (by omega) ?_
              refine au_aload_n dX2_write_39 rfl ?_
              refine au_getf (C := RX2) (T := TX2) (N := 35) in_X2 (by decide) rfl 0 (by decide) rfl rfl q1359 rfl dX2_write_40 (v := au_r MA) (congrArg au_q (fx_MO_0 hF)) ?_
              refine au_sipush dX2_write_43 rfl rfl ?_
              refine au_iload_n dX2_write_46 rfl ?_
              refine au_iadd dX2_write_47 (by omega) (by omega) ?_
              refine au_iald dX2_write_48 rfl (by omega) (by show _ < ((4544 : Nat) : Int); omega) (v := au_i (Ai (4484 + i))) (congrArg au_i ((au_gi_m (au_reg_MA _)).trans (show rowS mi MA Ai MA (4484 + i) = Ai (4484 + i) from (rowS_self _ _ _ _).trans (rfl)))) ?_
              refine au_iast dX2_write_49 rfl (by decide) (by omega) (by show _ < ((4544 : Nat) : Int); omega) (M' := ((au_up (rowS mi MA Ai) MA ((4484 + i) - 2) (Ai (4484 + i))), si, hi, sl, r, nx)) (au_wv_m (au_reg_MA _)) ?_
              rw [au_up_row (rowS mi MA Ai) MA ((4484 + i) - 2) (Ai (4484 + i)), rowS_selfF, rowS_rowS]
              refine au_iinc dX2_write_50 rfl (show 3 < 4 by decide) (by omega) (by omega) (by decide) (by decide) ?_
              show au_Go G _ _ 53 [some (au_r MO), some (au_i k), some (au_i w), some (au_i (i + 1))] [] ((rowS mi MA (up1 Ai ((4484 + i) - 2) (Ai (4484 + i)))), si, hi, sl, r, nx) 0 0
              refine au_goto (tgt := 22) dX2_write_53 (by decide) ?_
              refine ih _ _ (by omega) (by omega) (fun j => ?_) (by omega)
              unfold up1
              by_cases e : j = 4484 + i - 2
              · rw [if_pos e, if_pos (by omega), e, hA, if_neg (by omega)]
                congr 1
                omega
              · rw [if_neg e, hA]
                by_cases e2 : 4484 ≤ j ∧ j < 4484 + i - 2
                · rw [if_pos e2, if_pos (by omega)]
                · rw [if_neg e2, if_neg (by omega)]
        exact hl 61 2 A (by decide) (by decide) (fun j => by rw [if_neg (by omega)]) (by decide)
    · exact absurd c4 (by decide)
theorem kX2_nameApology (G : au_G) (q who n : Int) (B Pr : Int → Int) (Lw : au_Lw) (R T : Int → Int) (A : Int → Int) (mi si hi sl : au_A → Int → Int) (r : au_A → Int → Option au_A) (nx : Nat) (hF : Fix r) (hE : EnA T A n B Pr Lw) (hM : MRow A R) (hR : RowIn R n) (q0 : 0 ≤ q) (q1 : q < R 2) (w0 : 0 ≤ who) (w1 : who < n) : au_Ctr G yX2_nameApology cX2_nameApology 3 none 2 0 0 [au_r MO, au_i q, au_i who] (rowS mi MA A, si, hi, sl, r, nx) (fun rv M' => rv = none ∧ ∃ sj : au_A → Int → Int, M' = (rowS mi MA A, sj, hi, sl, r, nx) ∧ (∀ a, a ≠ MNamed → sj a = si a) ∧ ∀ k, 0 ≤ k → k < 9 → sj MNamed k = nmA B Pr n R q who k) := by
  refine au_of (by decide) (Nat.le_of_ble_eq_true rfl) ?_
  have hB := hE.2.2.1
  have hb0 := hB.2.1
  have hb1 := hB.1
  obtain ⟨⟨r0, r0b⟩, ⟨r1, r1b⟩, ⟨r2, r2b⟩, ⟨r83, r83b⟩, rA⟩ := id hR
  obtain ⟨⟨f0, f0b⟩, ⟨t0, t0b⟩, ⟨p0, p0b⟩, ⟨s0, s0b⟩, ⟨z0, z0b⟩, ⟨g0, g0b⟩⟩ := id (rA q q0 q1)
  obtain ⟨gN, gE, gP⟩ := hE.g mi
  have hM_ : MRow A R ∧ True := ⟨hM, trivial⟩
  have g6 : rowS mi MA A MA 6 = R 0 := (rowS_self _ _ _ _).trans hM.1
  have hdk := dkN_bd (fun k w => R (3 + 7 * k + w)) who q (R 2).toNat
  show au_Go G _ _ 0 [some (au_r MO), some (au_i q), some (au_i who)] [] (rowS mi MA A, si, hi, sl, r, nx) 0 0
  refine au_aload_n dX2_nameApology_0 rfl ?_
  refine au_iload_n dX2_nameApology_1 rfl ?_
  refine au_aload_n dX2_nameApology_2 rfl ?_
  refine au_iload_n dX2_nameApology_3 rfl ?_
  refine au_iconst dX2_nameApology_4 rfl rfl ?_
  refine au_callVp (n := 2) (kX2_getR G q 3 R A mi si hi sl r nx hF hM_.1 (by omega) (by omega) (by decide) (by decide)) (lw_V q1694 q1696 qs93 q134 q1697) rfl (by decide +kernel) (by decide) (T := TX2) (N := 35) rfl rfl rfl rfl (Nat.le_of_ble_eq_true rfl) (Nat.le_of_ble_eq_true rfl) (Nat.le_of_ble_eq_true rfl) (Nat.le_of_ble_eq_true rfl) (Nat.le_of_ble_eq_true rfl) dX2_nameApology_5 ?_
  refine au_aload_n dX2_nameApology_8 rfl ?_
  refine au_iload_n dX2_nameApology_9 rfl ?_
  refine au_iconst dX2_nameApology_10 rfl rfl ?_
  refine au_callVp (n := 2) (kX2_getR G q 0 R A mi si hi sl r nx hF hM_.1 (by omega) (by omega) (by decide) (by decide)) (lw_V q1694 q1696 qs93 q134 q1697) rfl (by decide +kernel) (by decide) (T := TX2) (N := 35) rfl rfl rfl rfl (Nat.le_of_ble_eq_true rfl) (Nat.le_of_ble_eq_true rfl) (Nat.le_of_ble_eq_true rfl) (Nat.le_of_ble_eq_true rfl) (Nat.le_of_ble_eq_true rfl) dX2_nameApology_11 ?_
  refine au_aload_n dX2_nameApology_14 rfl ?_
  refine au_iload_n dX2_nameApology_15 rfl ?_
  refine au_iconst dX2_nameApology_16 rfl rfl ?_
  refine au_callVp (n := 2) (kX2_getR G q 1 R A mi si hi sl r nx hF hM_.1 (by omega) (by omega) (by decide) (by decide)) (lw_V q1694 q1696 qs93 q134 q1697) rfl (by decide +kernel) (by decide) (T := TX2) (N := 35) rfl rfl rfl rfl (Nat.le_of_ble_eq_true rfl) (Nat.le_of_ble_eq_true rfl) (Nat.le_of_ble_eq_true rfl) (Nat.le_of_ble_eq_true rfl) (Nat.le_of_ble_eq_true rfl) dX2_nameApology_17 ?_
  refine au_callV (n := 4) (kX2_name G who (R (3 + 7 * q + 3)) (R (3 + 7 * q + 0)) (R (3 + 7 * q + 1)) (rowS mi MA A) si hi sl r nx hF n gN B gE hB Pr gP w0 w1) (lw_V q1718 q1720 qs98 q134 q1721) rfl (by decide +kernel) (by decide) (T := TX2) (N := 35) rfl rfl rfl rfl (Nat.le_of_ble_eq_true rfl) (Nat.le_of_ble_eq_true rfl) (Nat.le_of_ble_eq_true rfl) (Nat.le_of_ble_eq_true rfl) (Nat.le_of_ble_eq_true rfl) dX2_nameApology_20 (fun rv_ M_ hp_ => ?_)
  obtain ⟨rfl, s1, rfl, hg1, hg2⟩ := hp_
  rw [g6] at hg2
  show au_Go G _ _ 23 [some (au_r MO), some (au_i q), some (au_i who)] [] ((rowS mi MA A), s1, hi, sl, r, nx) 0 0
  refine au_aload_n dX2_nameApology_23 rfl ?_
  refine au_getf (C := RX2) (T := TX2) (N := 35) in_X2 (by decide) rfl 20 (by decide) rfl rfl q1379 rfl dX2_nameApology_24 (v := au_r MNamed) (congrArg au_q (fx_MO_20 hF)) ?_
  refine au_bipush dX2_nameApology_27 rfl rfl ?_
  refine au_aload_n dX2_nameApology_29 rfl ?_
  refine au_getf (C := RX2) (T := TX2) (N := 35) in_X2 (by decide) rfl 0 (by decide) rfl rfl q1359 rfl dX2_nameApology_30 (v := au_r MA) (congrArg au_q (fx_MO_0 hF)) ?_
  refine au_bipush dX2_nameApology_33 rfl rfl ?_
  refine au_iald dX2_nameApology_35 rfl (by omega) (by show _ < ((4544 : Nat) : Int); omega) (v := au_i (R 0)) (congrArg au_i (((au_gi_m (au_reg_MA _)).trans (show rowS mi MA A MA 6 = A 6 from (rowS_self _ _ _ _).trans (rfl))).trans (hM.1))) ?_
  refine au_aload_n dX2_nameApology_36 rfl ?_
  refine au_iload_n dX2_nameApology_37 rfl ?_
  refine au_iconst dX2_nameApology_38 rfl rfl ?_
  refine au_callVp (n := 2) (kX2_getR G q 5 R A mi s1 hi sl r nx hF hM_.1 (by omega) (by omega) (by decide) (by decide)) (lw_V q1694 q1696 qs93 q134 q1697) rfl (by decide +kernel) (by decide) (T := TX2) (N := 35) rfl rfl rfl rfl (Nat.le_of_ble_eq_true rfl) (Nat.le_of_ble_eq_true rfl) (Nat.le_of_ble_eq_true rfl) (Nat.le_of_ble_eq_true rfl) (Nat.le_of_ble_eq_true rfl) dX2_nameApology_39 ?_
  refine au_isub dX2_nameApology_42 (by omega) (by omega) ?_
  refine au_iast dX2_nameApology_43 rfl (by decide) (by omega) (by show _ < ((9 : Nat) : Int); omega) (M' := ((rowS mi MA A), (au_up s1 MNamed 7 ((R 0) - (R (3 + 7 * q + 5)))), hi, sl, r, nx)) (by rfl) ?_
  refine au_aload_n dX2_nameApology_44 rfl ?_
  refine au_getf (C := RX2) (T := TX2) (N := 35) in_X2 (by decide) rfl 20 (by decide) rfl rfl q1379 rfl dX2_nameApology_45 (v := au_r MNamed) (congrArg au_q (fx_MO_20 hF)) ?_
  refine au_bipush dX2_nameApology_48 rfl rfl ?_
  refine au_aload_n dX2_nameApology_50 rfl ?_
  refine au_iload_n dX2_nameApology_51 rfl ?_
  refine au_iload_n dX2_nameApology_52 rfl ?_
  refine au_callVp (n := 2) (kX2_deskOf G who q (rowS mi MA A) (au_up s1 MNamed 7 ((R 0) - (R (3 + 7 * q + 5)))) hi sl r nx hF (R 2) ((rowS_self _ _ _ _).trans hM.2.2.1) ⟨r2, r2b⟩ (fun k w => R (3 + 7 * k + w)) (hM.g mi)) (lw_V q1726 q1728 qs100 q134 q1729) rfl (by decide +kernel) (by decide) (T := TX2) (N := 35) rfl rfl rfl rfl (Nat.le_of_ble_eq_true rfl) (Nat.le_of_ble_eq_true rfl) (Nat.le_of_ble_eq_true rfl) (Nat.le_of_ble_eq_true rfl) (Nat.le_of_ble_eq_true rfl) dX2_nameApology_53 ?_
  refine au_iast dX2_nameApology_56 rfl (by decide) (by omega) (by show _ < ((9 : Nat) : Int); omega) (M' := ((rowS mi MA A), (au_up (au_up s1 MNamed 7 ((R 0) - (R (3 + 7 * q + 5)))) MNamed 8 (dkN (fun k w => R (3 + 7 * k + w)) who q (R 2).toNat)), hi, sl, r, nx)) (by rfl) ?_
  refine au_vret dX2_nameApology_57 rfl rfl (Nat.le_of_ble_eq_true rfl) (Nat.le_of_ble_eq_true rfl) ?_
  refine ⟨rfl, _, rfl, fun a ha => ?_, fun k k0 k1 => ?_⟩
  · rw [← hg1 a ha]
    funext x
    simp only [au_up]
    rw [if_neg (fun z => ha z.1), if_neg (fun z => ha z.1)]
  · simp only [au_up, true_and]
    by_cases e8 : k = 8
    · rw [if_pos e8, e8]; rfl
    · rw [if_neg e8]
      by_cases e7 : k = 7
      · rw [if_pos e7, e7]; rfl
      · rw [if_neg e7, hg2 k k0 k1]
        unfold nmA nmF
        simp only [if_neg e7, if_neg e8]
theorem kX2_finish (G : au_G) (k w wr : Int) (R : Int → Int) (A : Int → Int) (mi si hi sl : au_A → Int → Int) (r : au_A → Int → Option au_A) (nx : Nat) (hF : Fix r) (hW : mi MO 23 = wr) (hwr : wr = 0 ∨ wr = 1) (hM : MRel wr A R) (k0 : 0 ≤ k) (k1 : k < 10) (w0 : 0 ≤ w) (w1 : w ≤ 3) (h0 : 0 ≤ R 83 ∧ R 83 ≤ 30) (d0 : 0 ≤ R 0 ∧ R 0 ≤ 10000) (s0 : 0 ≤ R (3 + 7 * k + 3) ∧ R (3 + 7 * k + 3) ≤ 9999) : au_Ctr G yX2_finish cX2_finish 3 none 2 0 0 [au_r MO, au_i k, au_i w] (rowS mi MA A, si, hi, sl, r, nx) (fun rv M' => rv = none ∧ ∃ (A' : Int → Int) (sj : au_A → Int → Int), M' = (rowS mi MA A', sj, hi, sl, r, nx) ∧ MRel wr A' (wrF (up1 R (3 + 7 * k + 4) 2) k w) ∧ FrW wr A A' ∧ sj = au_up si MO 24 (au_w (si MO 24 + 1))) := by
  refine au_of (by decide) (Nat.le_of_ble_eq_true rfl) ?_
  show au_Go G _ _ 0 [some (au_r MO), some (au_i k), some (au_i w)] [] (rowS mi MA A, si, hi, sl, r, nx) 0 0
  refine au_aload_n dX2_finish_0 rfl ?_
  refine au_iload_n dX2_finish_1 rfl ?_
  refine au_iconst dX2_finish_2 rfl rfl ?_
  refine au_iconst dX2_finish_3 rfl rfl ?_
  refine au_callV (n := 3) (kX2_put G k 4 2 A mi si hi sl r nx hF (by omega) (by omega) (by decide) (by decide)) (lw_V q1674 q1676 qs90 q134 q1677) rfl (by decide +kernel) (by decide) (T := TX2) (N := 35) rfl rfl rfl rfl (Nat.le_of_ble_eq_true rfl) (Nat.le_of_ble_eq_true rfl) (Nat.le_of_ble_eq_true rfl) (Nat.le_of_ble_eq_true rfl) (Nat.le_of_ble_eq_true rfl) dX2_finish_4 (fun rv_ M_ hp_ => ?_)
  obtain ⟨rfl, rfl⟩ := hp_
  show au_Go G _ _ 7 [some (au_r MO), some (au_i k), some (au_i w)] [] ((rowS mi MA (up1 A (20 + 7 * k + 4) 2)), si, hi, sl, r, nx) 0 0
  refine au_aload_n dX2_finish_7 rfl ?_
  refine au_dup dX2_finish_8 rfl ?_
  refine au_getf (C := RX2) (T := TX2) (N := 35) in_X2 (by decide) rfl 24 (by decide) rfl rfl q1383 rfl dX2_finish_9 (v := au_i (si MO 24)) (by rfl) ?_
  refine au_iconst dX2_finish_12 rfl rfl ?_
  refine au_iaddW dX2_finish_13 ?_
  refine au_putf (a := MO) (C := RX2) (T := TX2) (N := 35) in_X2 tyX2_ok nmX2 (by decide) rfl 24 (by decide) rfl (by decide) rfl q1383 rfl rfl trivial (fun _ _ _ h => au_nf_i h) dX2_finish_14 (M' := ((rowS mi MA (up1 A (20 + 7 * k + 4) 2)), (au_up si MO 24 (au_w ((si MO 24) + 1))), hi, sl, r, nx)) (by rfl) ?_
  refine au_aload_n dX2_finish_17 rfl ?_
  refine au_iload_n dX2_finish_18 rfl ?_
  refine au_iload_n dX2_finish_19 rfl ?_
  refine au_callV (n := 2) (kX2_write G k w wr (up1 R (3 + 7 * k + 4) 2) (up1 A (20 + 7 * k + 4) 2) mi (au_up si MO 24 (au_w ((si MO 24) + 1))) hi sl r nx hF hW hwr (hM.put 2 k0 k1 (by decide) (by decide)) k0 k1 w0 w1 (by rw [up1_ne _ _ (by omega)]; exact h0) (by rw [up1_ne _ _ (by omega)]; exact d0) (by rw [up1_ne _ _ (by omega)]; exact s0)) (lw_V q1774 q1776 qs106 q134 q1777) rfl (by decide +kernel) (by decide) (T := TX2) (N := 35) rfl rfl rfl rfl (Nat.le_of_ble_eq_true rfl) (Nat.le_of_ble_eq_true rfl) (Nat.le_of_ble_eq_true rfl) (Nat.le_of_ble_eq_true rfl) (Nat.le_of_ble_eq_true rfl) dX2_finish_20 (fun rv_ M_ hp_ => ?_)
  obtain ⟨rfl, A2, rfl, hM2, hf2⟩ := hp_
  show au_Go G _ _ 23 [some (au_r MO), some (au_i k), some (au_i w)] [] ((rowS mi MA A2), (au_up si MO 24 (au_w ((si MO 24) + 1))), hi, sl, r, nx) 0 0
  exact au_vret dX2_finish_23 rfl rfl (Nat.le_of_ble_eq_true rfl) (Nat.le_of_ble_eq_true rfl) (⟨rfl, A2, _, rfl, hM2, (FrW.up wr A _ (by omega) (by omega) (by omega)).tr hf2, rfl⟩)
