/-! THE MODEL: what one adds (printed by tools/m45.py) -/
set_option maxRecDepth 100000
set_option maxHeartbeats 4000000

theorem I32.w {v : Int} (h : I32 v) : I33 v := by unfold I32 at h; unfold I33; omega
theorem nmF_I {B Pr : Int → Int} {n : Int} (hB : Bs B n) {day size who fr to days desk : Int} (h0 : 0 ≤ who) (h1 : who < n) (hP : 0 ≤ Pr who ∧ Pr who ≤ 9) (a1 : I32 day) (a2 : I32 size) (a3 : I32 fr) (a4 : I32 to) (a5 : I32 days) (a6 : I32 desk) : ∀ k, 0 ≤ k → k < 19 → I32 (nmF B Pr n day size who fr to days desk k) := by
  intro k k0 k1
  have hb0 := hB.2.1
  have hr := rank_bd hB h0 h1
  unfold nmF
  by_cases e0 : k = 0
  · rw [if_pos e0]; exact a1
  rw [if_neg e0]
  by_cases e1 : k = 1
  · rw [if_pos e1]; exact a2
  rw [if_neg e1]
  by_cases e2 : k = 2
  · rw [if_pos e2]; unfold I32; omega
  rw [if_neg e2]
  by_cases e3 : k = 3
  · rw [if_pos e3]; unfold I32; omega
  rw [if_neg e3]
  by_cases e4 : k = 4
  · rw [if_pos e4]; unfold I32; omega
  rw [if_neg e4]
  by_cases e5 : k = 5
  · rw [if_pos e5]; exact a3
  rw [if_neg e5]
  by_cases e6 : k = 6
  · rw [if_pos e6]; exact a4
  rw [if_neg e6]
  by_cases e7 : k = 7
  · rw [if_pos e7]; exact a5
  rw [if_neg e7]
  by_cases e8 : k = 8
  · rw [if_pos e8]; exact a6
  rw [if_neg e8]
  split
  · have := rank_bd hB (o := k - 9) (by omega) (by omega)
    unfold I32; omega
  · unfold I32; omega

theorem kX2_addsBy (G : au_G) (t : Int) (Lw : au_Lw) (nm : Int → Int) (mi si hi sl : au_A → Int → Int) (r : au_A → Int → Option au_A) (nx : Nat) (hF : Fix r) (n : Int) (hN : mi MA 0 = n) (B : Int → Int) (hE : ∀ o, 0 ≤ o → o < 10 → mi MA (90 + o) = B o) (hB : Bs B n) (hT : TmAt (mi MT) t Lw) (hnm : ∀ k, 0 ≤ k → k < 9 → si MNamed k = nm k) (hnI : ∀ k, 0 ≤ k → k < 9 → I33 (nm k)) (hrk : ∀ o, rkV B n o = rnkF nm o) (h3 : -100 ≤ nm 3 ∧ nm 3 ≤ 100) : au_Ctr G yX2_addsBy cX2_addsBy 2 (some .int) 4 0 0 [au_r MO, au_i t] (mi, si, hi, sl, r, nx) (fun rv M' => rv = some (au_i (lawV Lw 0 nm (nm 3 + 1) 999)) ∧ ∃ sj slj : au_A → Int → Int, M' = (mi, sj, hi, slj, r, nx) ∧ (∀ A, A ≠ MTruth → sj A = si A) ∧ ∀ A, A ≠ MVal → slj A = sl A) := by
  refine au_of (by decide) (Nat.le_of_ble_eq_true rfl) ?_
  show au_Go G _ _ 0 [some (au_r MO), some (au_i t)] [] (mi, si, hi, sl, r, nx) 0 0
  refine au_aload_n dX2_addsBy_0 rfl ?_
  refine au_iload_n dX2_addsBy_1 rfl ?_
  refine au_iconst dX2_addsBy_2 rfl rfl ?_
  refine au_aload_n dX2_addsBy_3 rfl ?_
  refine au_getf (C := RX2) (T := TX2) (N := 35) in_X2 (by decide) rfl 20 (by decide) rfl rfl q1379 rfl dX2_addsBy_4 (v := au_r MNamed) (congrArg au_q (fx_MO_20 hF)) ?_
  refine au_iconst dX2_addsBy_7 rfl rfl ?_
  refine au_iald dX2_addsBy_8 rfl (by omega) (by show _ < ((9 : Nat) : Int); omega) (v := au_i (nm 3)) (congrArg au_i (hnm 3 (by decide) (by decide))) ?_
  refine au_iconst dX2_addsBy_9 rfl rfl ?_
  refine au_iadd dX2_addsBy_10 (by omega) (by omega) ?_
  refine au_sipush dX2_addsBy_11 rfl rfl ?_
  refine au_callV (n := 4) (kX2_says G t (nm 3 + 1) 999 0 Lw nm mi si hi sl r nx hF n hN B hE hB hT (by decide) (by decide) (by decide) hnm hnI hrk) (lw_V q1734 q1736 qs102 q134 q1737) rfl (by decide +kernel) (by decide) (T := TX2) (N := 35) rfl rfl rfl rfl (Nat.le_of_ble_eq_true rfl) (Nat.le_of_ble_eq_true rfl) (Nat.le_of_ble_eq_true rfl) (Nat.le_of_ble_eq_true rfl) (Nat.le_of_ble_eq_true rfl) dX2_addsBy_14 (fun rv_ M_ hp_ => ?_)
  obtain ⟨rfl, sj, slj, rfl, hf1, hf2⟩ := hp_
  show au_Go G _ _ 17 [some (au_r MO), some (au_i t)] [au_i (lawV Lw 0 nm (nm 3 + 1) 999)] (mi, sj, hi, slj, r, nx) 0 0
  exact au_iret dX2_addsBy_17 rfl rfl (Nat.le_of_ble_eq_true rfl) (Nat.le_of_ble_eq_true rfl) (⟨rfl, sj, slj, rfl, hf1, hf2⟩)
theorem kX2_addsOf (G : au_G) (t p : Int) (Lw : au_Lw) (mi si hi sl : au_A → Int → Int) (r : au_A → Int → Option au_A) (nx : Nat) (hF : Fix r) (n : Int) (hN : mi MA 0 = n) (B : Int → Int) (hE : ∀ o, 0 ≤ o → o < 10 → mi MA (90 + o) = B o) (hB : Bs B n) (Pr : Int → Int) (hPr : ∀ o, 0 ≤ o → o < 10 → mi MA (100 + o) = Pr o) (hT : TmAt (mi MT) t Lw) (h0 : 0 ≤ p) (h1 : p < n) (hP : 0 ≤ Pr p ∧ Pr p ≤ 9) (hD : I32 (mi MA 6)) : au_Ctr G yX2_addsOf cX2_addsOf 3 (some .int) 5 0 0 [au_r MO, au_i t, au_i p] (mi, si, hi, sl, r, nx) (fun rv M' => rv = some (au_i (lawV Lw 0 (nmF B Pr n (mi MA 6) 10 p p 0 0 0) (Pr p + 1) 999)) ∧ ∃ sj slj : au_A → Int → Int, M' = (mi, sj, hi, slj, r, nx) ∧ (∀ A, A ≠ MTruth → A ≠ MNamed → sj A = si A) ∧ ∀ A, A ≠ MVal → slj A = sl A) := by
  refine au_of (by decide) (Nat.le_of_ble_eq_true rfl) ?_
  have hb0 := hB.2.1
  have hb1 := hB.1
  have hnI := nmF_I hB h0 h1 hP hD (show I32 10 by unfold I32; omega) (show I32 p by unfold I32; omega) (show I32 0 by unfold I32; omega) (show I32 0 by unfold I32; omega) (show I32 0 by unfold I32; omega)
  show au_Go G _ _ 0 [some (au_r MO), some (au_i t), some (au_i p)] [] (mi, si, hi, sl, r, nx) 0 0
  refine au_aload_n dX2_addsOf_0 rfl ?_
  refine au_iload_n dX2_addsOf_1 rfl ?_
  refine au_bipush dX2_addsOf_2 rfl rfl ?_
  refine au_iload_n dX2_addsOf_4 rfl ?_
  refine au_iconst dX2_addsOf_5 rfl rfl ?_
  refine au_callV (n := 4) (kX2_name G p 10 p 0 mi si hi sl r nx hF n hN B hE hB Pr hPr h0 h1) (lw_V q1718 q1720 qs98 q134 q1721) rfl (by decide +kernel) (by decide) (T := TX2) (N := 35) rfl rfl rfl rfl (Nat.le_of_ble_eq_true rfl) (Nat.le_of_ble_eq_true rfl) (Nat.le_of_ble_eq_true rfl) (Nat.le_of_ble_eq_true rfl) (Nat.le_of_ble_eq_true rfl) dX2_addsOf_6 (fun rv_ M_ hp_ => ?_)
  obtain ⟨rfl, s1, rfl, hg1, hg2⟩ := hp_
  show au_Go G _ _ 9 [some (au_r MO), some (au_i t), some (au_i p)] [] (mi, s1, hi, sl, r, nx) 0 0
  refine au_aload_n dX2_addsOf_9 rfl ?_
  refine au_iload_n dX2_addsOf_10 rfl ?_
  refine au_callV (n := 1) (kX2_addsBy G t Lw (nmF B Pr n (mi MA 6) 10 p p 0 0 0) mi s1 hi sl r nx hF n hN B hE hB hT hg2 (fun k k0 k1 => (hnI k k0 (by omega)).w) (rkV_nm ⟨hb1, hb0⟩ _ _ _ _ _ _ _) (show -100 ≤ Pr p ∧ Pr p ≤ 100 by omega)) (lw_V q1730 q1732 qs101 q134 q1733) rfl (by decide +kernel) (by decide) (T := TX2) (N := 35) rfl rfl rfl rfl (Nat.le_of_ble_eq_true rfl) (Nat.le_of_ble_eq_true rfl) (Nat.le_of_ble_eq_true rfl) (Nat.le_of_ble_eq_true rfl) (Nat.le_of_ble_eq_true rfl) dX2_addsOf_11 (fun rv_ M_ hp_ => ?_)
  obtain ⟨rfl, sj, slj, rfl, hf1, hf2⟩ := hp_
  show au_Go G _ _ 14 [some (au_r MO), some (au_i t), some (au_i p)] [au_i (lawV Lw 0 (nmF B Pr n (mi MA 6) 10 p p 0 0 0) (Pr p + 1) 999)] (mi, sj, hi, slj, r, nx) 0 0
  exact au_iret dX2_addsOf_14 rfl rfl (Nat.le_of_ble_eq_true rfl) (Nat.le_of_ble_eq_true rfl) (⟨rfl, sj, slj, rfl, fun A h2 h3 => (hf1 A h2).trans (hg1 A h3), hf2⟩)
