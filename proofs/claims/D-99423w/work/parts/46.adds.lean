/-! ApologyUp: what one adds (printed by tools/m46.py) -/
set_option maxRecDepth 100000
set_option maxHeartbeats 4000000
theorem kX0_addsBy (G : au_G) (d : Nat) (t : au_A) (who size fr to : Int) (Lw : au_Lw) (mi si hi sl : au_A → Int → Int) (r : au_A → Int → Option au_A) (nx : Nat) (hF : Fix r) (hIC : ICm mi) (n : Int) (hN : mi XNn 0 = n) (B : Int → Int) (hE : ∀ o, 0 ≤ o → o < 10 → mi XNboss o = B o) (hB : Bs B n) (Pr : Int → Int) (hPr : ∀ o, 0 ≤ o → o < 10 → mi XNpride o = Pr o) (hT : TxN r hi d t Lw) (h0 : 0 ≤ who) (h1 : who < n) (hP : 0 ≤ Pr who ∧ Pr who ≤ 9) (a1 : I32 (mi XNrow 0)) (a2 : I32 size) (a3 : I32 fr) (a4 : I32 to) : au_Ctr G yX0_addsBy cX0_addsBy 6 (some .int) (d + 6) 0 0 [au_r XO, au_r t, au_i who, au_i size, au_i fr, au_i to] (mi, si, hi, sl, r, nx) (fun rv M' => rv = some (au_i (lawV Lw 0 (nmF B Pr n (mi XNrow 0) size who fr to 0 0) (Pr who + 1) 999)) ∧ ∃ sj : au_A → Int → Int, M' = (mi, sj, hi, sl, r, nx) ∧ ∀ A, A ≠ XNames → sj A = si A) := by
  refine au_of (by decide) (Nat.le_of_ble_eq_true rfl) ?_
  have hb0 := hB.2.1
  have hb1 := hB.1
  have hnI := nmF_I hB h0 h1 hP a1 a2 a3 a4 (show I32 0 by unfold I32; omega) (show I32 0 by unfold I32; omega)
  show au_Go G _ _ 0 [some (au_r XO), some (au_r t), some (au_i who), some (au_i size), some (au_i fr), some (au_i to)] [] (mi, si, hi, sl, r, nx) 0 0
  refine au_aload_n dX0_addsBy_0 rfl ?_
  refine au_aload_n dX0_addsBy_1 rfl ?_
  refine au_getf (C := RX0) (T := TX0) (N := 15) in_X0 (by decide) rfl 0 (by decide) rfl rfl q245 rfl dX0_addsBy_2 (v := au_r XN) (congrArg au_q (fx_XO_0 hF)) ?_
  refine au_getN (C := RX1) (T := TX1) (N := 11) in_X1 (by decide) rfl 1 (by decide) rfl rfl q189 rfl dX0_addsBy_5 (v := au_r XNrow) (congrArg au_q (fx_XN_1 hF)) ?_
  refine au_iconst dX0_addsBy_8 rfl rfl ?_
  refine au_iald dX0_addsBy_9 rfl (by omega) (by show _ < ((204 : Nat) : Int); omega) (v := au_i (mi XNrow 0)) (by rfl) ?_
  refine au_iload_n dX0_addsBy_10 rfl ?_
  refine au_iload_n dX0_addsBy_11 rfl ?_
  refine au_iload dX0_addsBy_12 rfl ?_
  refine au_iload dX0_addsBy_14 rfl ?_
  refine au_callV (n := 5) (kX0_namesOf G (mi XNrow 0) size who fr to mi si hi sl r nx hF n hN B hE hB Pr hPr h0 h1) (lw_V q912 q914 qs28 q130 q915) rfl (by decide +kernel) (by decide) (T := TX0) (N := 15) rfl rfl rfl rfl (Nat.le_of_ble_eq_true rfl) (by show _ ≤ d + 6; omega) (by show _ ≤ 80 * (d + 6); omega) (Nat.le_of_ble_eq_true rfl) (Nat.le_of_ble_eq_true rfl) dX0_addsBy_16 (fun rv_ M_ hp_ => ?_)
  obtain ⟨rfl, s1, rfl, hg1, hg2⟩ := hp_
  show au_Go G _ _ 19 [some (au_r XO), some (au_r t), some (au_i who), some (au_i size), some (au_i fr), some (au_i to)] [] (mi, s1, hi, sl, r, nx) 0 0
  refine au_aload_n dX0_addsBy_19 rfl ?_
  refine au_getf (C := RX0) (T := TX0) (N := 15) in_X0 (by decide) rfl 6 (by decide) rfl rfl q251 rfl dX0_addsBy_20 (v := au_r XNames) (congrArg au_q (fx_XO_6 hF)) ?_
  refine au_bipush dX0_addsBy_23 rfl rfl ?_
  refine au_iconst dX0_addsBy_25 rfl rfl ?_
  refine au_iast dX0_addsBy_26 rfl (by decide) (by omega) (by show _ < ((19 : Nat) : Int); omega) (M' := (mi, (au_up s1 XNames 7 0), hi, sl, r, nx)) (by rfl) ?_
  refine au_aload_n dX0_addsBy_27 rfl ?_
  refine au_getf (C := RX0) (T := TX0) (N := 15) in_X0 (by decide) rfl 6 (by decide) rfl rfl q251 rfl dX0_addsBy_28 (v := au_r XNames) (congrArg au_q (fx_XO_6 hF)) ?_
  refine au_bipush dX0_addsBy_31 rfl rfl ?_
  refine au_iconst dX0_addsBy_33 rfl rfl ?_
  refine au_iast dX0_addsBy_34 rfl (by decide) (by omega) (by show _ < ((19 : Nat) : Int); omega) (M' := (mi, (au_up (au_up s1 XNames 7 0) XNames 8 0), hi, sl, r, nx)) (by rfl) ?_
  refine au_aload_n dX0_addsBy_35 rfl ?_
  refine au_aload_n dX0_addsBy_36 rfl ?_
  refine au_iconst dX0_addsBy_37 rfl rfl ?_
  refine au_aload_n dX0_addsBy_38 rfl ?_
  refine au_getf (C := RX0) (T := TX0) (N := 15) in_X0 (by decide) rfl 6 (by decide) rfl rfl q251 rfl dX0_addsBy_39 (v := au_r XNames) (congrArg au_q (fx_XO_6 hF)) ?_
  refine au_iconst dX0_addsBy_42 rfl rfl ?_
  refine au_iald dX0_addsBy_43 rfl (by omega) (by show _ < ((19 : Nat) : Int); omega) (v := au_i (Pr who)) (congrArg au_i (hg2 3 (by decide) (by decide) (by decide) (by decide))) ?_
  refine au_iconst dX0_addsBy_44 rfl rfl ?_
  refine au_iadd dX0_addsBy_45 (by omega) (by omega) ?_
  refine au_iconst dX0_addsBy_46 rfl rfl ?_
  refine au_sipush dX0_addsBy_47 rfl rfl ?_
  have hnm : ∀ k, 0 ≤ k → k < 19 → (au_up (au_up s1 XNames 7 0) XNames 8 0) XNames k = (nmF B Pr n (mi XNrow 0) size who fr to 0 0) k := fun k k0 k1 => by
    simp only [au_up, true_and]
    by_cases e8 : k = 8
    · rw [if_pos e8, e8]; rfl
    · rw [if_neg e8]
      by_cases e7 : k = 7
      · rw [if_pos e7, e7]; rfl
      · rw [if_neg e7]; exact hg2 k k0 k1 e7 e8
  refine au_callVp (n := 5) (kX0_law G d 0 t (Pr who + 1) 999 Lw mi (au_up (au_up s1 XNames 7 0) XNames 8 0) hi sl r nx hF hIC (nmF B Pr n (mi XNrow 0) size who fr to 0 0) hnm hnI hT (by decide) (by decide) (by decide)) (lw_V q926 q928 qs31 q130 q929) rfl (by decide +kernel) (by decide) (T := TX0) (N := 15) rfl rfl rfl rfl (Nat.le_of_ble_eq_true rfl) (by show _ ≤ d + 6; omega) (by show _ ≤ 80 * (d + 6); omega) (Nat.le_of_ble_eq_true rfl) (Nat.le_of_ble_eq_true rfl) dX0_addsBy_50 ?_
  refine au_iret dX0_addsBy_53 rfl rfl (Nat.le_of_ble_eq_true rfl) (Nat.le_of_ble_eq_true rfl) ?_
  refine ⟨rfl, _, rfl, fun A hA => ?_⟩
  rw [← hg1 A hA]
  funext q
  simp only [au_up]
  rw [if_neg (fun z => hA z.1), if_neg (fun z => hA z.1)]
