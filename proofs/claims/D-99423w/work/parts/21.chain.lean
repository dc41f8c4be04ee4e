/-! THE SMALL ONES AND THE CHAINS of officers, of both systems (printed by tools/m21.py) -/
set_option maxRecDepth 100000
set_option maxHeartbeats 4000000
theorem kX0_in (G : au_G) (v lo hi : Int) (M : au_M) : au_Ctr G yX0_in cX0_in 3 (some .boolean) 0 0 0 [au_i v, au_i lo, au_i hi] M (au_pure (au_i (au_b (lo ≤ v ∧ v ≤ hi))) M) := by
  refine au_of (by decide) (Nat.le_of_ble_eq_true rfl) ?_
  show au_Go G _ _ 0 [some (au_i v), some (au_i lo), some (au_i hi)] [] M 0 0
  refine au_iload_n dX0_in_0 rfl ?_
  refine au_iload_n dX0_in_1 rfl ?_
  refine au_icmp_lt (tgt := 14) dX0_in_2 (by decide) (fun c2 => ?_) (fun c2 => ?_)
  · refine au_iconst dX0_in_14 rfl rfl ?_
    exact au_zret dX0_in_15 rfl (Or.inl rfl) rfl (Nat.le_of_ble_eq_true rfl) (Nat.le_of_ble_eq_true rfl) (au_pf (by omega) rfl)
  · refine au_iload_n dX0_in_5 rfl ?_
    refine au_iload_n dX0_in_6 rfl ?_
    refine au_icmp_gt (tgt := 14) dX0_in_7 (by decide) (fun c7 => ?_) (fun c7 => ?_)
    · refine au_iconst dX0_in_14 rfl rfl ?_
      exact au_zret dX0_in_15 rfl (Or.inl rfl) rfl (Nat.le_of_ble_eq_true rfl) (Nat.le_of_ble_eq_true rfl) (au_pf (by omega) rfl)
    · refine au_iconst dX0_in_10 rfl rfl ?_
      refine au_goto (tgt := 15) dX0_in_11 (by decide) ?_
      exact au_zret dX0_in_15 rfl (Or.inr rfl) rfl (Nat.le_of_ble_eq_true rfl) (Nat.le_of_ble_eq_true rfl) (au_pt (by omega) rfl)
/-- bit k of a set -/
def hs (v k : Int) : Prop := au_and (au_shr v k) 1 = 1
theorem kX0_has (G : au_G) (v k : Int) (M : au_M) : au_Ctr G yX0_has cX0_has 2 (some .boolean) 0 0 0 [au_i v, au_i k] M (au_pure (au_i (au_b (hs v k))) M) := by
  refine au_of (by decide) (Nat.le_of_ble_eq_true rfl) ?_
  show au_Go G _ _ 0 [some (au_i v), some (au_i k)] [] M 0 0
  refine au_iload_n dX0_has_0 rfl ?_
  refine au_iload_n dX0_has_1 rfl ?_
  refine au_ishr dX0_has_2 ?_
  refine au_iconst dX0_has_3 rfl rfl ?_
  refine au_iand dX0_has_4 ?_
  refine au_iconst dX0_has_5 rfl rfl ?_
  refine au_icmp_ne (tgt := 13) dX0_has_6 (by decide) (fun c6 => ?_) (fun c6 => ?_)
  · refine au_iconst dX0_has_13 rfl rfl ?_
    exact au_zret dX0_has_14 rfl (Or.inl rfl) rfl (Nat.le_of_ble_eq_true rfl) (Nat.le_of_ble_eq_true rfl) (by first | exact au_pt c6 rfl | exact au_pf c6 rfl)
  · refine au_iconst dX0_has_9 rfl rfl ?_
    refine au_goto (tgt := 14) dX0_has_10 (by decide) ?_
    exact au_zret dX0_has_14 rfl (Or.inr rfl) rfl (Nat.le_of_ble_eq_true rfl) (Nat.le_of_ble_eq_true rfl) (by first | exact au_pt c6 rfl | exact au_pf c6 rfl)
theorem kX0_at (G : au_G) (v k : Int) (M : au_M) (h1 : 0 ≤ v) (h2 : v ≤ 10) (h3 : 0 ≤ k) (h4 : k ≤ 6) : au_Ctr G yX0_at cX0_at 2 (some .int) 0 0 0 [au_i v, au_i k] M (au_pure (au_i (3 + 7 * v + k)) M) := by
  refine au_of (by decide) (Nat.le_of_ble_eq_true rfl) ?_
  show au_Go G _ _ 0 [some (au_i v), some (au_i k)] [] M 0 0
  refine au_iconst dX0_at_0 rfl rfl ?_
  refine au_bipush dX0_at_1 rfl rfl ?_
  refine au_iload_n dX0_at_3 rfl ?_
  refine au_imul dX0_at_4 (by omega) (by omega) ?_
  refine au_iadd dX0_at_5 (by omega) (by omega) ?_
  refine au_iload_n dX0_at_6 rfl ?_
  refine au_iadd dX0_at_7 (by omega) (by omega) ?_
  exact au_iret dX0_at_8 rfl rfl (Nat.le_of_ble_eq_true rfl) (Nat.le_of_ble_eq_true rfl) (⟨rfl, rfl⟩)
theorem kX0_isOfficer (G : au_G) (o : Int) (mi si hi sl : au_A → Int → Int) (r : au_A → Int → Option au_A) (nx : Nat) (hF : Fix r) (n : Int) (hN : mi XNn 0 = n) (hn : 0 ≤ n ∧ n ≤ 10) : au_Ctr G yX0_isOfficer cX0_isOfficer 2 (some .boolean) 1 0 0 [au_r XO, au_i o] (mi, si, hi, sl, r, nx) (au_pure (au_i (au_b (0 ≤ o ∧ o < n))) (mi, si, hi, sl, r, nx)) := by
  refine au_of (by decide) (Nat.le_of_ble_eq_true rfl) ?_
  show au_Go G _ _ 0 [some (au_r XO), some (au_i o)] [] (mi, si, hi, sl, r, nx) 0 0
  refine au_iload_n dX0_isOfficer_0 rfl ?_
  refine au_iconst dX0_isOfficer_1 rfl rfl ?_
  refine au_aload_n dX0_isOfficer_2 rfl ?_
  refine au_getf (C := RX0) (T := TX0) (N := 15) in_X0 (by decide) rfl 0 (by decide) rfl rfl q245 rfl dX0_isOfficer_3 (v := au_r XN) (congrArg au_q (fx_XO_0 hF)) ?_
  refine au_getN (C := RX1) (T := TX1) (N := 11) in_X1 (by decide) rfl 0 (by decide) rfl rfl q187 rfl dX0_isOfficer_6 (v := au_r XNn) (congrArg au_q (fx_XN_0 hF)) ?_
  refine au_iconst dX0_isOfficer_9 rfl rfl ?_
  refine au_iald dX0_isOfficer_10 rfl (by omega) (by show _ < ((6 : Nat) : Int); omega) (v := au_i (n)) (congrArg au_i (hN)) ?_
  refine au_iconst dX0_isOfficer_11 rfl rfl ?_
  refine au_isub dX0_isOfficer_12 (by omega) (by omega) ?_
  refine au_callSp (n := 3) (kX0_in G o 0 (n - 1) (mi, si, hi, sl, r, nx)) (lw_S q300 q301 q130 q302) (by decide +kernel) rfl rfl rfl (Nat.le_of_ble_eq_true rfl) (Nat.le_of_ble_eq_true rfl) (Nat.le_of_ble_eq_true rfl) (Nat.le_of_ble_eq_true rfl) (Nat.le_of_ble_eq_true rfl) dX0_isOfficer_13 ?_
  exact au_zret dX0_isOfficer_16 rfl (au_b_01) rfl (Nat.le_of_ble_eq_true rfl) (Nat.le_of_ble_eq_true rfl) (au_pe (au_b_congr (by omega)) rfl)
theorem kX0_isApology (G : au_G) (o : Int) (mi si hi sl : au_A → Int → Int) (r : au_A → Int → Option au_A) (nx : Nat) (hF : Fix r) (sn : Int) (hSn : mi XNrow 2 = sn) (hs : 0 ≤ sn ∧ sn ≤ 10) : au_Ctr G yX0_isApology cX0_isApology 2 (some .boolean) 1 0 0 [au_r XO, au_i o] (mi, si, hi, sl, r, nx) (au_pure (au_i (au_b (0 ≤ o ∧ o < sn))) (mi, si, hi, sl, r, nx)) := by
  refine au_of (by decide) (Nat.le_of_ble_eq_true rfl) ?_
  show au_Go G _ _ 0 [some (au_r XO), some (au_i o)] [] (mi, si, hi, sl, r, nx) 0 0
  refine au_iload_n dX0_isApology_0 rfl ?_
  refine au_iconst dX0_isApology_1 rfl rfl ?_
  refine au_aload_n dX0_isApology_2 rfl ?_
  refine au_getf (C := RX0) (T := TX0) (N := 15) in_X0 (by decide) rfl 0 (by decide) rfl rfl q245 rfl dX0_isApology_3 (v := au_r XN) (congrArg au_q (fx_XO_0 hF)) ?_
  refine au_getN (C := RX1) (T := TX1) (N := 11) in_X1 (by decide) rfl 1 (by decide) rfl rfl q189 rfl dX0_isApology_6 (v := au_r XNrow) (congrArg au_q (fx_XN_1 hF)) ?_
  refine au_iconst dX0_isApology_9 rfl rfl ?_
  refine au_iald dX0_isApology_10 rfl (by omega) (by show _ < ((204 : Nat) : Int); omega) (v := au_i (sn)) (congrArg au_i (hSn)) ?_
  refine au_iconst dX0_isApology_11 rfl rfl ?_
  refine au_isub dX0_isApology_12 (by omega) (by omega) ?_
  refine au_callSp (n := 3) (kX0_in G o 0 (sn - 1) (mi, si, hi, sl, r, nx)) (lw_S q300 q301 q130 q302) (by decide +kernel) rfl rfl rfl (Nat.le_of_ble_eq_true rfl) (Nat.le_of_ble_eq_true rfl) (Nat.le_of_ble_eq_true rfl) (Nat.le_of_ble_eq_true rfl) (Nat.le_of_ble_eq_true rfl) dX0_isApology_13 ?_
  exact au_zret dX0_isApology_16 rfl (au_b_01) rfl (Nat.le_of_ble_eq_true rfl) (Nat.le_of_ble_eq_true rfl) (au_pe (au_b_congr (by omega)) rfl)
theorem kX0_rankOf (G : au_G) (o : Int) (mi si hi sl : au_A → Int → Int) (r : au_A → Int → Option au_A) (nx : Nat) (hF : Fix r) (n : Int) (hN : mi XNn 0 = n) (B : Int → Int) (hE : ∀ o, 0 ≤ o → o < 10 → mi XNboss o = B o) (hB : Bs B n) (h0 : 0 ≤ o) (h1 : o < n) : au_Ctr G yX0_rankOf cX0_rankOf 4 (some .int) 0 0 0 [au_r XO, au_i o] (mi, si, hi, sl, r, nx) (au_pure (au_i (rank B o)) (mi, si, hi, sl, r, nx)) := by
  refine au_of (by decide) (Nat.le_of_ble_eq_true rfl) ?_
  have hb := hB.2.2 o h0 h1
  have hb0 := hB.2.1
  show au_Go G _ _ 0 [some (au_r XO), some (au_i o), none, none] [] (mi, si, hi, sl, r, nx) 0 0
  refine au_iconst dX0_rankOf_0 rfl rfl ?_
  refine au_istore_n dX0_rankOf_1 (show 2 < 4 by decide) ?_
  show au_Go G _ _ 2 [some (au_r XO), some (au_i o), some (au_i 0), none] [] (mi, si, hi, sl, r, nx) 0 0
  refine au_aload_n dX0_rankOf_2 rfl ?_
  refine au_getf (C := RX0) (T := TX0) (N := 15) in_X0 (by decide) rfl 0 (by decide) rfl rfl q245 rfl dX0_rankOf_3 (v := au_r XN) (congrArg au_q (fx_XO_0 hF)) ?_
  refine au_getN (C := RX1) (T := TX1) (N := 11) in_X1 (by decide) rfl 2 (by decide) rfl rfl q191 rfl dX0_rankOf_6 (v := au_r XNboss) (congrArg au_q (fx_XN_2 hF)) ?_
  refine au_iload_n dX0_rankOf_9 rfl ?_
  refine au_iald dX0_rankOf_10 rfl (by omega) (by show _ < ((10 : Nat) : Int); omega) (v := au_i (B o)) (congrArg au_i (hE _ (by omega) (by omega))) ?_
  refine au_istore_n dX0_rankOf_11 (show 3 < 4 by decide) ?_
  show au_Go G _ _ 12 [some (au_r XO), some (au_i o), some (au_i 0), some (au_i (B o))] [] (mi, si, hi, sl, r, nx) 0 0
  have hl : ∀ (f : Nat) (u c : Int), -1 ≤ u → u < n → u < (f : Int) → 0 ≤ c → c + u < 100 → rank B o = c + chR B f u → au_Go G (yX0_rankOf.cls, cX0_rankOf, 4, (some .int), au_rm 0 0 0, yX0_rankOf.name) (au_QM G (au_rm 0 0 0) (au_pure (au_i (rank B o)) (mi, si, hi, sl, r, nx))) 12 [some (au_r XO), some (au_i o), some (au_i c), some (au_i u)] [] (mi, si, hi, sl, r, nx) 0 0 := by
    intro f
    induction f with
    | zero =>
      intro u c h1 h2 h3 h4 h5 h6
      simp only [chR, Int.add_zero] at h6
      refine au_iload_n dX0_rankOf_12 rfl ?_
      refine au_iconst dX0_rankOf_13 rfl rfl ?_
      refine au_icmp_eq (tgt := 33) dX0_rankOf_14 (by decide) (fun c14 => ?_) (fun c14 => ?_)
      · refine au_iload_n dX0_rankOf_33 rfl ?_
        exact au_iret dX0_rankOf_34 rfl rfl (Nat.le_of_ble_eq_true rfl) (Nat.le_of_ble_eq_true rfl) (au_pe h6.symm rfl)
      · omega
    | succ f ih =>
      intro u c h1 h2 h3 h4 h5 h6
      simp only [chR] at h6
      refine au_iload_n dX0_rankOf_12 rfl ?_
      refine au_iconst dX0_rankOf_13 rfl rfl ?_
      refine au_icmp_eq (tgt := 33) dX0_rankOf_14 (by decide) (fun c14 => ?_) (fun c14 => ?_)
      · refine au_iload_n dX0_rankOf_33 rfl ?_
        exact au_iret dX0_rankOf_34 rfl rfl (Nat.le_of_ble_eq_true rfl) (Nat.le_of_ble_eq_true rfl) (au_pe (by rw [h6, if_pos c14, Int.add_zero]) rfl)
      · rw [if_neg c14] at h6
        have hu := hB.2.2 u (by omega) h2
        refine au_iinc dX0_rankOf_17 rfl (show 2 < 4 by decide) (by omega) (by omega) (by decide) (by decide) ?_
        show au_Go G _ _ 20 [some (au_r XO), some (au_i o), some (au_i (c + 1)), some (au_i u)] [] (mi, si, hi, sl, r, nx) 0 0
        refine au_aload_n dX0_rankOf_20 rfl ?_
        refine au_getf (C := RX0) (T := TX0) (N := 15) in_X0 (by decide) rfl 0 (by decide) rfl rfl q245 rfl dX0_rankOf_21 (v := au_r XN) (congrArg au_q (fx_XO_0 hF)) ?_
        refine au_getN (C := RX1) (T := TX1) (N := 11) in_X1 (by decide) rfl 2 (by decide) rfl rfl q191 rfl dX0_rankOf_24 (v := au_r XNboss) (congrArg au_q (fx_XN_2 hF)) ?_
        refine au_iload_n dX0_rankOf_27 rfl ?_
        refine au_iald dX0_rankOf_28 rfl (by omega) (by show _ < ((10 : Nat) : Int); omega) (v := au_i (B u)) (congrArg au_i (hE _ (by omega) (by omega))) ?_
        refine au_istore_n dX0_rankOf_29 (show 3 < 4 by decide) ?_
        show au_Go G _ _ 30 [some (au_r XO), some (au_i o), some (au_i (c + 1)), some (au_i (B u))] [] (mi, si, hi, sl, r, nx) 0 0
        refine au_goto (tgt := 12) dX0_rankOf_30 (by decide) ?_
        exact ih _ _ hu.2.1 (by omega) (by omega) (by omega) (by omega) (by rw [h6, Int.add_assoc])
  exact hl 10 _ _ hb.2.1 (by omega) (by omega) (by omega) (by omega) (Int.zero_add _).symm
theorem kX0_isBelow (G : au_G) (o a : Int) (mi si hi sl : au_A → Int → Int) (r : au_A → Int → Option au_A) (nx : Nat) (hF : Fix r) (n : Int) (hN : mi XNn 0 = n) (B : Int → Int) (hE : ∀ o, 0 ≤ o → o < 10 → mi XNboss o = B o) (hB : Bs B n) (h0 : 0 ≤ o) (h1 : o < n) (ha : 0 ≤ a) : au_Ctr G yX0_isBelow cX0_isBelow 4 (some .boolean) 0 0 0 [au_r XO, au_i o, au_i a] (mi, si, hi, sl, r, nx) (au_pure (au_i (au_b (below B o a))) (mi, si, hi, sl, r, nx)) := by
  refine au_of (by decide) (Nat.le_of_ble_eq_true rfl) ?_
  have hb := hB.2.2 o h0 h1
  have hb0 := hB.2.1
  show au_Go G _ _ 0 [some (au_r XO), some (au_i o), some (au_i a), none] [] (mi, si, hi, sl, r, nx) 0 0
  refine au_aload_n dX0_isBelow_0 rfl ?_
  refine au_getf (C := RX0) (T := TX0) (N := 15) in_X0 (by decide) rfl 0 (by decide) rfl rfl q245 rfl dX0_isBelow_1 (v := au_r XN) (congrArg au_q (fx_XO_0 hF)) ?_
  refine au_getN (C := RX1) (T := TX1) (N := 11) in_X1 (by decide) rfl 2 (by decide) rfl rfl q191 rfl dX0_isBelow_4 (v := au_r XNboss) (congrArg au_q (fx_XN_2 hF)) ?_
  refine au_iload_n dX0_isBelow_7 rfl ?_
  refine au_iald dX0_isBelow_8 rfl (by omega) (by show _ < ((10 : Nat) : Int); omega) (v := au_i (B o)) (congrArg au_i (hE _ (by omega) (by omega))) ?_
  refine au_istore_n dX0_isBelow_9 (show 3 < 4 by decide) ?_
  show au_Go G _ _ 10 [some (au_r XO), some (au_i o), some (au_i a), some (au_i (B o))] [] (mi, si, hi, sl, r, nx) 0 0
  have hl : ∀ (f : Nat) (u : Int), -1 ≤ u → u < n → u < (f : Int) → (below B o a ↔ chB B a f u) → au_Go G (yX0_isBelow.cls, cX0_isBelow, 4, (some .boolean), au_rm 0 0 0, yX0_isBelow.name) (au_QM G (au_rm 0 0 0) (au_pure (au_i (au_b (below B o a))) (mi, si, hi, sl, r, nx))) 10 [some (au_r XO), some (au_i o), some (au_i a), some (au_i u)] [] (mi, si, hi, sl, r, nx) 0 0 := by
    intro f
    induction f with
    | zero =>
      intro u h1 h2 h3 h4
      refine au_iload_n dX0_isBelow_10 rfl ?_
      refine au_iconst dX0_isBelow_11 rfl rfl ?_
      refine au_icmp_eq (tgt := 33) dX0_isBelow_12 (by decide) (fun c12 => ?_) (fun c12 => ?_)
      · refine au_iload_n dX0_isBelow_33 rfl ?_
        refine au_iload_n dX0_isBelow_34 rfl ?_
        refine au_icmp_ne (tgt := 42) dX0_isBelow_35 (by decide) (fun c35 => ?_) (fun c35 => ?_)
        · refine au_iconst dX0_isBelow_42 rfl rfl ?_
          exact au_zret dX0_isBelow_43 rfl (Or.inl rfl) rfl (Nat.le_of_ble_eq_true rfl) (Nat.le_of_ble_eq_true rfl) (au_pf (fun q => (h4.mp q).elim) rfl)
        · omega
      · omega
    | succ f ih =>
      intro u h1 h2 h3 h4
      simp only [chB] at h4
      refine au_iload_n dX0_isBelow_10 rfl ?_
      refine au_iconst dX0_isBelow_11 rfl rfl ?_
      refine au_icmp_eq (tgt := 33) dX0_isBelow_12 (by decide) (fun c12 => ?_) (fun c12 => ?_)
      · refine au_iload_n dX0_isBelow_33 rfl ?_
        refine au_iload_n dX0_isBelow_34 rfl ?_
        refine au_icmp_ne (tgt := 42) dX0_isBelow_35 (by decide) (fun c35 => ?_) (fun c35 => ?_)
        · refine au_iconst dX0_isBelow_42 rfl rfl ?_
          exact au_zret dX0_isBelow_43 rfl (Or.inl rfl) rfl (Nat.le_of_ble_eq_true rfl) (Nat.le_of_ble_eq_true rfl) (by first | exact au_pt (h4.mpr (Or.inl c35)) rfl | exact au_pf (fun q => (h4.mp q).elim c35 (fun z => by first | exact z.1 c12 | exact c35 c17)) rfl)
        · refine au_iconst dX0_isBelow_38 rfl rfl ?_
          refine au_goto (tgt := 43) dX0_isBelow_39 (by decide) ?_
          exact au_zret dX0_isBelow_43 rfl (Or.inr rfl) rfl (Nat.le_of_ble_eq_true rfl) (Nat.le_of_ble_eq_true rfl) (by first | exact au_pt (h4.mpr (Or.inl c35)) rfl | exact au_pf (fun q => (h4.mp q).elim c35 (fun z => by first | exact z.1 c12 | exact c35 c17)) rfl)
      · refine au_iload_n dX0_isBelow_15 rfl ?_
        refine au_iload_n dX0_isBelow_16 rfl ?_
        refine au_icmp_eq (tgt := 33) dX0_isBelow_17 (by decide) (fun c17 => ?_) (fun c17 => ?_)
        · refine au_iload_n dX0_isBelow_33 rfl ?_
          refine au_iload_n dX0_isBelow_34 rfl ?_
          refine au_icmp_ne (tgt := 42) dX0_isBelow_35 (by decide) (fun c35 => ?_) (fun c35 => ?_)
          · refine au_iconst dX0_isBelow_42 rfl rfl ?_
            exact au_zret dX0_isBelow_43 rfl (Or.inl rfl) rfl (Nat.le_of_ble_eq_true rfl) (Nat.le_of_ble_eq_true rfl) (by first | exact au_pt (h4.mpr (Or.inl c35)) rfl | exact au_pf (fun q => (h4.mp q).elim c35 (fun z => by first | exact z.1 c12 | exact c35 c17)) rfl)
          · refine au_iconst dX0_isBelow_38 rfl rfl ?_
            refine au_goto (tgt := 43) dX0_isBelow_39 (by decide) ?_
            exact au_zret dX0_isBelow_43 rfl (Or.inr rfl) rfl (Nat.le_of_ble_eq_true rfl) (Nat.le_of_ble_eq_true rfl) (by first | exact au_pt (h4.mpr (Or.inl c35)) rfl | exact au_pf (fun q => (h4.mp q).elim c35 (fun z => by first | exact z.1 c12 | exact c35 c17)) rfl)
        · have hu := hB.2.2 u (by omega) h2
          refine au_aload_n dX0_isBelow_20 rfl ?_
          refine au_getf (C := RX0) (T := TX0) (N := 15) in_X0 (by decide) rfl 0 (by decide) rfl rfl q245 rfl dX0_isBelow_21 (v := au_r XN) (congrArg au_q (fx_XO_0 hF)) ?_
          refine au_getN (C := RX1) (T := TX1) (N := 11) in_X1 (by decide) rfl 2 (by decide) rfl rfl q191 rfl dX0_isBelow_24 (v := au_r XNboss) (congrArg au_q (fx_XN_2 hF)) ?_
          refine au_iload_n dX0_isBelow_27 rfl ?_
          refine au_iald dX0_isBelow_28 rfl (by omega) (by show _ < ((10 : Nat) : Int); omega) (v := au_i (B u)) (congrArg au_i (hE _ (by omega) (by omega))) ?_
          refine au_istore_n dX0_isBelow_29 (show 3 < 4 by decide) ?_
          show au_Go G _ _ 30 [some (au_r XO), some (au_i o), some (au_i a), some (au_i (B u))] [] (mi, si, hi, sl, r, nx) 0 0
          refine au_goto (tgt := 10) dX0_isBelow_30 (by decide) ?_
          exact ih _ hu.2.1 (by omega) (by omega) (h4.trans ⟨fun q => q.elim (fun z => absurd z c17) (fun z => z.2), fun q => Or.inr ⟨c12, q⟩⟩)
  exact hl 10 _ hb.2.1 (by omega) (by omega) Iff.rfl
/-- those at or below an officer, as bits -/
noncomputable def under (B : Int → Int) (n : Nat) (a : Int) : Nat := bsN (fun j => (j : Int) = a ∨ below B j a) n
theorem under_lt (B : Int → Int) (n : Nat) (a : Int) : under B n a < 2 ^ n := bsN_lt _ _
theorem under_has {B : Int → Int} {n a t : Int} (h0 : 0 ≤ t) (h1 : t < n) (hn : n ≤ 10) : hs ((under B n.toNat a : Nat) : Int) t ↔ a = t ∨ below B t a := by
  have h2 := under_lt B n.toNat a
  have h3 : 2 ^ n.toNat ≤ 2 ^ 10 := Nat.pow_le_pow_right (by decide) (by omega)
  unfold hs
  rw [au_has_int h0 (by omega) (by omega)]
  unfold under
  rw [bsN_test, Int.toNat_of_nonneg h0]
  constructor
  · rintro ⟨_, z | z⟩
    · exact Or.inl z.symm
    · exact Or.inr z
  · rintro (z | z)
    · exact ⟨by omega, Or.inl z.symm⟩
    · exact ⟨by omega, Or.inr z⟩
theorem kX0_under (G : au_G) (a : Int) (mi si hi sl : au_A → Int → Int) (r : au_A → Int → Option au_A) (nx : Nat) (hF : Fix r) (n : Int) (hN : mi XNn 0 = n) (B : Int → Int) (hE : ∀ o, 0 ≤ o → o < 10 → mi XNboss o = B o) (hB : Bs B n) (ha : 0 ≤ a) : au_Ctr G yX0_under cX0_under 4 (some .int) 1 0 0 [au_r XO, au_i a] (mi, si, hi, sl, r, nx) (au_pure (au_i ((under B n.toNat a : Nat) : Int)) (mi, si, hi, sl, r, nx)) := by
  refine au_of (by decide) (Nat.le_of_ble_eq_true rfl) ?_
  have hb0 := hB.2.1
  have hb1 := hB.1
  show au_Go G _ _ 0 [some (au_r XO), some (au_i a), none, none] [] (mi, si, hi, sl, r, nx) 0 0
  refine au_iconst dX0_under_0 rfl rfl ?_
  refine au_istore_n dX0_under_1 (show 2 < 4 by decide) ?_
  show au_Go G _ _ 2 [some (au_r XO), some (au_i a), some (au_i 0), none] [] (mi, si, hi, sl, r, nx) 0 0
  refine au_iconst dX0_under_2 rfl rfl ?_
  refine au_istore_n dX0_under_3 (show 3 < 4 by decide) ?_
  show au_Go G _ _ 4 [some (au_r XO), some (au_i a), some (au_i 0), some (au_i 0)] [] (mi, si, hi, sl, r, nx) 0 0
  have hl : ∀ (f : Nat) (k : Nat), ((k : Int) ≤ n) → (n - (k : Int)) < (f : Int) → au_Go G (yX0_under.cls, cX0_under, 4, (some .int), au_rm 1 0 0, yX0_under.name) (au_QM G (au_rm 1 0 0) (au_pure (au_i ((under B n.toNat a : Nat) : Int)) (mi, si, hi, sl, r, nx))) 4 [some (au_r XO), some (au_i a), some (au_i ((bsN (fun j : Nat => (j : Int) = a ∨ below B j a) k : Nat) : Int)), some (au_i (k : Int))] [] (mi, si, hi, sl, r, nx) 0 0 := by
    intro f
    induction f with
    | zero => intro k h1 hf; exfalso; omega
    | succ f ih =>
      intro k h1 hf
      refine au_iload_n dX0_under_4 rfl ?_
      refine au_aload_n dX0_under_5 rfl ?_
      refine au_getf (C := RX0) (T := TX0) (N := 15) in_X0 (by decide) rfl 0 (by decide) rfl rfl q245 rfl dX0_under_6 (v := au_r XN) (congrArg au_q (fx_XO_0 hF)) ?_
      refine au_getN (C := RX1) (T := TX1) (N := 11) in_X1 (by decide) rfl 0 (by decide) rfl rfl q187 rfl dX0_under_9 (v := au_r XNn) (congrArg au_q (fx_XN_0 hF)) ?_
      refine au_iconst dX0_under_12 rfl rfl ?_
      refine au_iald dX0_under_13 rfl (by omega) (by show _ < ((6 : Nat) : Int); omega) (v := au_i (n)) (congrArg au_i (hN)) ?_
      refine au_icmp_ge (tgt := 47) dX0_under_14 (by decide) (fun c14 => ?_) (fun c14 => ?_)
      · refine au_iload_n dX0_under_47 rfl ?_
        exact au_iret dX0_under_48 rfl rfl (Nat.le_of_ble_eq_true rfl) (Nat.le_of_ble_eq_true rfl) (au_pe (by show _ = ((bsN _ _ : Nat) : Int); rw [show n.toNat = k by omega]) rfl)
      · refine au_iload_n dX0_under_17 rfl ?_
        refine au_iload_n dX0_under_18 rfl ?_
        refine au_iload_n dX0_under_19 rfl ?_
        refine au_icmp_eq (tgt := 32) dX0_under_20 (by decide) (fun c20 => ?_) (fun c20 => ?_)
        · refine au_iconst dX0_under_32 rfl rfl ?_
          refine au_iload_n dX0_under_33 rfl ?_
          refine au_ishl dX0_under_34 ?_
          refine au_goto (tgt := 39) dX0_under_35 (by decide) ?_
          refine au_ior dX0_under_39 ?_
          refine au_istore_n dX0_under_40 (show 2 < 4 by decide) ?_
          show au_Go G _ _ 41 [some (au_r XO), some (au_i a), some (au_i (au_or ((bsN (fun j : Nat => (j : Int) = a ∨ below B j a) k : Nat) : Int) (au_shl 1 (k : Int)))), some (au_i (k : Int))] [] (mi, si, hi, sl, r, nx) 0 0
          refine au_iinc dX0_under_41 rfl (show 3 < 4 by decide) (by omega) (by omega) (by decide) (by decide) ?_
          show au_Go G _ _ 44 [some (au_r XO), some (au_i a), some (au_i (au_or ((bsN (fun j : Nat => (j : Int) = a ∨ below B j a) k : Nat) : Int) (au_shl 1 (k : Int)))), some (au_i ((k : Int) + 1))] [] (mi, si, hi, sl, r, nx) 0 0
          refine au_goto (tgt := 4) dX0_under_44 (by decide) ?_
          rw [bsN_step (fun j : Nat => (j : Int) = a ∨ below B j a) k (by omega) _ (by first | exact ⟨fun _ => rfl, fun q => absurd (Or.inl c20) q⟩ | exact ⟨fun _ => rfl, fun q => absurd (Or.inr c29) q⟩ | exact ⟨fun q => (q.elim c20 c29).elim, fun _ => rfl⟩)]
          exact ih (k + 1) (by omega) (by omega)
        · refine au_aload_n dX0_under_23 rfl ?_
          refine au_iload_n dX0_under_24 rfl ?_
          refine au_iload_n dX0_under_25 rfl ?_
          refine au_callVp (n := 2) (kX0_isBelow G (k : Int) a mi si hi sl r nx hF n hN B hE hB (by omega) (by omega) (by omega)) (lw_V q1078 q1080 qs36 q130 q1081) rfl (by decide +kernel) (by decide) (T := TX0) (N := 15) rfl rfl rfl rfl (Nat.le_of_ble_eq_true rfl) (Nat.le_of_ble_eq_true rfl) (Nat.le_of_ble_eq_true rfl) (Nat.le_of_ble_eq_true rfl) (Nat.le_of_ble_eq_true rfl) dX0_under_26 ?_
          refine au_if_eq (tgt := 38) dX0_under_29 (by decide) (fun c29 => ?_) (fun c29 => ?_)
          · have c29 := au_b0 c29
            refine au_iconst dX0_under_38 rfl rfl ?_
            refine au_ior dX0_under_39 ?_
            refine au_istore_n dX0_under_40 (show 2 < 4 by decide) ?_
            show au_Go G _ _ 41 [some (au_r XO), some (au_i a), some (au_i (au_or ((bsN (fun j : Nat => (j : Int) = a ∨ below B j a) k : Nat) : Int) 0)), some (au_i (k : Int))] [] (mi, si, hi, sl, r, nx) 0 0
            refine au_iinc dX0_under_41 rfl (show 3 < 4 by decide) (by omega) (by omega) (by decide) (by decide) ?_
            show au_Go G _ _ 44 [some (au_r XO), some (au_i a), some (au_i (au_or ((bsN (fun j : Nat => (j : Int) = a ∨ below B j a) k : Nat) : Int) 0)), some (au_i ((k : Int) + 1))] [] (mi, si, hi, sl, r, nx) 0 0
            refine au_goto (tgt := 4) dX0_under_44 (by decide) ?_
            rw [bsN_step (fun j : Nat => (j : Int) = a ∨ below B j a) k (by omega) _ (by first | exact ⟨fun _ => rfl, fun q => absurd (Or.inl c20) q⟩ | exact ⟨fun _ => rfl, fun q => absurd (Or.inr c29) q⟩ | exact ⟨fun q => (q.elim c20 c29).elim, fun _ => rfl⟩)]
            exact ih (k + 1) (by omega) (by omega)
          · have c29 := au_b1 c29
            refine au_iconst dX0_under_32 rfl rfl ?_
            refine au_iload_n dX0_under_33 rfl ?_
            refine au_ishl dX0_under_34 ?_
            refine au_goto (tgt := 39) dX0_under_35 (by decide) ?_
            refine au_ior dX0_under_39 ?_
            refine au_istore_n dX0_under_40 (show 2 < 4 by decide) ?_
            show au_Go G _ _ 41 [some (au_r XO), some (au_i a), some (au_i (au_or ((bsN (fun j : Nat => (j : Int) = a ∨ below B j a) k : Nat) : Int) (au_shl 1 (k : Int)))), some (au_i (k : Int))] [] (mi, si, hi, sl, r, nx) 0 0
            refine au_iinc dX0_under_41 rfl (show 3 < 4 by decide) (by omega) (by omega) (by decide) (by decide) ?_
            show au_Go G _ _ 44 [some (au_r XO), some (au_i a), some (au_i (au_or ((bsN (fun j : Nat => (j : Int) = a ∨ below B j a) k : Nat) : Int) (au_shl 1 (k : Int)))), some (au_i ((k : Int) + 1))] [] (mi, si, hi, sl, r, nx) 0 0
            refine au_goto (tgt := 4) dX0_under_44 (by decide) ?_
            rw [bsN_step (fun j : Nat => (j : Int) = a ∨ below B j a) k (by omega) _ (by first | exact ⟨fun _ => rfl, fun q => absurd (Or.inl c20) q⟩ | exact ⟨fun _ => rfl, fun q => absurd (Or.inr c29) q⟩ | exact ⟨fun q => (q.elim c20 c29).elim, fun _ => rfl⟩)]
            exact ih (k + 1) (by omega) (by omega)
  exact hl 11 0 (by omega) (by omega)
/-- from below up to the one whose boss is a -/
def toW (B : Int → Int) (a : Int) : Nat → Int → Int
  | 0, u => u
  | k + 1, u => if B u = a then u else toW B a k (B u)
def towards (B : Int → Int) (a o : Int) : Int := toW B a 10 o
theorem toW_bd {B : Int → Int} {n : Int} (hB : Bs B n) {a : Int} (ha : 0 ≤ a) : ∀ (k : Nat) (u : Int), 0 ≤ u → u < n → u < k → chB B a k (B u) → 0 ≤ toW B a k u ∧ toW B a k u < n ∧ B (toW B a k u) = a := by
  intro k
  induction k with
  | zero => intro u _ _ _ h; exact h.elim
  | succ k ih =>
    intro u h0 h1 h2 h
    have hu := hB.2.2 u h0 h1
    simp only [toW]
    simp only [chB] at h
    split
    · rename_i q; exact ⟨h0, h1, q⟩
    · rename_i q
      rcases h with h | h
      · exact absurd h q
      · exact ih (B u) (by omega) (by omega) (by omega) h.2
theorem towards_bd {B : Int → Int} {n : Int} (hB : Bs B n) {a o : Int} (ha : 0 ≤ a) (h0 : 0 ≤ o) (h1 : o < n) (h : below B o a) : 0 ≤ towards B a o ∧ towards B a o < n ∧ B (towards B a o) = a := toW_bd hB ha 10 o h0 h1 (by have := hB.2.1; omega) h
theorem kX0_towards (G : au_G) (a o : Int) (mi si hi sl : au_A → Int → Int) (r : au_A → Int → Option au_A) (nx : Nat) (hF : Fix r) (n : Int) (hN : mi XNn 0 = n) (B : Int → Int) (hE : ∀ o, 0 ≤ o → o < 10 → mi XNboss o = B o) (hB : Bs B n) (ha : 0 ≤ a) (h0 : 0 ≤ o) (h1 : o < n) (hx : below B o a) : au_Ctr G yX0_towards cX0_towards 4 (some .int) 0 0 0 [au_r XO, au_i a, au_i o] (mi, si, hi, sl, r, nx) (au_pure (au_i (towards B a o)) (mi, si, hi, sl, r, nx)) := by
  refine au_of (by decide) (Nat.le_of_ble_eq_true rfl) ?_
  have hb0 := hB.2.1
  show au_Go G _ _ 0 [some (au_r XO), some (au_i a), some (au_i o), none] [] (mi, si, hi, sl, r, nx) 0 0
  refine au_iload_n dX0_towards_0 rfl ?_
  refine au_istore_n dX0_towards_1 (show 3 < 4 by decide) ?_
  show au_Go G _ _ 2 [some (au_r XO), some (au_i a), some (au_i o), some (au_i o)] [] (mi, si, hi, sl, r, nx) 0 0
  have hl : ∀ (f : Nat) (u : Int), 0 ≤ u → u < n → u < (f : Int) → chB B a f (B u) → towards B a o = toW B a f u → au_Go G (yX0_towards.cls, cX0_towards, 4, (some .int), au_rm 0 0 0, yX0_towards.name) (au_QM G (au_rm 0 0 0) (au_pure (au_i (towards B a o)) (mi, si, hi, sl, r, nx))) 2 [some (au_r XO), some (au_i a), some (au_i o), some (au_i u)] [] (mi, si, hi, sl, r, nx) 0 0 := by
    intro f
    induction f with
    | zero => intro u _ _ _ h; exact h.elim
    | succ f ih =>
      intro u h0 h1 h2 h3 h4
      have hu := hB.2.2 u h0 h1
      simp only [chB] at h3
      simp only [toW] at h4
      refine au_aload_n dX0_towards_2 rfl ?_
      refine au_getf (C := RX0) (T := TX0) (N := 15) in_X0 (by decide) rfl 0 (by decide) rfl rfl q245 rfl dX0_towards_3 (v := au_r XN) (congrArg au_q (fx_XO_0 hF)) ?_
      refine au_getN (C := RX1) (T := TX1) (N := 11) in_X1 (by decide) rfl 2 (by decide) rfl rfl q191 rfl dX0_towards_6 (v := au_r XNboss) (congrArg au_q (fx_XN_2 hF)) ?_
      refine au_iload_n dX0_towards_9 rfl ?_
      refine au_iald dX0_towards_10 rfl (by omega) (by show _ < ((10 : Nat) : Int); omega) (v := au_i (B u)) (congrArg au_i (hE _ (by omega) (by omega))) ?_
      refine au_iload_n dX0_towards_11 rfl ?_
      refine au_icmp_eq (tgt := 28) dX0_towards_12 (by decide) (fun c12 => ?_) (fun c12 => ?_)
      · refine au_iload_n dX0_towards_28 rfl ?_
        exact au_iret dX0_towards_29 rfl rfl (Nat.le_of_ble_eq_true rfl) (Nat.le_of_ble_eq_true rfl) (au_pe (by rw [h4, if_pos c12]) rfl)
      · have h3 := h3.resolve_left c12
        rw [if_neg c12] at h4
        refine au_aload_n dX0_towards_15 rfl ?_
        refine au_getf (C := RX0) (T := TX0) (N := 15) in_X0 (by decide) rfl 0 (by decide) rfl rfl q245 rfl dX0_towards_16 (v := au_r XN) (congrArg au_q (fx_XO_0 hF)) ?_
        refine au_getN (C := RX1) (T := TX1) (N := 11) in_X1 (by decide) rfl 2 (by decide) rfl rfl q191 rfl dX0_towards_19 (v := au_r XNboss) (congrArg au_q (fx_XN_2 hF)) ?_
        refine au_iload_n dX0_towards_22 rfl ?_
        refine au_iald dX0_towards_23 rfl (by omega) (by show _ < ((10 : Nat) : Int); omega) (v := au_i (B u)) (congrArg au_i (hE _ (by omega) (by omega))) ?_
        refine au_istore_n dX0_towards_24 (show 3 < 4 by decide) ?_
        show au_Go G _ _ 25 [some (au_r XO), some (au_i a), some (au_i o), some (au_i (B u))] [] (mi, si, hi, sl, r, nx) 0 0
        refine au_goto (tgt := 2) dX0_towards_25 (by decide) ?_
        exact ih _ (by omega) (by omega) (by omega) h3.2 h4
  exact hl 10 o h0 h1 (by omega) hx rfl
theorem below_root {B : Int → Int} {n : Int} (hB : Bs B n) : ∀ (k : Nat) (u : Int), 0 ≤ u → u < n → u < k → chB B 0 k u := by
  intro k
  induction k with
  | zero => intro u h0 _ h2; omega
  | succ k ih =>
    intro u h0 h1 h2
    have hu := hB.2.2 u h0 h1
    simp only [chB]
    by_cases q : u = 0
    · exact Or.inl q
    · exact Or.inr ⟨by omega, ih (B u) (hu.2.2 (by omega)) (by omega) (by omega)⟩
theorem below_0 {B : Int → Int} {n : Int} (hB : Bs B n) {o : Int} (h0 : 0 < o) (h1 : o < n) : below B o 0 := by
  have hu := hB.2.2 o (by omega) h1
  have := hB.2.1
  exact below_root hB 10 (B o) (hu.2.2 h0) (by omega) (by omega)
/-- the lowest one that both stand under (or are) -/
noncomputable def mtW (B : Int → Int) (t : Int) : Nat → Int → Int
  | 0, u => u
  | k + 1, u => @ite Int (u = t ∨ below B t u) (Classical.propDecidable _) u (mtW B t k (B u))
noncomputable def meet (B : Int → Int) (o t : Int) : Int := mtW B t 10 o
theorem mtW_bd {B : Int → Int} {n : Int} (hB : Bs B n) {t : Int} (ht0 : 0 ≤ t) (ht : t < n) : ∀ (k : Nat) (u : Int), 0 ≤ u → u < n → 0 ≤ mtW B t k u ∧ mtW B t k u < n := by
  intro k
  induction k with
  | zero => intro u h0 h1; exact ⟨h0, h1⟩
  | succ k ih =>
    intro u h0 h1
    have hu := hB.2.2 u h0 h1
    simp only [mtW]
    split
    · exact ⟨h0, h1⟩
    · rename_i q
      have : u ≠ 0 := by
        intro z
        subst z
        by_cases y : t = 0
        · exact q (Or.inl y.symm)
        · exact q (Or.inr (below_0 hB (by omega) ht))
      exact ih (B u) (hu.2.2 (by omega)) (by omega)
theorem meet_bd {B : Int → Int} {n : Int} (hB : Bs B n) {o t : Int} (h0 : 0 ≤ o) (h1 : o < n) (ht0 : 0 ≤ t) (ht : t < n) : 0 ≤ meet B o t ∧ meet B o t < n := mtW_bd hB ht0 ht 10 o h0 h1
/-- steps from one to another by bosses -/
noncomputable def stepsN (B : Int → Int) (o t : Int) : Int := rank B o + rank B t - 2 * rank B (meet B o t)
theorem stepsN_bd {B : Int → Int} {n : Int} (hB : Bs B n) {o t : Int} (h0 : 0 ≤ o) (h1 : o < n) (ht0 : 0 ≤ t) (ht : t < n) : -18 ≤ stepsN B o t ∧ stepsN B o t ≤ 18 := by
  have h2 := meet_bd hB h0 h1 ht0 ht
  have h3 := rank_bd hB h0 h1
  have h4 := rank_bd hB ht0 ht
  have h5 := rank_bd hB h2.1 h2.2
  unfold stepsN
  omega
theorem kX0_meetOf (G : au_G) (o t : Int) (mi si hi sl : au_A → Int → Int) (r : au_A → Int → Option au_A) (nx : Nat) (hF : Fix r) (n : Int) (hN : mi XNn 0 = n) (B : Int → Int) (hE : ∀ o, 0 ≤ o → o < 10 → mi XNboss o = B o) (hB : Bs B n) (h0 : 0 ≤ o) (h1 : o < n) (ht0 : 0 ≤ t) (ht : t < n) : au_Ctr G yX0_meetOf cX0_meetOf 4 (some .int) 1 0 0 [au_r XO, au_i o, au_i t] (mi, si, hi, sl, r, nx) (au_pure (au_i (meet B o t)) (mi, si, hi, sl, r, nx)) := by
  refine au_of (by decide) (Nat.le_of_ble_eq_true rfl) ?_
  have hb0 := hB.2.1
  show au_Go G _ _ 0 [some (au_r XO), some (au_i o), some (au_i t), none] [] (mi, si, hi, sl, r, nx) 0 0
  refine au_iload_n dX0_meetOf_0 rfl ?_
  refine au_istore_n dX0_meetOf_1 (show 3 < 4 by decide) ?_
  show au_Go G _ _ 2 [some (au_r XO), some (au_i o), some (au_i t), some (au_i o)] [] (mi, si, hi, sl, r, nx) 0 0
  have hl : ∀ (f : Nat) (u : Int), 0 ≤ u → u < n → u < (f : Int) → meet B o t = mtW B t f u → au_Go G (yX0_meetOf.cls, cX0_meetOf, 4, (some .int), au_rm 1 0 0, yX0_meetOf.name) (au_QM G (au_rm 1 0 0) (au_pure (au_i (meet B o t)) (mi, si, hi, sl, r, nx))) 2 [some (au_r XO), some (au_i o), some (au_i t), some (au_i u)] [] (mi, si, hi, sl, r, nx) 0 0 := by
    intro f
    induction f with
    | zero => intro u h0 _ h2 _; omega
    | succ f ih =>
      intro u h0 h1 h2 h3
      have hu := hB.2.2 u h0 h1
      simp only [mtW] at h3
      refine au_iload_n dX0_meetOf_2 rfl ?_
      refine au_iload_n dX0_meetOf_3 rfl ?_
      refine au_icmp_eq (tgt := 29) dX0_meetOf_4 (by decide) (fun c4 => ?_) (fun c4 => ?_)
      · refine au_iload_n dX0_meetOf_29 rfl ?_
        exact au_iret dX0_meetOf_30 rfl rfl (Nat.le_of_ble_eq_true rfl) (Nat.le_of_ble_eq_true rfl) (au_pe (by rw [h3, if_pos (by first | exact Or.inl c4 | exact Or.inr c13)]) rfl)
      · refine au_aload_n dX0_meetOf_7 rfl ?_
        refine au_iload_n dX0_meetOf_8 rfl ?_
        refine au_iload_n dX0_meetOf_9 rfl ?_
        refine au_callVp (n := 2) (kX0_isBelow G t u mi si hi sl r nx hF n hN B hE hB (by omega) (by omega) (by omega)) (lw_V q1078 q1080 qs36 q130 q1081) rfl (by decide +kernel) (by decide) (T := TX0) (N := 15) rfl rfl rfl rfl (Nat.le_of_ble_eq_true rfl) (Nat.le_of_ble_eq_true rfl) (Nat.le_of_ble_eq_true rfl) (Nat.le_of_ble_eq_true rfl) (Nat.le_of_ble_eq_true rfl) dX0_meetOf_10 ?_
        refine au_if_ne (tgt := 29) dX0_meetOf_13 (by decide) (fun c13 => ?_) (fun c13 => ?_)
        · have c13 := au_b1 c13
          refine au_iload_n dX0_meetOf_29 rfl ?_
          exact au_iret dX0_meetOf_30 rfl rfl (Nat.le_of_ble_eq_true rfl) (Nat.le_of_ble_eq_true rfl) (au_pe (by rw [h3, if_pos (by first | exact Or.inl c4 | exact Or.inr c13)]) rfl)
        · have c13 := au_b0 c13
          have hx : ¬ (u = t ∨ below B t u) := fun q => q.elim c4 c13
          rw [if_neg hx] at h3
          have hz : u ≠ 0 := by
            intro z
            subst z
            by_cases y : t = 0
            · exact hx (Or.inl y.symm)
            · exact hx (Or.inr (below_0 hB (by omega) ht))
          have hu2 := hu.2.2 (by omega)
          refine au_aload_n dX0_meetOf_16 rfl ?_
          refine au_getf (C := RX0) (T := TX0) (N := 15) in_X0 (by decide) rfl 0 (by decide) rfl rfl q245 rfl dX0_meetOf_17 (v := au_r XN) (congrArg au_q (fx_XO_0 hF)) ?_
          refine au_getN (C := RX1) (T := TX1) (N := 11) in_X1 (by decide) rfl 2 (by decide) rfl rfl q191 rfl dX0_meetOf_20 (v := au_r XNboss) (congrArg au_q (fx_XN_2 hF)) ?_
          refine au_iload_n dX0_meetOf_23 rfl ?_
          refine au_iald dX0_meetOf_24 rfl (by omega) (by show _ < ((10 : Nat) : Int); omega) (v := au_i (B u)) (congrArg au_i (hE _ (by omega) (by omega))) ?_
          refine au_istore_n dX0_meetOf_25 (show 3 < 4 by decide) ?_
          show au_Go G _ _ 26 [some (au_r XO), some (au_i o), some (au_i t), some (au_i (B u))] [] (mi, si, hi, sl, r, nx) 0 0
          refine au_goto (tgt := 2) dX0_meetOf_26 (by decide) ?_
          exact ih _ hu2 (by omega) (by omega) h3
  exact hl 10 o h0 h1 (by omega) rfl
theorem kX0_stepsOf (G : au_G) (o t : Int) (mi si hi sl : au_A → Int → Int) (r : au_A → Int → Option au_A) (nx : Nat) (hF : Fix r) (n : Int) (hN : mi XNn 0 = n) (B : Int → Int) (hE : ∀ o, 0 ≤ o → o < 10 → mi XNboss o = B o) (hB : Bs B n) (h0 : 0 ≤ o) (h1 : o < n) (ht0 : 0 ≤ t) (ht : t < n) : au_Ctr G yX0_stepsOf cX0_stepsOf 3 (some .int) 2 0 0 [au_r XO, au_i o, au_i t] (mi, si, hi, sl, r, nx) (au_pure (au_i (stepsN B o t)) (mi, si, hi, sl, r, nx)) := by
  refine au_of (by decide) (Nat.le_of_ble_eq_true rfl) ?_
  have h2 := meet_bd hB h0 h1 ht0 ht
  have h3 := rank_bd hB h0 h1
  have h4 := rank_bd hB ht0 ht
  have h5 := rank_bd hB h2.1 h2.2
  show au_Go G _ _ 0 [some (au_r XO), some (au_i o), some (au_i t)] [] (mi, si, hi, sl, r, nx) 0 0
  refine au_aload_n dX0_stepsOf_0 rfl ?_
  refine au_iload_n dX0_stepsOf_1 rfl ?_
  refine au_callVp (n := 1) (kX0_rankOf G o mi si hi sl r nx hF n hN B hE hB (by omega) (by omega)) (lw_V q916 q918 qs29 q130 q919) rfl (by decide +kernel) (by decide) (T := TX0) (N := 15) rfl rfl rfl rfl (Nat.le_of_ble_eq_true rfl) (Nat.le_of_ble_eq_true rfl) (Nat.le_of_ble_eq_true rfl) (Nat.le_of_ble_eq_true rfl) (Nat.le_of_ble_eq_true rfl) dX0_stepsOf_2 ?_
  refine au_aload_n dX0_stepsOf_5 rfl ?_
  refine au_iload_n dX0_stepsOf_6 rfl ?_
  refine au_callVp (n := 1) (kX0_rankOf G t mi si hi sl r nx hF n hN B hE hB (by omega) (by omega)) (lw_V q916 q918 qs29 q130 q919) rfl (by decide +kernel) (by decide) (T := TX0) (N := 15) rfl rfl rfl rfl (Nat.le_of_ble_eq_true rfl) (Nat.le_of_ble_eq_true rfl) (Nat.le_of_ble_eq_true rfl) (Nat.le_of_ble_eq_true rfl) (Nat.le_of_ble_eq_true rfl) dX0_stepsOf_7 ?_
  refine au_iadd dX0_stepsOf_10 (by omega) (by omega) ?_
  refine au_iconst dX0_stepsOf_11 rfl rfl ?_
  refine au_aload_n dX0_stepsOf_12 rfl ?_
  refine au_aload_n dX0_stepsOf_13 rfl ?_
  refine au_iload_n dX0_stepsOf_14 rfl ?_
  refine au_iload_n dX0_stepsOf_15 rfl ?_
  refine au_callVp (n := 2) (kX0_meetOf G o t mi si hi sl r nx hF n hN B hE hB (by omega) (by omega) (by omega) (by omega)) (lw_V q1196 q1198 qs46 q130 q1199) rfl (by decide +kernel) (by decide) (T := TX0) (N := 15) rfl rfl rfl rfl (Nat.le_of_ble_eq_true rfl) (Nat.le_of_ble_eq_true rfl) (Nat.le_of_ble_eq_true rfl) (Nat.le_of_ble_eq_true rfl) (Nat.le_of_ble_eq_true rfl) dX0_stepsOf_16 ?_
  refine au_callVp (n := 1) (kX0_rankOf G (meet B o t) mi si hi sl r nx hF n hN B hE hB (by omega) (by omega)) (lw_V q916 q918 qs29 q130 q919) rfl (by decide +kernel) (by decide) (T := TX0) (N := 15) rfl rfl rfl rfl (Nat.le_of_ble_eq_true rfl) (Nat.le_of_ble_eq_true rfl) (Nat.le_of_ble_eq_true rfl) (Nat.le_of_ble_eq_true rfl) (Nat.le_of_ble_eq_true rfl) dX0_stepsOf_19 ?_
  refine au_imul dX0_stepsOf_22 (by omega) (by omega) ?_
  refine au_isub dX0_stepsOf_23 (by omega) (by omega) ?_
  exact au_iret dX0_stepsOf_24 rfl rfl (Nat.le_of_ble_eq_true rfl) (Nat.le_of_ble_eq_true rfl) (⟨rfl, rfl⟩)
theorem kX0_meets (G : au_G) (o t : Int) (mi si hi sl : au_A → Int → Int) (r : au_A → Int → Option au_A) (nx : Nat) (hF : Fix r) (n : Int) (hN : mi XNn 0 = n) (B : Int → Int) (hE : ∀ o, 0 ≤ o → o < 10 → mi XNboss o = B o) (hB : Bs B n) : au_Ctr G yX0_meets cX0_meets 3 (some .int) 2 0 0 [au_r XO, au_i o, au_i t] (mi, si, hi, sl, r, nx) (au_pure (au_i (@ite Int ((0 ≤ o ∧ o < n) ∧ 0 ≤ t ∧ t < n) (Classical.propDecidable _) (meet B o t) (-1))) (mi, si, hi, sl, r, nx)) := by
  refine au_of (by decide) (Nat.le_of_ble_eq_true rfl) ?_
  have hn : 0 ≤ n ∧ n ≤ 10 := ⟨hB.1, hB.2.1⟩
  show au_Go G _ _ 0 [some (au_r XO), some (au_i o), some (au_i t)] [] (mi, si, hi, sl, r, nx) 0 0
  refine au_aload_n dX0_meets_0 rfl ?_
  refine au_iload_n dX0_meets_1 rfl ?_
  refine au_callVp (n := 1) (kX0_isOfficer G o mi si hi sl r nx hF n hN hn ) (lw_V q296 q298 qs0 q130 q299) rfl (by decide +kernel) (by decide) (T := TX0) (N := 15) rfl rfl rfl rfl (Nat.le_of_ble_eq_true rfl) (Nat.le_of_ble_eq_true rfl) (Nat.le_of_ble_eq_true rfl) (Nat.le_of_ble_eq_true rfl) (Nat.le_of_ble_eq_true rfl) dX0_meets_2 ?_
  refine au_if_eq (tgt := 25) dX0_meets_5 (by decide) (fun c5 => ?_) (fun c5 => ?_)
  · have c5 := au_b0 c5
    refine au_iconst dX0_meets_25 rfl rfl ?_
    exact au_iret dX0_meets_26 rfl rfl (Nat.le_of_ble_eq_true rfl) (Nat.le_of_ble_eq_true rfl) (by first | exact au_pe (by rw [if_pos (by omega)]) rfl | exact au_pe (by rw [if_neg (by omega)]) rfl)
  · have c5 := au_b1 c5
    refine au_aload_n dX0_meets_8 rfl ?_
    refine au_iload_n dX0_meets_9 rfl ?_
    refine au_callVp (n := 1) (kX0_isOfficer G t mi si hi sl r nx hF n hN hn ) (lw_V q296 q298 qs0 q130 q299) rfl (by decide +kernel) (by decide) (T := TX0) (N := 15) rfl rfl rfl rfl (Nat.le_of_ble_eq_true rfl) (Nat.le_of_ble_eq_true rfl) (Nat.le_of_ble_eq_true rfl) (Nat.le_of_ble_eq_true rfl) (Nat.le_of_ble_eq_true rfl) dX0_meets_10 ?_
    refine au_if_eq (tgt := 25) dX0_meets_13 (by decide) (fun c13 => ?_) (fun c13 => ?_)
    · have c13 := au_b0 c13
      refine au_iconst dX0_meets_25 rfl rfl ?_
      exact au_iret dX0_meets_26 rfl rfl (Nat.le_of_ble_eq_true rfl) (Nat.le_of_ble_eq_true rfl) (by first | exact au_pe (by rw [if_pos (by omega)]) rfl | exact au_pe (by rw [if_neg (by omega)]) rfl)
    · have c13 := au_b1 c13
      refine au_aload_n dX0_meets_16 rfl ?_
      refine au_iload_n dX0_meets_17 rfl ?_
      refine au_iload_n dX0_meets_18 rfl ?_
      refine au_callVp (n := 2) (kX0_meetOf G o t mi si hi sl r nx hF n hN B hE hB (by omega) (by omega) (by omega) (by omega)) (lw_V q1196 q1198 qs46 q130 q1199) rfl (by decide +kernel) (by decide) (T := TX0) (N := 15) rfl rfl rfl rfl (Nat.le_of_ble_eq_true rfl) (Nat.le_of_ble_eq_true rfl) (Nat.le_of_ble_eq_true rfl) (Nat.le_of_ble_eq_true rfl) (Nat.le_of_ble_eq_true rfl) dX0_meets_19 ?_
      refine au_goto (tgt := 26) dX0_meets_22 (by decide) ?_
      exact au_iret dX0_meets_26 rfl rfl (Nat.le_of_ble_eq_true rfl) (Nat.le_of_ble_eq_true rfl) (by first | exact au_pe (by rw [if_pos (by omega)]) rfl | exact au_pe (by rw [if_neg (by omega)]) rfl)
theorem kX0_steps (G : au_G) (o t : Int) (mi si hi sl : au_A → Int → Int) (r : au_A → Int → Option au_A) (nx : Nat) (hF : Fix r) (n : Int) (hN : mi XNn 0 = n) (B : Int → Int) (hE : ∀ o, 0 ≤ o → o < 10 → mi XNboss o = B o) (hB : Bs B n) : au_Ctr G yX0_steps cX0_steps 3 (some .int) 3 0 0 [au_r XO, au_i o, au_i t] (mi, si, hi, sl, r, nx) (au_pure (au_i (@ite Int ((0 ≤ o ∧ o < n) ∧ 0 ≤ t ∧ t < n) (Classical.propDecidable _) (stepsN B o t) (-1))) (mi, si, hi, sl, r, nx)) := by
  refine au_of (by decide) (Nat.le_of_ble_eq_true rfl) ?_
  have hn : 0 ≤ n ∧ n ≤ 10 := ⟨hB.1, hB.2.1⟩
  show au_Go G _ _ 0 [some (au_r XO), some (au_i o), some (au_i t)] [] (mi, si, hi, sl, r, nx) 0 0
  refine au_aload_n dX0_steps_0 rfl ?_
  refine au_iload_n dX0_steps_1 rfl ?_
  refine au_callVp (n := 1) (kX0_isOfficer G o mi si hi sl r nx hF n hN hn ) (lw_V q296 q298 qs0 q130 q299) rfl (by decide +kernel) (by decide) (T := TX0) (N := 15) rfl rfl rfl rfl (Nat.le_of_ble_eq_true rfl) (Nat.le_of_ble_eq_true rfl) (Nat.le_of_ble_eq_true rfl) (Nat.le_of_ble_eq_true rfl) (Nat.le_of_ble_eq_true rfl) dX0_steps_2 ?_
  refine au_if_eq (tgt := 25) dX0_steps_5 (by decide) (fun c5 => ?_) (fun c5 => ?_)
  · have c5 := au_b0 c5
    refine au_iconst dX0_steps_25 rfl rfl ?_
    exact au_iret dX0_steps_26 rfl rfl (Nat.le_of_ble_eq_true rfl) (Nat.le_of_ble_eq_true rfl) (by first | exact au_pe (by rw [if_pos (by omega)]) rfl | exact au_pe (by rw [if_neg (by omega)]) rfl)
  · have c5 := au_b1 c5
    refine au_aload_n dX0_steps_8 rfl ?_
    refine au_iload_n dX0_steps_9 rfl ?_
    refine au_callVp (n := 1) (kX0_isOfficer G t mi si hi sl r nx hF n hN hn ) (lw_V q296 q298 qs0 q130 q299) rfl (by decide +kernel) (by decide) (T := TX0) (N := 15) rfl rfl rfl rfl (Nat.le_of_ble_eq_true rfl) (Nat.le_of_ble_eq_true rfl) (Nat.le_of_ble_eq_true rfl) (Nat.le_of_ble_eq_true rfl) (Nat.le_of_ble_eq_true rfl) dX0_steps_10 ?_
    refine au_if_eq (tgt := 25) dX0_steps_13 (by decide) (fun c13 => ?_) (fun c13 => ?_)
    · have c13 := au_b0 c13
      refine au_iconst dX0_steps_25 rfl rfl ?_
      exact au_iret dX0_steps_26 rfl rfl (Nat.le_of_ble_eq_true rfl) (Nat.le_of_ble_eq_true rfl) (by first | exact au_pe (by rw [if_pos (by omega)]) rfl | exact au_pe (by rw [if_neg (by omega)]) rfl)
    · have c13 := au_b1 c13
      refine au_aload_n dX0_steps_16 rfl ?_
      refine au_iload_n dX0_steps_17 rfl ?_
      refine au_iload_n dX0_steps_18 rfl ?_
      refine au_callVp (n := 2) (kX0_stepsOf G o t mi si hi sl r nx hF n hN B hE hB (by omega) (by omega) (by omega) (by omega)) (lw_V q1204 q1206 qs47 q130 q1207) rfl (by decide +kernel) (by decide) (T := TX0) (N := 15) rfl rfl rfl rfl (Nat.le_of_ble_eq_true rfl) (Nat.le_of_ble_eq_true rfl) (Nat.le_of_ble_eq_true rfl) (Nat.le_of_ble_eq_true rfl) (Nat.le_of_ble_eq_true rfl) dX0_steps_19 ?_
      refine au_goto (tgt := 26) dX0_steps_22 (by decide) ?_
      exact au_iret dX0_steps_26 rfl rfl (Nat.le_of_ble_eq_true rfl) (Nat.le_of_ble_eq_true rfl) (by first | exact au_pe (by rw [if_pos (by omega)]) rfl | exact au_pe (by rw [if_neg (by omega)]) rfl)
theorem kX2_isIn (G : au_G) (v lo hi : Int) (M : au_M) : au_Ctr G yX2_isIn cX2_isIn 3 (some .boolean) 0 0 0 [au_i v, au_i lo, au_i hi] M (au_pure (au_i (au_b (lo ≤ v ∧ v ≤ hi))) M) := by
  refine au_of (by decide) (Nat.le_of_ble_eq_true rfl) ?_
  show au_Go G _ _ 0 [some (au_i v), some (au_i lo), some (au_i hi)] [] M 0 0
  refine au_iload_n dX2_isIn_0 rfl ?_
  refine au_iload_n dX2_isIn_1 rfl ?_
  refine au_icmp_lt (tgt := 14) dX2_isIn_2 (by decide) (fun c2 => ?_) (fun c2 => ?_)
  · refine au_iconst dX2_isIn_14 rfl rfl ?_
    exact au_zret dX2_isIn_15 rfl (Or.inl rfl) rfl (Nat.le_of_ble_eq_true rfl) (Nat.le_of_ble_eq_true rfl) (au_pf (by omega) rfl)
  · refine au_iload_n dX2_isIn_5 rfl ?_
    refine au_iload_n dX2_isIn_6 rfl ?_
    refine au_icmp_gt (tgt := 14) dX2_isIn_7 (by decide) (fun c7 => ?_) (fun c7 => ?_)
    · refine au_iconst dX2_isIn_14 rfl rfl ?_
      exact au_zret dX2_isIn_15 rfl (Or.inl rfl) rfl (Nat.le_of_ble_eq_true rfl) (Nat.le_of_ble_eq_true rfl) (au_pf (by omega) rfl)
    · refine au_iconst dX2_isIn_10 rfl rfl ?_
      refine au_goto (tgt := 15) dX2_isIn_11 (by decide) ?_
      exact au_zret dX2_isIn_15 rfl (Or.inr rfl) rfl (Nat.le_of_ble_eq_true rfl) (Nat.le_of_ble_eq_true rfl) (au_pt (by omega) rfl)
theorem kX2_has (G : au_G) (v k : Int) (M : au_M) : au_Ctr G yX2_has cX2_has 2 (some .boolean) 0 0 0 [au_i v, au_i k] M (au_pure (au_i (au_b (hs v k))) M) := by
  refine au_of (by decide) (Nat.le_of_ble_eq_true rfl) ?_
  show au_Go G _ _ 0 [some (au_i v), some (au_i k)] [] M 0 0
  refine au_iload_n dX2_has_0 rfl ?_
  refine au_iload_n dX2_has_1 rfl ?_
  refine au_ishr dX2_has_2 ?_
  refine au_iconst dX2_has_3 rfl rfl ?_
  refine au_iand dX2_has_4 ?_
  refine au_iconst dX2_has_5 rfl rfl ?_
  refine au_icmp_ne (tgt := 13) dX2_has_6 (by decide) (fun c6 => ?_) (fun c6 => ?_)
  · refine au_iconst dX2_has_13 rfl rfl ?_
    exact au_zret dX2_has_14 rfl (Or.inl rfl) rfl (Nat.le_of_ble_eq_true rfl) (Nat.le_of_ble_eq_true rfl) (by first | exact au_pt c6 rfl | exact au_pf c6 rfl)
  · refine au_iconst dX2_has_9 rfl rfl ?_
    refine au_goto (tgt := 14) dX2_has_10 (by decide) ?_
    exact au_zret dX2_has_14 rfl (Or.inr rfl) rfl (Nat.le_of_ble_eq_true rfl) (Nat.le_of_ble_eq_true rfl) (by first | exact au_pt c6 rfl | exact au_pf c6 rfl)
theorem kX2_isOfficer (G : au_G) (o : Int) (mi si hi sl : au_A → Int → Int) (r : au_A → Int → Option au_A) (nx : Nat) (hF : Fix r) (n : Int) (hN : mi MA 0 = n) (hn : 0 ≤ n ∧ n ≤ 10) : au_Ctr G yX2_isOfficer cX2_isOfficer 2 (some .boolean) 1 0 0 [au_r MO, au_i o] (mi, si, hi, sl, r, nx) (au_pure (au_i (au_b (0 ≤ o ∧ o < n))) (mi, si, hi, sl, r, nx)) := by
  refine au_of (by decide) (Nat.le_of_ble_eq_true rfl) ?_
  show au_Go G _ _ 0 [some (au_r MO), some (au_i o)] [] (mi, si, hi, sl, r, nx) 0 0
  refine au_iload_n dX2_isOfficer_0 rfl ?_
  refine au_iconst dX2_isOfficer_1 rfl rfl ?_
  refine au_aload_n dX2_isOfficer_2 rfl ?_
  refine au_getf (C := RX2) (T := TX2) (N := 35) in_X2 (by decide) rfl 0 (by decide) rfl rfl q1359 rfl dX2_isOfficer_3 (v := au_r MA) (congrArg au_q (fx_MO_0 hF)) ?_
  refine au_iconst dX2_isOfficer_6 rfl rfl ?_
  refine au_iald dX2_isOfficer_7 rfl (by omega) (by show _ < ((4544 : Nat) : Int); omega) (v := au_i (n)) (congrArg au_i (hN)) ?_
  refine au_iconst dX2_isOfficer_8 rfl rfl ?_
  refine au_isub dX2_isOfficer_9 (by omega) (by omega) ?_
  refine au_callSp (n := 3) (kX2_isIn G o 0 (n - 1) (mi, si, hi, sl, r, nx)) (lw_S q1475 q1476 q134 q1477) (by decide +kernel) rfl rfl rfl (Nat.le_of_ble_eq_true rfl) (Nat.le_of_ble_eq_true rfl) (Nat.le_of_ble_eq_true rfl) (Nat.le_of_ble_eq_true rfl) (Nat.le_of_ble_eq_true rfl) dX2_isOfficer_10 ?_
  exact au_zret dX2_isOfficer_13 rfl (au_b_01) rfl (Nat.le_of_ble_eq_true rfl) (Nat.le_of_ble_eq_true rfl) (au_pe (au_b_congr (by omega)) rfl)
theorem kX2_isApology (G : au_G) (o : Int) (mi si hi sl : au_A → Int → Int) (r : au_A → Int → Option au_A) (nx : Nat) (hF : Fix r) (sn : Int) (hSn : mi MA 8 = sn) (hs : 0 ≤ sn ∧ sn ≤ 10) : au_Ctr G yX2_isApology cX2_isApology 2 (some .boolean) 1 0 0 [au_r MO, au_i o] (mi, si, hi, sl, r, nx) (au_pure (au_i (au_b (0 ≤ o ∧ o < sn))) (mi, si, hi, sl, r, nx)) := by
  refine au_of (by decide) (Nat.le_of_ble_eq_true rfl) ?_
  show au_Go G _ _ 0 [some (au_r MO), some (au_i o)] [] (mi, si, hi, sl, r, nx) 0 0
  refine au_iload_n dX2_isApology_0 rfl ?_
  refine au_iconst dX2_isApology_1 rfl rfl ?_
  refine au_aload_n dX2_isApology_2 rfl ?_
  refine au_getf (C := RX2) (T := TX2) (N := 35) in_X2 (by decide) rfl 0 (by decide) rfl rfl q1359 rfl dX2_isApology_3 (v := au_r MA) (congrArg au_q (fx_MO_0 hF)) ?_
  refine au_bipush dX2_isApology_6 rfl rfl ?_
  refine au_iald dX2_isApology_8 rfl (by omega) (by show _ < ((4544 : Nat) : Int); omega) (v := au_i (sn)) (congrArg au_i (hSn)) ?_
  refine au_iconst dX2_isApology_9 rfl rfl ?_
  refine au_isub dX2_isApology_10 (by omega) (by omega) ?_
  refine au_callSp (n := 3) (kX2_isIn G o 0 (sn - 1) (mi, si, hi, sl, r, nx)) (lw_S q1475 q1476 q134 q1477) (by decide +kernel) rfl rfl rfl (Nat.le_of_ble_eq_true rfl) (Nat.le_of_ble_eq_true rfl) (Nat.le_of_ble_eq_true rfl) (Nat.le_of_ble_eq_true rfl) (Nat.le_of_ble_eq_true rfl) dX2_isApology_11 ?_
  exact au_zret dX2_isApology_14 rfl (au_b_01) rfl (Nat.le_of_ble_eq_true rfl) (Nat.le_of_ble_eq_true rfl) (au_pe (au_b_congr (by omega)) rfl)
theorem kX2_get (G : au_G) (k w : Int) (mi si hi sl : au_A → Int → Int) (r : au_A → Int → Option au_A) (nx : Nat) (hF : Fix r) (h0 : 0 ≤ k) (h1 : k < 10) (h2 : 0 ≤ w) (h3 : w ≤ 6) : au_Ctr G yX2_get cX2_get 3 (some .int) 0 0 0 [au_r MO, au_i k, au_i w] (mi, si, hi, sl, r, nx) (au_pure (au_i (mi MA (20 + 7 * k + w))) (mi, si, hi, sl, r, nx)) := by
  refine au_of (by decide) (Nat.le_of_ble_eq_true rfl) ?_
  show au_Go G _ _ 0 [some (au_r MO), some (au_i k), some (au_i w)] [] (mi, si, hi, sl, r, nx) 0 0
  refine au_aload_n dX2_get_0 rfl ?_
  refine au_getf (C := RX2) (T := TX2) (N := 35) in_X2 (by decide) rfl 0 (by decide) rfl rfl q1359 rfl dX2_get_1 (v := au_r MA) (congrArg au_q (fx_MO_0 hF)) ?_
  refine au_bipush dX2_get_4 rfl rfl ?_
  refine au_bipush dX2_get_6 rfl rfl ?_
  refine au_iload_n dX2_get_8 rfl ?_
  refine au_imul dX2_get_9 (by omega) (by omega) ?_
  refine au_iadd dX2_get_10 (by omega) (by omega) ?_
  refine au_iload_n dX2_get_11 rfl ?_
  refine au_iadd dX2_get_12 (by omega) (by omega) ?_
  refine au_iald dX2_get_13 rfl (by omega) (by show _ < ((4544 : Nat) : Int); omega) (v := au_i (mi MA ((20 + (7 * k)) + w))) (by rfl) ?_
  exact au_iret dX2_get_14 rfl rfl (Nat.le_of_ble_eq_true rfl) (Nat.le_of_ble_eq_true rfl) (⟨rfl, rfl⟩)
theorem kX2_rankOf (G : au_G) (o : Int) (mi si hi sl : au_A → Int → Int) (r : au_A → Int → Option au_A) (nx : Nat) (hF : Fix r) (n : Int) (hN : mi MA 0 = n) (B : Int → Int) (hE : ∀ o, 0 ≤ o → o < 10 → mi MA (90 + o) = B o) (hB : Bs B n) (h0 : 0 ≤ o) (h1 : o < n) : au_Ctr G yX2_rankOf cX2_rankOf 4 (some .int) 0 0 0 [au_r MO, au_i o] (mi, si, hi, sl, r, nx) (au_pure (au_i (rank B o)) (mi, si, hi, sl, r, nx)) := by
  refine au_of (by decide) (Nat.le_of_ble_eq_true rfl) ?_
  have hb := hB.2.2 o h0 h1
  have hb0 := hB.2.1
  show au_Go G _ _ 0 [some (au_r MO), some (au_i o), none, none] [] (mi, si, hi, sl, r, nx) 0 0
  refine au_iconst dX2_rankOf_0 rfl rfl ?_
  refine au_istore_n dX2_rankOf_1 (show 2 < 4 by decide) ?_
  show au_Go G _ _ 2 [some (au_r MO), some (au_i o), some (au_i 0), none] [] (mi, si, hi, sl, r, nx) 0 0
  refine au_aload_n dX2_rankOf_2 rfl ?_
  refine au_getf (C := RX2) (T := TX2) (N := 35) in_X2 (by decide) rfl 0 (by decide) rfl rfl q1359 rfl dX2_rankOf_3 (v := au_r MA) (congrArg au_q (fx_MO_0 hF)) ?_
  refine au_bipush dX2_rankOf_6 rfl rfl ?_
  refine au_iload_n dX2_rankOf_8 rfl ?_
  refine au_iadd dX2_rankOf_9 (by omega) (by omega) ?_
  refine au_iald dX2_rankOf_10 rfl (by omega) (by show _ < ((4544 : Nat) : Int); omega) (v := au_i (B o)) (congrArg au_i (hE _ (by omega) (by omega))) ?_
  refine au_istore_n dX2_rankOf_11 (show 3 < 4 by decide) ?_
  show au_Go G _ _ 12 [some (au_r MO), some (au_i o), some (au_i 0), some (au_i (B o))] [] (mi, si, hi, sl, r, nx) 0 0
  have hl : ∀ (f : Nat) (u c : Int), -1 ≤ u → u < n → u < (f : Int) → 0 ≤ c → c + u < 100 → rank B o = c + chR B f u → au_Go G (yX2_rankOf.cls, cX2_rankOf, 4, (some .int), au_rm 0 0 0, yX2_rankOf.name) (au_QM G (au_rm 0 0 0) (au_pure (au_i (rank B o)) (mi, si, hi, sl, r, nx))) 12 [some (au_r MO), some (au_i o), some (au_i c), some (au_i u)] [] (mi, si, hi, sl, r, nx) 0 0 := by
    intro f
    induction f with
    | zero =>
      intro u c h1 h2 h3 h4 h5 h6
      simp only [chR, Int.add_zero] at h6
      refine au_iload_n dX2_rankOf_12 rfl ?_
      refine au_iconst dX2_rankOf_13 rfl rfl ?_
      refine au_icmp_eq (tgt := 33) dX2_rankOf_14 (by decide) (fun c14 => ?_) (fun c14 => ?_)
      · refine au_iload_n dX2_rankOf_33 rfl ?_
        exact au_iret dX2_rankOf_34 rfl rfl (Nat.le_of_ble_eq_true rfl) (Nat.le_of_ble_eq_true rfl) (au_pe h6.symm rfl)
      · omega
    | succ f ih =>
      intro u c h1 h2 h3 h4 h5 h6
      simp only [chR] at h6
      refine au_iload_n dX2_rankOf_12 rfl ?_
      refine au_iconst dX2_rankOf_13 rfl rfl ?_
      refine au_icmp_eq (tgt := 33) dX2_rankOf_14 (by decide) (fun c14 => ?_) (fun c14 => ?_)
      · refine au_iload_n dX2_rankOf_33 rfl ?_
        exact au_iret dX2_rankOf_34 rfl rfl (Nat.le_of_ble_eq_true rfl) (Nat.le_of_ble_eq_true rfl) (au_pe (by rw [h6, if_pos c14, Int.add_zero]) rfl)
      · rw [if_neg c14] at h6
        have hu := hB.2.2 u (by omega) h2
        refine au_iinc dX2_rankOf_17 rfl (show 2 < 4 by decide) (by omega) (by omega) (by decide) (by decide) ?_
        show au_Go G _ _ 20 [some (au_r MO), some (au_i o), some (au_i (c + 1)), some (au_i u)] [] (mi, si, hi, sl, r, nx) 0 0
        refine au_aload_n dX2_rankOf_20 rfl ?_
        refine au_getf (C := RX2) (T := TX2) (N := 35) in_X2 (by decide) rfl 0 (by decide) rfl rfl q1359 rfl dX2_rankOf_21 (v := au_r MA) (congrArg au_q (fx_MO_0 hF)) ?_
        refine au_bipush dX2_rankOf_24 rfl rfl ?_
        refine au_iload_n dX2_rankOf_26 rfl ?_
        refine au_iadd dX2_rankOf_27 (by omega) (by omega) ?_
        refine au_iald dX2_rankOf_28 rfl (by omega) (by show _ < ((4544 : Nat) : Int); omega) (v := au_i (B u)) (congrArg au_i (hE _ (by omega) (by omega))) ?_
        refine au_istore_n dX2_rankOf_29 (show 3 < 4 by decide) ?_
        show au_Go G _ _ 30 [some (au_r MO), some (au_i o), some (au_i (c + 1)), some (au_i (B u))] [] (mi, si, hi, sl, r, nx) 0 0
        refine au_goto (tgt := 12) dX2_rankOf_30 (by decide) ?_
        exact ih _ _ hu.2.1 (by omega) (by omega) (by omega) (by omega) (by rw [h6, Int.add_assoc])
  exact hl 10 _ _ hb.2.1 (by omega) (by omega) (by omega) (by omega) (Int.zero_add _).symm
theorem kX2_isAbove (G : au_G) (o a : Int) (mi si hi sl : au_A → Int → Int) (r : au_A → Int → Option au_A) (nx : Nat) (hF : Fix r) (n : Int) (hN : mi MA 0 = n) (B : Int → Int) (hE : ∀ o, 0 ≤ o → o < 10 → mi MA (90 + o) = B o) (hB : Bs B n) (h0 : 0 ≤ o) (h1 : o < n) (ha : 0 ≤ a) : au_Ctr G yX2_isAbove cX2_isAbove 4 (some .boolean) 0 0 0 [au_r MO, au_i a, au_i o] (mi, si, hi, sl, r, nx) (au_pure (au_i (au_b (below B o a))) (mi, si, hi, sl, r, nx)) := by
  refine au_of (by decide) (Nat.le_of_ble_eq_true rfl) ?_
  have hb := hB.2.2 o h0 h1
  have hb0 := hB.2.1
  show au_Go G _ _ 0 [some (au_r MO), some (au_i a), some (au_i o), none] [] (mi, si, hi, sl, r, nx) 0 0
  refine au_aload_n dX2_isAbove_0 rfl ?_
  refine au_getf (C := RX2) (T := TX2) (N := 35) in_X2 (by decide) rfl 0 (by decide) rfl rfl q1359 rfl dX2_isAbove_1 (v := au_r MA) (congrArg au_q (fx_MO_0 hF)) ?_
  refine au_bipush dX2_isAbove_4 rfl rfl ?_
  refine au_iload_n dX2_isAbove_6 rfl ?_
  refine au_iadd dX2_isAbove_7 (by omega) (by omega) ?_
  refine au_iald dX2_isAbove_8 rfl (by omega) (by show _ < ((4544 : Nat) : Int); omega) (v := au_i (B o)) (congrArg au_i (hE _ (by omega) (by omega))) ?_
  refine au_istore_n dX2_isAbove_9 (show 3 < 4 by decide) ?_
  show au_Go G _ _ 10 [some (au_r MO), some (au_i a), some (au_i o), some (au_i (B o))] [] (mi, si, hi, sl, r, nx) 0 0
  have hl : ∀ (f : Nat) (u : Int), -1 ≤ u → u < n → u < (f : Int) → (below B o a ↔ chB B a f u) → au_Go G (yX2_isAbove.cls, cX2_isAbove, 4, (some .boolean), au_rm 0 0 0, yX2_isAbove.name) (au_QM G (au_rm 0 0 0) (au_pure (au_i (au_b (below B o a))) (mi, si, hi, sl, r, nx))) 10 [some (au_r MO), some (au_i a), some (au_i o), some (au_i u)] [] (mi, si, hi, sl, r, nx) 0 0 := by
    intro f
    induction f with
    | zero =>
      intro u h1 h2 h3 h4
      refine au_iload_n dX2_isAbove_10 rfl ?_
      refine au_iconst dX2_isAbove_11 rfl rfl ?_
      refine au_icmp_eq (tgt := 35) dX2_isAbove_12 (by decide) (fun c12 => ?_) (fun c12 => ?_)
      · refine au_iconst dX2_isAbove_35 rfl rfl ?_
        exact au_zret dX2_isAbove_36 rfl (Or.inl rfl) rfl (Nat.le_of_ble_eq_true rfl) (Nat.le_of_ble_eq_true rfl) (au_pf (fun q => (h4.mp q).elim) rfl)
      · omega
    | succ f ih =>
      intro u h1 h2 h3 h4
      simp only [chB] at h4
      refine au_iload_n dX2_isAbove_10 rfl ?_
      refine au_iconst dX2_isAbove_11 rfl rfl ?_
      refine au_icmp_eq (tgt := 35) dX2_isAbove_12 (by decide) (fun c12 => ?_) (fun c12 => ?_)
      · refine au_iconst dX2_isAbove_35 rfl rfl ?_
        exact au_zret dX2_isAbove_36 rfl (Or.inl rfl) rfl (Nat.le_of_ble_eq_true rfl) (Nat.le_of_ble_eq_true rfl) (au_pf (fun q => (h4.mp q).elim (fun z => by omega) (fun z => z.1 c12)) rfl)
      · refine au_iload_n dX2_isAbove_15 rfl ?_
        refine au_iload_n dX2_isAbove_16 rfl ?_
        refine au_icmp_ne (tgt := 22) dX2_isAbove_17 (by decide) (fun c17 => ?_) (fun c17 => ?_)
        · have hu := hB.2.2 u (by omega) h2
          refine au_aload_n dX2_isAbove_22 rfl ?_
          refine au_getf (C := RX2) (T := TX2) (N := 35) in_X2 (by decide) rfl 0 (by decide) rfl rfl q1359 rfl dX2_isAbove_23 (v := au_r MA) (congrArg au_q (fx_MO_0 hF)) ?_
          refine au_bipush dX2_isAbove_26 rfl rfl ?_
          refine au_iload_n dX2_isAbove_28 rfl ?_
          refine au_iadd dX2_isAbove_29 (by omega) (by omega) ?_
          refine au_iald dX2_isAbove_30 rfl (by omega) (by show _ < ((4544 : Nat) : Int); omega) (v := au_i (B u)) (congrArg au_i (hE _ (by omega) (by omega))) ?_
          refine au_istore_n dX2_isAbove_31 (show 3 < 4 by decide) ?_
          show au_Go G _ _ 32 [some (au_r MO), some (au_i a), some (au_i o), some (au_i (B u))] [] (mi, si, hi, sl, r, nx) 0 0
          refine au_goto (tgt := 10) dX2_isAbove_32 (by decide) ?_
          exact ih _ hu.2.1 (by omega) (by omega) (h4.trans ⟨fun q => q.elim (fun z => absurd z c17) (fun z => z.2), fun q => Or.inr ⟨c12, q⟩⟩)
        · refine au_iconst dX2_isAbove_20 rfl rfl ?_
          exact au_zret dX2_isAbove_21 rfl (Or.inr rfl) rfl (Nat.le_of_ble_eq_true rfl) (Nat.le_of_ble_eq_true rfl) (au_pt (h4.mpr (Or.inl c17)) rfl)
  exact hl 10 _ hb.2.1 (by omega) (by omega) Iff.rfl
theorem kX2_belowOf (G : au_G) (a : Int) (mi si hi sl : au_A → Int → Int) (r : au_A → Int → Option au_A) (nx : Nat) (hF : Fix r) (n : Int) (hN : mi MA 0 = n) (B : Int → Int) (hE : ∀ o, 0 ≤ o → o < 10 → mi MA (90 + o) = B o) (hB : Bs B n) (ha : 0 ≤ a) (ha1 : a < n) : au_Ctr G yX2_belowOf cX2_belowOf 4 (some .int) 1 0 0 [au_r MO, au_i a] (mi, si, hi, sl, r, nx) (au_pure (au_i ((under B n.toNat a : Nat) : Int)) (mi, si, hi, sl, r, nx)) := by
  refine au_of (by decide) (Nat.le_of_ble_eq_true rfl) ?_
  have hb0 := hB.2.1
  have hb1 := hB.1
  obtain ⟨p, rfl⟩ := Int.eq_ofNat_of_zero_le ha
  show au_Go G _ _ 0 [some (au_r MO), some (au_i (p : Int)), none, none] [] (mi, si, hi, sl, r, nx) 0 0
  refine au_iconst dX2_belowOf_0 rfl rfl ?_
  refine au_iload_n dX2_belowOf_1 rfl ?_
  refine au_ishl dX2_belowOf_2 ?_
  refine au_istore_n dX2_belowOf_3 (show 2 < 4 by decide) ?_
  show au_Go G _ _ 4 [some (au_r MO), some (au_i (p : Int)), some (au_i (au_shl 1 (p : Int))), none] [] (mi, si, hi, sl, r, nx) 0 0
  refine au_iconst dX2_belowOf_4 rfl rfl ?_
  refine au_istore_n dX2_belowOf_5 (show 3 < 4 by decide) ?_
  show au_Go G _ _ 6 [some (au_r MO), some (au_i (p : Int)), some (au_i (au_shl 1 (p : Int))), some (au_i 0)] [] (mi, si, hi, sl, r, nx) 0 0
  rw [show au_shl 1 (p : Int) = ((2 ^ p : Nat) : Int) by rw [show (1 : Int) = ((1 : Nat) : Int) from rfl, au_shl_nat (by omega) (by rw [Nat.one_mul]; exact Nat.lt_of_le_of_lt (Nat.pow_le_pow_right (by decide) (by omega : p ≤ 9)) (by decide)), Nat.one_mul]]
  have hl : ∀ (f : Nat) (s : Nat) (k : Nat), ((k : Int) ≤ n) → (s < 1024) → (∀ i : Nat, s.testBit i = true ↔ i = p ∨ (i < k ∧ below B i p)) → (n - (k : Int)) < (f : Int) → au_Go G (yX2_belowOf.cls, cX2_belowOf, 4, (some .int), au_rm 1 0 0, yX2_belowOf.name) (au_QM G (au_rm 1 0 0) (au_pure (au_i ((under B n.toNat (p : Int) : Nat) : Int)) (mi, si, hi, sl, r, nx))) 6 [some (au_r MO), some (au_i (p : Int)), some (au_i (s : Int)), some (au_i (k : Int))] [] (mi, si, hi, sl, r, nx) 0 0 := by
    intro f
    induction f with
    | zero => intro s k h1 h2 h3 hf; exfalso; omega
    | succ f ih =>
      intro s k h1 h2 h3 hf
      refine au_iload_n dX2_belowOf_6 rfl ?_
      refine au_aload_n dX2_belowOf_7 rfl ?_
      refine au_getf (C := RX2) (T := TX2) (N := 35) in_X2 (by decide) rfl 0 (by decide) rfl rfl q1359 rfl dX2_belowOf_8 (v := au_r MA) (congrArg au_q (fx_MO_0 hF)) ?_
      refine au_iconst dX2_belowOf_11 rfl rfl ?_
      refine au_iald dX2_belowOf_12 rfl (by omega) (by show _ < ((4544 : Nat) : Int); omega) (v := au_i (n)) (congrArg au_i (hN)) ?_
      refine au_icmp_ge (tgt := 41) dX2_belowOf_13 (by decide) (fun c13 => ?_) (fun c13 => ?_)
      · refine au_iload_n dX2_belowOf_41 rfl ?_
        exact au_iret dX2_belowOf_42 rfl rfl (Nat.le_of_ble_eq_true rfl) (Nat.le_of_ble_eq_true rfl) (au_pe (congrArg Int.ofNat (bsN_eq (fun i => (h3 i).trans ⟨fun z => z.elim (fun z => ⟨by omega, Or.inl (by omega)⟩) (fun z => ⟨by omega, Or.inr z.2⟩), fun z => z.2.elim (fun y => Or.inl (by omega)) (fun y => Or.inr ⟨by omega, y⟩)⟩))) rfl)
      · refine au_iload_n dX2_belowOf_16 rfl ?_
        refine au_aload_n dX2_belowOf_17 rfl ?_
        refine au_iload_n dX2_belowOf_18 rfl ?_
        refine au_iload_n dX2_belowOf_19 rfl ?_
        refine au_callVp (n := 2) (kX2_isAbove G (k : Int) (p : Int) mi si hi sl r nx hF n hN B hE hB (by omega) (by omega) (by omega)) (lw_V q1662 q1664 qs87 q134 q1665) rfl (by decide +kernel) (by decide) (T := TX2) (N := 35) rfl rfl rfl rfl (Nat.le_of_ble_eq_true rfl) (Nat.le_of_ble_eq_true rfl) (Nat.le_of_ble_eq_true rfl) (Nat.le_of_ble_eq_true rfl) (Nat.le_of_ble_eq_true rfl) dX2_belowOf_20 ?_
        refine au_if_eq (tgt := 32) dX2_belowOf_23 (by decide) (fun c23 => ?_) (fun c23 => ?_)
        · have c23 := au_b0 c23
          refine au_iconst dX2_belowOf_32 rfl rfl ?_
          refine au_ior dX2_belowOf_33 ?_
          refine au_istore_n dX2_belowOf_34 (show 2 < 4 by decide) ?_
          show au_Go G _ _ 35 [some (au_r MO), some (au_i (p : Int)), some (au_i (au_or (s : Int) 0)), some (au_i (k : Int))] [] (mi, si, hi, sl, r, nx) 0 0
          refine au_iinc dX2_belowOf_35 rfl (show 3 < 4 by decide) (by omega) (by omega) (by decide) (by decide) ?_
          show au_Go G _ _ 38 [some (au_r MO), some (au_i (p : Int)), some (au_i (au_or (s : Int) 0)), some (au_i ((k : Int) + 1))] [] (mi, si, hi, sl, r, nx) 0 0
          refine au_goto (tgt := 6) dX2_belowOf_38 (by decide) ?_
          by_cases q : below B k p
          · first
            | exact absurd q c23
            | (obtain ⟨e1, e2, e3⟩ := bit_step h2 (show k < 10 by omega)
               rw [e1]
               exact ih (s ||| 2 ^ k) (k + 1) (by omega) e2 (fun i => by
                 rw [e3, h3]
                 constructor
                 · rintro ((z | z) | z)
                   · exact Or.inl z
                   · exact Or.inr ⟨by omega, z.2⟩
                   · exact Or.inr ⟨by omega, by rw [z]; exact q⟩
                 · rintro (z | z)
                   · exact Or.inl (Or.inl z)
                   · by_cases y : i = k
                     · exact Or.inr y
                     · exact Or.inl (Or.inr ⟨by omega, z.2⟩)) (by omega))
          · first
            | exact absurd c23 q
            | (rw [au_or_0 (by omega)]
               exact ih s (k + 1) (by omega) h2 (fun i => by
                 rw [h3]
                 constructor
                 · rintro (z | z)
                   · exact Or.inl z
                   · exact Or.inr ⟨by omega, z.2⟩
                 · rintro (z | z)
                   · exact Or.inl z
                   · by_cases y : i = k
                     · rw [y] at z; exact absurd z.2 q
                     · exact Or.inr ⟨by omega, z.2⟩) (by omega))
        · have c23 := au_b1 c23
          refine au_iconst dX2_belowOf_26 rfl rfl ?_
          refine au_iload_n dX2_belowOf_27 rfl ?_
          refine au_ishl dX2_belowOf_28 ?_
          refine au_goto (tgt := 33) dX2_belowOf_29 (by decide) ?_
          refine au_ior dX2_belowOf_33 ?_
          refine au_istore_n dX2_belowOf_34 (show 2 < 4 by decide) ?_
          show au_Go G _ _ 35 [some (au_r MO), some (au_i (p : Int)), some (au_i (au_or (s : Int) (au_shl 1 (k : Int)))), some (au_i (k : Int))] [] (mi, si, hi, sl, r, nx) 0 0
          refine au_iinc dX2_belowOf_35 rfl (show 3 < 4 by decide) (by omega) (by omega) (by decide) (by decide) ?_
          show au_Go G _ _ 38 [some (au_r MO), some (au_i (p : Int)), some (au_i (au_or (s : Int) (au_shl 1 (k : Int)))), some (au_i ((k : Int) + 1))] [] (mi, si, hi, sl, r, nx) 0 0
          refine au_goto (tgt := 6) dX2_belowOf_38 (by decide) ?_
          by_cases q : below B k p
          · first
            | exact absurd q c23
            | (obtain ⟨e1, e2, e3⟩ := bit_step h2 (show k < 10 by omega)
               rw [e1]
               exact ih (s ||| 2 ^ k) (k + 1) (by omega) e2 (fun i => by
                 rw [e3, h3]
                 constructor
                 · rintro ((z | z) | z)
                   · exact Or.inl z
                   · exact Or.inr ⟨by omega, z.2⟩
                   · exact Or.inr ⟨by omega, by rw [z]; exact q⟩
                 · rintro (z | z)
                   · exact Or.inl (Or.inl z)
                   · by_cases y : i = k
                     · exact Or.inr y
                     · exact Or.inl (Or.inr ⟨by omega, z.2⟩)) (by omega))
          · first
            | exact absurd c23 q
            | (rw [au_or_0 (by omega)]
               exact ih s (k + 1) (by omega) h2 (fun i => by
                 rw [h3]
                 constructor
                 · rintro (z | z)
                   · exact Or.inl z
                   · exact Or.inr ⟨by omega, z.2⟩
                 · rintro (z | z)
                   · exact Or.inl z
                   · by_cases y : i = k
                     · rw [y] at z; exact absurd z.2 q
                     · exact Or.inr ⟨by omega, z.2⟩) (by omega))
  exact hl 11 (2 ^ p) 0 (by omega) (Nat.lt_of_le_of_lt (Nat.pow_le_pow_right (by decide) (by omega : p ≤ 9)) (by decide)) (fun i => by rw [Nat.testBit_two_pow]; simp [eq_comm]) (by omega)
theorem kX2_downTo (G : au_G) (a o : Int) (mi si hi sl : au_A → Int → Int) (r : au_A → Int → Option au_A) (nx : Nat) (hF : Fix r) (n : Int) (hN : mi MA 0 = n) (B : Int → Int) (hE : ∀ o, 0 ≤ o → o < 10 → mi MA (90 + o) = B o) (hB : Bs B n) (ha : 0 ≤ a) (h0 : 0 ≤ o) (h1 : o < n) (hx : below B o a) : au_Ctr G yX2_downTo cX2_downTo 4 (some .int) 0 0 0 [au_r MO, au_i a, au_i o] (mi, si, hi, sl, r, nx) (au_pure (au_i (towards B a o)) (mi, si, hi, sl, r, nx)) := by
  refine au_of (by decide) (Nat.le_of_ble_eq_true rfl) ?_
  have hb0 := hB.2.1
  show au_Go G _ _ 0 [some (au_r MO), some (au_i a), some (au_i o), none] [] (mi, si, hi, sl, r, nx) 0 0
  refine au_iload_n dX2_downTo_0 rfl ?_
  refine au_istore_n dX2_downTo_1 (show 3 < 4 by decide) ?_
  show au_Go G _ _ 2 [some (au_r MO), some (au_i a), some (au_i o), some (au_i o)] [] (mi, si, hi, sl, r, nx) 0 0
  have hl : ∀ (f : Nat) (u : Int), 0 ≤ u → u < n → u < (f : Int) → chB B a f (B u) → towards B a o = toW B a f u → au_Go G (yX2_downTo.cls, cX2_downTo, 4, (some .int), au_rm 0 0 0, yX2_downTo.name) (au_QM G (au_rm 0 0 0) (au_pure (au_i (towards B a o)) (mi, si, hi, sl, r, nx))) 2 [some (au_r MO), some (au_i a), some (au_i o), some (au_i u)] [] (mi, si, hi, sl, r, nx) 0 0 := by
    intro f
    induction f with
    | zero => intro u _ _ _ h; exact h.elim
    | succ f ih =>
      intro u h0 h1 h2 h3 h4
      have hu := hB.2.2 u h0 h1
      simp only [chB] at h3
      simp only [toW] at h4
      refine au_aload_n dX2_downTo_2 rfl ?_
      refine au_getf (C := RX2) (T := TX2) (N := 35) in_X2 (by decide) rfl 0 (by decide) rfl rfl q1359 rfl dX2_downTo_3 (v := au_r MA) (congrArg au_q (fx_MO_0 hF)) ?_
      refine au_bipush dX2_downTo_6 rfl rfl ?_
      refine au_iload_n dX2_downTo_8 rfl ?_
      refine au_iadd dX2_downTo_9 (by omega) (by omega) ?_
      refine au_iald dX2_downTo_10 rfl (by omega) (by show _ < ((4544 : Nat) : Int); omega) (v := au_i (B u)) (congrArg au_i (hE _ (by omega) (by omega))) ?_
      refine au_iload_n dX2_downTo_11 rfl ?_
      refine au_icmp_eq (tgt := 28) dX2_downTo_12 (by decide) (fun c12 => ?_) (fun c12 => ?_)
      · refine au_iload_n dX2_downTo_28 rfl ?_
        exact au_iret dX2_downTo_29 rfl rfl (Nat.le_of_ble_eq_true rfl) (Nat.le_of_ble_eq_true rfl) (au_pe (by rw [h4, if_pos c12]) rfl)
      · have h3 := h3.resolve_left c12
        rw [if_neg c12] at h4
        refine au_aload_n dX2_downTo_15 rfl ?_
        refine au_getf (C := RX2) (T := TX2) (N := 35) in_X2 (by decide) rfl 0 (by decide) rfl rfl q1359 rfl dX2_downTo_16 (v := au_r MA) (congrArg au_q (fx_MO_0 hF)) ?_
        refine au_bipush dX2_downTo_19 rfl rfl ?_
        refine au_iload_n dX2_downTo_21 rfl ?_
        refine au_iadd dX2_downTo_22 (by omega) (by omega) ?_
        refine au_iald dX2_downTo_23 rfl (by omega) (by show _ < ((4544 : Nat) : Int); omega) (v := au_i (B u)) (congrArg au_i (hE _ (by omega) (by omega))) ?_
        refine au_istore_n dX2_downTo_24 (show 3 < 4 by decide) ?_
        show au_Go G _ _ 25 [some (au_r MO), some (au_i a), some (au_i o), some (au_i (B u))] [] (mi, si, hi, sl, r, nx) 0 0
        refine au_goto (tgt := 2) dX2_downTo_25 (by decide) ?_
        exact ih _ (by omega) (by omega) (by omega) h3.2 h4
  exact hl 10 o h0 h1 (by omega) hx rfl
theorem kX2_meetOf (G : au_G) (o t : Int) (mi si hi sl : au_A → Int → Int) (r : au_A → Int → Option au_A) (nx : Nat) (hF : Fix r) (n : Int) (hN : mi MA 0 = n) (B : Int → Int) (hE : ∀ o, 0 ≤ o → o < 10 → mi MA (90 + o) = B o) (hB : Bs B n) (h0 : 0 ≤ o) (h1 : o < n) (ht0 : 0 ≤ t) (ht : t < n) : au_Ctr G yX2_meetOf cX2_meetOf 4 (some .int) 2 0 0 [au_r MO, au_i o, au_i t] (mi, si, hi, sl, r, nx) (au_pure (au_i (meet B o t)) (mi, si, hi, sl, r, nx)) := by
  refine au_of (by decide) (Nat.le_of_ble_eq_true rfl) ?_
  have hb0 := hB.2.1
  show au_Go G _ _ 0 [some (au_r MO), some (au_i o), some (au_i t), none] [] (mi, si, hi, sl, r, nx) 0 0
  refine au_iload_n dX2_meetOf_0 rfl ?_
  refine au_istore_n dX2_meetOf_1 (show 3 < 4 by decide) ?_
  show au_Go G _ _ 2 [some (au_r MO), some (au_i o), some (au_i t), some (au_i o)] [] (mi, si, hi, sl, r, nx) 0 0
  have hl : ∀ (f : Nat) (u : Int), 0 ≤ u → u < n → u < (f : Int) → meet B o t = mtW B t f u → au_Go G (yX2_meetOf.cls, cX2_meetOf, 4, (some .int), au_rm 2 0 0, yX2_meetOf.name) (au_QM G (au_rm 2 0 0) (au_pure (au_i (meet B o t)) (mi, si, hi, sl, r, nx))) 2 [some (au_r MO), some (au_i o), some (au_i t), some (au_i u)] [] (mi, si, hi, sl, r, nx) 0 0 := by
    intro f
    induction f with
    | zero => intro u h0 _ h2 _; omega
    | succ f ih =>
      intro u h0 h1 h2 h3
      have hu := hB.2.2 u h0 h1
      simp only [mtW] at h3
      refine au_aload_n dX2_meetOf_2 rfl ?_
      refine au_iload_n dX2_meetOf_3 rfl ?_
      refine au_callVp (n := 1) (kX2_belowOf G u mi si hi sl r nx hF n hN B hE hB (by omega) (by omega)) (lw_V q1823 q1825 qs114 q134 q1826) rfl (by decide +kernel) (by decide) (T := TX2) (N := 35) rfl rfl rfl rfl (Nat.le_of_ble_eq_true rfl) (Nat.le_of_ble_eq_true rfl) (Nat.le_of_ble_eq_true rfl) (Nat.le_of_ble_eq_true rfl) (Nat.le_of_ble_eq_true rfl) dX2_meetOf_4 ?_
      refine au_iload_n dX2_meetOf_7 rfl ?_
      refine au_callSp (n := 2) (kX2_has G ((under B n.toNat u : Nat) : Int) t (mi, si, hi, sl, r, nx)) (lw_S q1482 q1483 q134 q1484) (by decide +kernel) rfl rfl rfl (Nat.le_of_ble_eq_true rfl) (Nat.le_of_ble_eq_true rfl) (Nat.le_of_ble_eq_true rfl) (Nat.le_of_ble_eq_true rfl) (Nat.le_of_ble_eq_true rfl) dX2_meetOf_8 ?_
      refine au_if_ne (tgt := 27) dX2_meetOf_11 (by decide) (fun c11 => ?_) (fun c11 => ?_)
      · have c11 := au_b1 c11
        refine au_iload_n dX2_meetOf_27 rfl ?_
        exact au_iret dX2_meetOf_28 rfl rfl (Nat.le_of_ble_eq_true rfl) (Nat.le_of_ble_eq_true rfl) (au_pe (by rw [h3, if_pos ((under_has ht0 ht hb0).mp c11)]) rfl)
      · have c11 := au_b0 c11
        have hx : ¬ (u = t ∨ below B t u) := fun q => c11 ((under_has ht0 ht hb0).mpr q)
        rw [if_neg hx] at h3
        have hz : u ≠ 0 := by
          intro z
          subst z
          by_cases y : t = 0
          · exact hx (Or.inl y.symm)
          · exact hx (Or.inr (below_0 hB (by omega) ht))
        have hu2 := hu.2.2 (by omega)
        refine au_aload_n dX2_meetOf_14 rfl ?_
        refine au_getf (C := RX2) (T := TX2) (N := 35) in_X2 (by decide) rfl 0 (by decide) rfl rfl q1359 rfl dX2_meetOf_15 (v := au_r MA) (congrArg au_q (fx_MO_0 hF)) ?_
        refine au_bipush dX2_meetOf_18 rfl rfl ?_
        refine au_iload_n dX2_meetOf_20 rfl ?_
        refine au_iadd dX2_meetOf_21 (by omega) (by omega) ?_
        refine au_iald dX2_meetOf_22 rfl (by omega) (by show _ < ((4544 : Nat) : Int); omega) (v := au_i (B u)) (congrArg au_i (hE _ (by omega) (by omega))) ?_
        refine au_istore_n dX2_meetOf_23 (show 3 < 4 by decide) ?_
        show au_Go G _ _ 24 [some (au_r MO), some (au_i o), some (au_i t), some (au_i (B u))] [] (mi, si, hi, sl, r, nx) 0 0
        refine au_goto (tgt := 2) dX2_meetOf_24 (by decide) ?_
        exact ih _ hu2 (by omega) (by omega) h3
  exact hl 10 o h0 h1 (by omega) rfl
theorem kX2_stepsOf (G : au_G) (o t : Int) (mi si hi sl : au_A → Int → Int) (r : au_A → Int → Option au_A) (nx : Nat) (hF : Fix r) (n : Int) (hN : mi MA 0 = n) (B : Int → Int) (hE : ∀ o, 0 ≤ o → o < 10 → mi MA (90 + o) = B o) (hB : Bs B n) (h0 : 0 ≤ o) (h1 : o < n) (ht0 : 0 ≤ t) (ht : t < n) : au_Ctr G yX2_stepsOf cX2_stepsOf 3 (some .int) 3 0 0 [au_r MO, au_i o, au_i t] (mi, si, hi, sl, r, nx) (au_pure (au_i (stepsN B o t)) (mi, si, hi, sl, r, nx)) := by
  refine au_of (by decide) (Nat.le_of_ble_eq_true rfl) ?_
  have h2 := meet_bd hB h0 h1 ht0 ht
  have h3 := rank_bd hB h0 h1
  have h4 := rank_bd hB ht0 ht
  have h5 := rank_bd hB h2.1 h2.2
  show au_Go G _ _ 0 [some (au_r MO), some (au_i o), some (au_i t)] [] (mi, si, hi, sl, r, nx) 0 0
  refine au_aload_n dX2_stepsOf_0 rfl ?_
  refine au_iload_n dX2_stepsOf_1 rfl ?_
  refine au_callVp (n := 1) (kX2_rankOf G o mi si hi sl r nx hF n hN B hE hB (by omega) (by omega)) (lw_V q1722 q1724 qs99 q134 q1725) rfl (by decide +kernel) (by decide) (T := TX2) (N := 35) rfl rfl rfl rfl (Nat.le_of_ble_eq_true rfl) (Nat.le_of_ble_eq_true rfl) (Nat.le_of_ble_eq_true rfl) (Nat.le_of_ble_eq_true rfl) (Nat.le_of_ble_eq_true rfl) dX2_stepsOf_2 ?_
  refine au_aload_n dX2_stepsOf_5 rfl ?_
  refine au_iload_n dX2_stepsOf_6 rfl ?_
  refine au_callVp (n := 1) (kX2_rankOf G t mi si hi sl r nx hF n hN B hE hB (by omega) (by omega)) (lw_V q1722 q1724 qs99 q134 q1725) rfl (by decide +kernel) (by decide) (T := TX2) (N := 35) rfl rfl rfl rfl (Nat.le_of_ble_eq_true rfl) (Nat.le_of_ble_eq_true rfl) (Nat.le_of_ble_eq_true rfl) (Nat.le_of_ble_eq_true rfl) (Nat.le_of_ble_eq_true rfl) dX2_stepsOf_7 ?_
  refine au_iadd dX2_stepsOf_10 (by omega) (by omega) ?_
  refine au_iconst dX2_stepsOf_11 rfl rfl ?_
  refine au_aload_n dX2_stepsOf_12 rfl ?_
  refine au_aload_n dX2_stepsOf_13 rfl ?_
  refine au_iload_n dX2_stepsOf_14 rfl ?_
  refine au_iload_n dX2_stepsOf_15 rfl ?_
  refine au_callVp (n := 2) (kX2_meetOf G o t mi si hi sl r nx hF n hN B hE hB (by omega) (by omega) (by omega) (by omega)) (lw_V q1881 q1883 qs117 q134 q1884) rfl (by decide +kernel) (by decide) (T := TX2) (N := 35) rfl rfl rfl rfl (Nat.le_of_ble_eq_true rfl) (Nat.le_of_ble_eq_true rfl) (Nat.le_of_ble_eq_true rfl) (Nat.le_of_ble_eq_true rfl) (Nat.le_of_ble_eq_true rfl) dX2_stepsOf_16 ?_
  refine au_callVp (n := 1) (kX2_rankOf G (meet B o t) mi si hi sl r nx hF n hN B hE hB (by omega) (by omega)) (lw_V q1722 q1724 qs99 q134 q1725) rfl (by decide +kernel) (by decide) (T := TX2) (N := 35) rfl rfl rfl rfl (Nat.le_of_ble_eq_true rfl) (Nat.le_of_ble_eq_true rfl) (Nat.le_of_ble_eq_true rfl) (Nat.le_of_ble_eq_true rfl) (Nat.le_of_ble_eq_true rfl) dX2_stepsOf_19 ?_
  refine au_imul dX2_stepsOf_22 (by omega) (by omega) ?_
  refine au_isub dX2_stepsOf_23 (by omega) (by omega) ?_
  exact au_iret dX2_stepsOf_24 rfl rfl (Nat.le_of_ble_eq_true rfl) (Nat.le_of_ble_eq_true rfl) (⟨rfl, rfl⟩)
theorem kX2_meets (G : au_G) (o t : Int) (mi si hi sl : au_A → Int → Int) (r : au_A → Int → Option au_A) (nx : Nat) (hF : Fix r) (n : Int) (hN : mi MA 0 = n) (B : Int → Int) (hE : ∀ o, 0 ≤ o → o < 10 → mi MA (90 + o) = B o) (hB : Bs B n) : au_Ctr G yX2_meets cX2_meets 3 (some .int) 3 0 0 [au_r MO, au_i o, au_i t] (mi, si, hi, sl, r, nx) (au_pure (au_i (@ite Int ((0 ≤ o ∧ o < n) ∧ 0 ≤ t ∧ t < n) (Classical.propDecidable _) (meet B o t) (-1))) (mi, si, hi, sl, r, nx)) := by
  refine au_of (by decide) (Nat.le_of_ble_eq_true rfl) ?_
  have hn : 0 ≤ n ∧ n ≤ 10 := ⟨hB.1, hB.2.1⟩
  show au_Go G _ _ 0 [some (au_r MO), some (au_i o), some (au_i t)] [] (mi, si, hi, sl, r, nx) 0 0
  refine au_aload_n dX2_meets_0 rfl ?_
  refine au_iload_n dX2_meets_1 rfl ?_
  refine au_callVp (n := 1) (kX2_isOfficer G o mi si hi sl r nx hF n hN hn ) (lw_V q1471 q1473 qs56 q134 q1474) rfl (by decide +kernel) (by decide) (T := TX2) (N := 35) rfl rfl rfl rfl (Nat.le_of_ble_eq_true rfl) (Nat.le_of_ble_eq_true rfl) (Nat.le_of_ble_eq_true rfl) (Nat.le_of_ble_eq_true rfl) (Nat.le_of_ble_eq_true rfl) dX2_meets_2 ?_
  refine au_if_eq (tgt := 25) dX2_meets_5 (by decide) (fun c5 => ?_) (fun c5 => ?_)
  · have c5 := au_b0 c5
    refine au_iconst dX2_meets_25 rfl rfl ?_
    exact au_iret dX2_meets_26 rfl rfl (Nat.le_of_ble_eq_true rfl) (Nat.le_of_ble_eq_true rfl) (by first | exact au_pe (by rw [if_pos (by omega)]) rfl | exact au_pe (by rw [if_neg (by omega)]) rfl)
  · have c5 := au_b1 c5
    refine au_aload_n dX2_meets_8 rfl ?_
    refine au_iload_n dX2_meets_9 rfl ?_
    refine au_callVp (n := 1) (kX2_isOfficer G t mi si hi sl r nx hF n hN hn ) (lw_V q1471 q1473 qs56 q134 q1474) rfl (by decide +kernel) (by decide) (T := TX2) (N := 35) rfl rfl rfl rfl (Nat.le_of_ble_eq_true rfl) (Nat.le_of_ble_eq_true rfl) (Nat.le_of_ble_eq_true rfl) (Nat.le_of_ble_eq_true rfl) (Nat.le_of_ble_eq_true rfl) dX2_meets_10 ?_
    refine au_if_eq (tgt := 25) dX2_meets_13 (by decide) (fun c13 => ?_) (fun c13 => ?_)
    · have c13 := au_b0 c13
      refine au_iconst dX2_meets_25 rfl rfl ?_
      exact au_iret dX2_meets_26 rfl rfl (Nat.le_of_ble_eq_true rfl) (Nat.le_of_ble_eq_true rfl) (by first | exact au_pe (by rw [if_pos (by omega)]) rfl | exact au_pe (by rw [if_neg (by omega)]) rfl)
    · have c13 := au_b1 c13
      refine au_aload_n dX2_meets_16 rfl ?_
      refine au_iload_n dX2_meets_17 rfl ?_
      refine au_iload_n dX2_meets_18 rfl ?_
      refine au_callVp (n := 2) (kX2_meetOf G o t mi si hi sl r nx hF n hN B hE hB (by omega) (by omega) (by omega) (by omega)) (lw_V q1881 q1883 qs117 q134 q1884) rfl (by decide +kernel) (by decide) (T := TX2) (N := 35) rfl rfl rfl rfl (Nat.le_of_ble_eq_true rfl) (Nat.le_of_ble_eq_true rfl) (Nat.le_of_ble_eq_true rfl) (Nat.le_of_ble_eq_true rfl) (Nat.le_of_ble_eq_true rfl) dX2_meets_19 ?_
      refine au_goto (tgt := 26) dX2_meets_22 (by decide) ?_
      exact au_iret dX2_meets_26 rfl rfl (Nat.le_of_ble_eq_true rfl) (Nat.le_of_ble_eq_true rfl) (by first | exact au_pe (by rw [if_pos (by omega)]) rfl | exact au_pe (by rw [if_neg (by omega)]) rfl)
theorem kX2_steps (G : au_G) (o t : Int) (mi si hi sl : au_A → Int → Int) (r : au_A → Int → Option au_A) (nx : Nat) (hF : Fix r) (n : Int) (hN : mi MA 0 = n) (B : Int → Int) (hE : ∀ o, 0 ≤ o → o < 10 → mi MA (90 + o) = B o) (hB : Bs B n) : au_Ctr G yX2_steps cX2_steps 3 (some .int) 4 0 0 [au_r MO, au_i o, au_i t] (mi, si, hi, sl, r, nx) (au_pure (au_i (@ite Int ((0 ≤ o ∧ o < n) ∧ 0 ≤ t ∧ t < n) (Classical.propDecidable _) (stepsN B o t) (-1))) (mi, si, hi, sl, r, nx)) := by
  refine au_of (by decide) (Nat.le_of_ble_eq_true rfl) ?_
  have hn : 0 ≤ n ∧ n ≤ 10 := ⟨hB.1, hB.2.1⟩
  show au_Go G _ _ 0 [some (au_r MO), some (au_i o), some (au_i t)] [] (mi, si, hi, sl, r, nx) 0 0
  refine au_aload_n dX2_steps_0 rfl ?_
  refine au_iload_n dX2_steps_1 rfl ?_
  refine au_callVp (n := 1) (kX2_isOfficer G o mi si hi sl r nx hF n hN hn ) (lw_V q1471 q1473 qs56 q134 q1474) rfl (by decide +kernel) (by decide) (T := TX2) (N := 35) rfl rfl rfl rfl (Nat.le_of_ble_eq_true rfl) (Nat.le_of_ble_eq_true rfl) (Nat.le_of_ble_eq_true rfl) (Nat.le_of_ble_eq_true rfl) (Nat.le_of_ble_eq_true rfl) dX2_steps_2 ?_
  refine au_if_eq (tgt := 25) dX2_steps_5 (by decide) (fun c5 => ?_) (fun c5 => ?_)
  · have c5 := au_b0 c5
    refine au_iconst dX2_steps_25 rfl rfl ?_
    exact au_iret dX2_steps_26 rfl rfl (Nat.le_of_ble_eq_true rfl) (Nat.le_of_ble_eq_true rfl) (by first | exact au_pe (by rw [if_pos (by omega)]) rfl | exact au_pe (by rw [if_neg (by omega)]) rfl)
  · have c5 := au_b1 c5
    refine au_aload_n dX2_steps_8 rfl ?_
    refine au_iload_n dX2_steps_9 rfl ?_
    refine au_callVp (n := 1) (kX2_isOfficer G t mi si hi sl r nx hF n hN hn ) (lw_V q1471 q1473 qs56 q134 q1474) rfl (by decide +kernel) (by decide) (T := TX2) (N := 35) rfl rfl rfl rfl (Nat.le_of_ble_eq_true rfl) (Nat.le_of_ble_eq_true rfl) (Nat.le_of_ble_eq_true rfl) (Nat.le_of_ble_eq_true rfl) (Nat.le_of_ble_eq_true rfl) dX2_steps_10 ?_
    refine au_if_eq (tgt := 25) dX2_steps_13 (by decide) (fun c13 => ?_) (fun c13 => ?_)
    · have c13 := au_b0 c13
      refine au_iconst dX2_steps_25 rfl rfl ?_
      exact au_iret dX2_steps_26 rfl rfl (Nat.le_of_ble_eq_true rfl) (Nat.le_of_ble_eq_true rfl) (by first | exact au_pe (by rw [if_pos (by omega)]) rfl | exact au_pe (by rw [if_neg (by omega)]) rfl)
    · have c13 := au_b1 c13
      refine au_aload_n dX2_steps_16 rfl ?_
      refine au_iload_n dX2_steps_17 rfl ?_
      refine au_iload_n dX2_steps_18 rfl ?_
      refine au_callVp (n := 2) (kX2_stepsOf G o t mi si hi sl r nx hF n hN B hE hB (by omega) (by omega) (by omega) (by omega)) (lw_V q1889 q1891 qs118 q134 q1892) rfl (by decide +kernel) (by decide) (T := TX2) (N := 35) rfl rfl rfl rfl (Nat.le_of_ble_eq_true rfl) (Nat.le_of_ble_eq_true rfl) (Nat.le_of_ble_eq_true rfl) (Nat.le_of_ble_eq_true rfl) (Nat.le_of_ble_eq_true rfl) dX2_steps_19 ?_
      refine au_goto (tgt := 26) dX2_steps_22 (by decide) ?_
      exact au_iret dX2_steps_26 rfl rfl (Nat.le_of_ble_eq_true rfl) (Nat.le_of_ble_eq_true rfl) (by first | exact au_pe (by rw [if_pos (by omega)]) rfl | exact au_pe (by rw [if_neg (by omega)]) rfl)
