/-! ORDERS, promotions, weights, of both systems (printed by tools/m24.py) -/
set_option maxRecDepth 100000
set_option maxHeartbeats 4000000
theorem kX0_orders (G : au_G) (mi si hi sl : au_A → Int → Int) (r : au_A → Int → Option au_A) (nx : Nat) (hF : Fix r) (n : Int) (hN : mi XNn 0 = n) (B : Int → Int) (hE : ∀ o, 0 ≤ o → o < 10 → mi XNboss o = B o) (hB : Bs B n) : au_Ctr G yX0_orders cX0_orders 6 (some .long) 2 0 0 [au_r XO] (mi, si, hi, sl, r, nx) (au_pure (au_l (Int.tdiv (orA n.toNat) (orB B n.toNat n.toNat))) (mi, si, hi, sl, r, nx)) := by
  refine au_of (by decide) (Nat.le_of_ble_eq_true rfl) ?_
  have hb0 := hB.2.1
  have hb1 := hB.1
  show au_Go G _ _ 0 [some (au_r XO), none, none, none, none, none] [] (mi, si, hi, sl, r, nx) 0 0
  refine au_lconst dX0_orders_0 rfl ?_
  refine au_lstore_n dX0_orders_1 (show 1 + 1 < 6 by decide) ?_
  show au_Go G _ _ 2 [some (au_r XO), some (au_l 1), none, none, none, none] [] (mi, si, hi, sl, r, nx) 0 0
  refine au_lconst dX0_orders_2 rfl ?_
  refine au_lstore_n dX0_orders_3 (show 3 + 1 < 6 by decide) ?_
  show au_Go G _ _ 4 [some (au_r XO), some (au_l 1), none, some (au_l 1), none, none] [] (mi, si, hi, sl, r, nx) 0 0
  refine au_iconst dX0_orders_4 rfl rfl ?_
  refine au_istore dX0_orders_5 (show 5 < 6 by decide) ?_
  show au_Go G _ _ 7 [some (au_r XO), some (au_l 1), none, some (au_l 1), none, some (au_i 0)] [] (mi, si, hi, sl, r, nx) 0 0
  have hl : ∀ (f : Nat) (k : Nat), ((k : Int) ≤ n) → (n - (k : Int)) < (f : Int) → au_Go G (yX0_orders.cls, cX0_orders, 6, (some .long), au_rm 2 0 0, yX0_orders.name) (au_QM G (au_rm 2 0 0) (au_pure (au_l (Int.tdiv (orA n.toNat) (orB B n.toNat n.toNat))) (mi, si, hi, sl, r, nx))) 7 [some (au_r XO), some (au_l (orA k)), none, some (au_l (orB B n.toNat k)), none, some (au_i (k : Int))] [] (mi, si, hi, sl, r, nx) 0 0 := by
    intro f
    induction f with
    | zero => intro k h2 hf; exfalso; omega
    | succ f ih =>
      intro k h2 hf
      refine au_iload dX0_orders_7 rfl ?_
      refine au_aload_n dX0_orders_9 rfl ?_
      refine au_getf (C := RX0) (T := TX0) (N := 15) in_X0 (by decide) rfl 0 (by decide) rfl rfl q245 rfl dX0_orders_10 (v := au_r XN) (congrArg au_q (fx_XO_0 hF)) ?_
      refine au_getN (C := RX1) (T := TX1) (N := 11) in_X1 (by decide) rfl 0 (by decide) rfl rfl q187 rfl dX0_orders_13 (v := au_r XNn) (congrArg au_q (fx_XN_0 hF)) ?_
      refine au_iconst dX0_orders_16 rfl rfl ?_
      refine au_iald dX0_orders_17 rfl (by omega) (by show _ < ((6 : Nat) : Int); omega) (v := au_i (n)) (congrArg au_i (hN)) ?_
      refine au_icmp_ge (tgt := 48) dX0_orders_18 (by decide) (fun c18 => ?_) (fun c18 => ?_)
      · have hkn : n.toNat = k := by omega
        have hq1 := orB_bd (B := B) hb0 k h2
        have ha1 := orA_bd k (by omega)
        have hd0 := Int.tdiv_eq_ediv_of_nonneg (b := orB B n.toNat k) (by omega : (0 : Int) ≤ orA k)
        have hd1 := Int.ediv_nonneg (by omega : (0 : Int) ≤ orA k) (by omega : (0 : Int) ≤ orB B n.toNat k)
        have hd2 := Int.ediv_le_self (orB B n.toNat k) (by omega : (0 : Int) ≤ orA k)
        refine au_lload_n dX0_orders_48 rfl ?_
        refine au_lload_n dX0_orders_49 rfl ?_
        refine au_ldiv dX0_orders_50 (by omega) (by omega) (by omega) ?_
        exact au_lret dX0_orders_51 rfl rfl (Nat.le_of_ble_eq_true rfl) (Nat.le_of_ble_eq_true rfl) (⟨congrArg (fun z => some (au_l z)) (by rw [hkn]), rfl⟩)
      · have ha1 := orA_bd k (by omega)
        have ha2 := orA_bd (k + 1) (by omega)
        have hq1 := orB_bd (B := B) hb0 k h2
        have hq2 := orB_bd (B := B) hb0 (k + 1) (by omega)
        have hq3 := pow10_bd k (by omega)
        have hq4 := pow10_bd (k + 1) (by omega)
        simp only [orA] at ha2
        simp only [orB] at hq2
        refine au_lload_n dX0_orders_21 rfl ?_
        refine au_iload dX0_orders_22 rfl ?_
        refine au_iconst dX0_orders_24 rfl rfl ?_
        refine au_iadd dX0_orders_25 (by omega) (by omega) ?_
        refine au_i2l dX0_orders_26 ?_
        refine au_lmul dX0_orders_27 (by omega) (by omega) ?_
        refine au_lstore_n dX0_orders_28 (show 1 + 1 < 6 by decide) ?_
        show au_Go G _ _ 29 [some (au_r XO), some (au_l ((orA k) * ((k : Int) + 1))), none, some (au_l (orB B n.toNat k)), none, some (au_i (k : Int))] [] (mi, si, hi, sl, r, nx) 0 0
        refine au_lload_n dX0_orders_29 rfl ?_
        refine au_aload_n dX0_orders_30 rfl ?_
        refine au_iload dX0_orders_31 rfl ?_
        refine au_callVp (n := 1) (kX0_under G (k : Int) mi si hi sl r nx hF n hN B hE hB (by omega)) (lw_V q1168 q1170 qs45 q130 q1171) rfl (by decide +kernel) (by decide) (T := TX0) (N := 15) rfl rfl rfl rfl (Nat.le_of_ble_eq_true rfl) (Nat.le_of_ble_eq_true rfl) (Nat.le_of_ble_eq_true rfl) (Nat.le_of_ble_eq_true rfl) (Nat.le_of_ble_eq_true rfl) dX0_orders_33 ?_
        refine au_callSp (n := 1) (kJ15_bitCount G _ (by first | exact under_lt' _ (by omega) _ | assumption | omega) (mi, si, hi, sl, r, nx)) (lw_S q1244 q1245 q162 q1246) (by decide +kernel) rfl rfl rfl (Nat.le_of_ble_eq_true rfl) (Nat.le_of_ble_eq_true rfl) (Nat.le_of_ble_eq_true rfl) (Nat.le_of_ble_eq_true rfl) (Nat.le_of_ble_eq_true rfl) dX0_orders_36 ?_
        refine au_i2l dX0_orders_39 ?_
        refine au_lmul dX0_orders_40 (by omega) (by omega) ?_
        refine au_lstore_n dX0_orders_41 (show 3 + 1 < 6 by decide) ?_
        show au_Go G _ _ 42 [some (au_r XO), some (au_l ((orA k) * ((k : Int) + 1))), none, some (au_l ((orB B n.toNat k) * ((pop (under B n.toNat (k : Int)) : Nat) : Int))), none, some (au_i (k : Int))] [] (mi, si, hi, sl, r, nx) 0 0
        refine au_iinc dX0_orders_42 rfl (show 5 < 6 by decide) (by omega) (by omega) (by decide) (by decide) ?_
        show au_Go G _ _ 45 [some (au_r XO), some (au_l ((orA k) * ((k : Int) + 1))), none, some (au_l ((orB B n.toNat k) * ((pop (under B n.toNat (k : Int)) : Nat) : Int))), none, some (au_i ((k : Int) + 1))] [] (mi, si, hi, sl, r, nx) 0 0
        refine au_goto (tgt := 7) dX0_orders_45 (by decide) ?_
        exact ih (k + 1) (by omega) (by omega)
  exact hl 11 0 (by omega) (by omega)
theorem kX0_nextBehind (G : au_G) (S : Int) (mi si hi sl : au_A → Int → Int) (r : au_A → Int → Option au_A) (nx : Nat) (hF : Fix r) (n : Int) (hN : mi XNn 0 = n) (B : Int → Int) (hE : ∀ o, 0 ≤ o → o < 10 → mi XNboss o = B o) (hB : Bs B n) (Pr : Int → Int) (hPr : ∀ o, 0 ≤ o → o < 10 → mi XNpride o = Pr o) : au_Ctr G yX0_nextBehind cX0_nextBehind 5 (some .int) 1 0 0 [au_r XO, au_i S] (mi, si, hi, sl, r, nx) (au_pure (au_i (nbB B Pr S n.toNat)) (mi, si, hi, sl, r, nx)) := by
  refine au_of (by decide) (Nat.le_of_ble_eq_true rfl) ?_
  have hb0 := hB.2.1
  have hb1 := hB.1
  show au_Go G _ _ 0 [some (au_r XO), some (au_i S), none, none, none] [] (mi, si, hi, sl, r, nx) 0 0
  refine au_iconst dX0_nextBehind_0 rfl rfl ?_
  refine au_istore_n dX0_nextBehind_1 (show 2 < 5 by decide) ?_
  show au_Go G _ _ 2 [some (au_r XO), some (au_i S), some (au_i (-1)), none, none] [] (mi, si, hi, sl, r, nx) 0 0
  refine au_iconst dX0_nextBehind_2 rfl rfl ?_
  refine au_istore_n dX0_nextBehind_3 (show 3 < 5 by decide) ?_
  show au_Go G _ _ 4 [some (au_r XO), some (au_i S), some (au_i (-1)), some (au_i 0), none] [] (mi, si, hi, sl, r, nx) 0 0
  have hl : ∀ (f : Nat) (k : Nat) (a4 : Option au_V), ((k : Int) ≤ n) → n - (k : Int) < (f : Int) → au_Go G (yX0_nextBehind.cls, cX0_nextBehind, 5, (some .int), au_rm 1 0 0, yX0_nextBehind.name) (au_QM G (au_rm 1 0 0) (au_pure (au_i (nbB B Pr S n.toNat)) (mi, si, hi, sl, r, nx))) 4 [some (au_r XO), some (au_i S), some (au_i (nbB B Pr S k)), some (au_i (k : Int)), a4] [] (mi, si, hi, sl, r, nx) 0 0 := by
    intro f
    induction f with
    | zero => intro k a4 h2 hf; exfalso; omega
    | succ f ih =>
      intro k a4 h2 hf
      have hm := nbB_bd B Pr S k
      have e1 : ∀ (z : Int) (a : Option au_V), z = nbB B Pr S (k + 1) → k + 1 ≤ n.toNat → au_Go G (yX0_nextBehind.cls, cX0_nextBehind, 5, (some .int), au_rm 1 0 0, yX0_nextBehind.name) (au_QM G (au_rm 1 0 0) (au_pure (au_i (nbB B Pr S n.toNat)) (mi, si, hi, sl, r, nx))) 4 [some (au_r XO), some (au_i S), some (au_i z), some (au_i ((k : Int) + 1)), a] [] (mi, si, hi, sl, r, nx) 0 0 := fun z a hz hk => by rw [hz]; exact ih (k + 1) a (by omega) (by omega)
      refine au_iload_n dX0_nextBehind_4 rfl ?_
      refine au_aload_n dX0_nextBehind_5 rfl ?_
      refine au_getf (C := RX0) (T := TX0) (N := 15) in_X0 (by decide) rfl 0 (by decide) rfl rfl q245 rfl dX0_nextBehind_6 (v := au_r XN) (congrArg au_q (fx_XO_0 hF)) ?_
      refine au_getN (C := RX1) (T := TX1) (N := 11) in_X1 (by decide) rfl 0 (by decide) rfl rfl q187 rfl dX0_nextBehind_9 (v := au_r XNn) (congrArg au_q (fx_XN_0 hF)) ?_
      refine au_iconst dX0_nextBehind_12 rfl rfl ?_
      refine au_iald dX0_nextBehind_13 rfl (by omega) (by show _ < ((6 : Nat) : Int); omega) (v := au_i (n)) (congrArg au_i (hN)) ?_
      refine au_icmp_ge (tgt := 100) dX0_nextBehind_14 (by decide) (fun c14 => ?_) (fun c14 => ?_)
      · refine au_iload_n dX0_nextBehind_100 rfl ?_
        exact au_iret dX0_nextBehind_101 rfl rfl (Nat.le_of_ble_eq_true rfl) (Nat.le_of_ble_eq_true rfl) (au_pe (by rw [show n.toNat = k by omega]) rfl)
      · refine au_iload_n dX0_nextBehind_17 rfl ?_
        refine au_iload_n dX0_nextBehind_18 rfl ?_
        refine au_callSp (n := 2) (kX0_has G S (k : Int) (mi, si, hi, sl, r, nx)) (lw_S q307 q308 q130 q309) (by decide +kernel) rfl rfl rfl (Nat.le_of_ble_eq_true rfl) (Nat.le_of_ble_eq_true rfl) (Nat.le_of_ble_eq_true rfl) (Nat.le_of_ble_eq_true rfl) (Nat.le_of_ble_eq_true rfl) dX0_nextBehind_19 ?_
        refine au_if_ne (tgt := 58) dX0_nextBehind_22 (by decide) (fun c22 => ?_) (fun c22 => ?_)
        · have c22 := au_b1 c22
          refine au_iconst dX0_nextBehind_58 rfl rfl ?_
          refine au_istore dX0_nextBehind_59 (show 4 < 5 by decide) ?_
          show au_Go G _ _ 61 [some (au_r XO), some (au_i S), some (au_i (nbB B Pr S k)), some (au_i (k : Int)), some (au_i 0)] [] (mi, si, hi, sl, r, nx) 0 0
          refine au_iload dX0_nextBehind_61 rfl ?_
          refine au_if_eq (tgt := 94) dX0_nextBehind_63 (by decide) (fun c63 => ?_) (fun c63 => ?_)
          · refine au_iinc dX0_nextBehind_94 rfl (show 3 < 5 by decide) (by omega) (by omega) (by decide) (by decide) ?_
            show au_Go G _ _ 97 [some (au_r XO), some (au_i S), some (au_i (nbB B Pr S k)), some (au_i ((k : Int) + 1)), some (au_i 0)] [] (mi, si, hi, sl, r, nx) 0 0
            refine au_goto (tgt := 4) dX0_nextBehind_97 (by decide) ?_
            exact e1 _ _ (by simp only [nbB, mayP]; grind) (by omega)
          · exact absurd c63 (by decide)
        · have c22 := au_b0 c22
          refine au_aload_n dX0_nextBehind_25 rfl ?_
          refine au_getf (C := RX0) (T := TX0) (N := 15) in_X0 (by decide) rfl 0 (by decide) rfl rfl q245 rfl dX0_nextBehind_26 (v := au_r XN) (congrArg au_q (fx_XO_0 hF)) ?_
          refine au_getN (C := RX1) (T := TX1) (N := 11) in_X1 (by decide) rfl 2 (by decide) rfl rfl q191 rfl dX0_nextBehind_29 (v := au_r XNboss) (congrArg au_q (fx_XN_2 hF)) ?_
          refine au_iload_n dX0_nextBehind_32 rfl ?_
          refine au_iald dX0_nextBehind_33 rfl (by omega) (by show _ < ((10 : Nat) : Int); omega) (v := au_i (B (k : Int))) (congrArg au_i (hE _ (by omega) (by omega))) ?_
          refine au_iconst dX0_nextBehind_34 rfl rfl ?_
          refine au_icmp_eq (tgt := 54) dX0_nextBehind_35 (by decide) (fun c35 => ?_) (fun c35 => ?_)
          · refine au_iconst dX0_nextBehind_54 rfl rfl ?_
            refine au_goto (tgt := 59) dX0_nextBehind_55 (by decide) ?_
            refine au_istore dX0_nextBehind_59 (show 4 < 5 by decide) ?_
            show au_Go G _ _ 61 [some (au_r XO), some (au_i S), some (au_i (nbB B Pr S k)), some (au_i (k : Int)), some (au_i 1)] [] (mi, si, hi, sl, r, nx) 0 0
            refine au_iload dX0_nextBehind_61 rfl ?_
            refine au_if_eq (tgt := 94) dX0_nextBehind_63 (by decide) (fun c63 => ?_) (fun c63 => ?_)
            · exact absurd c63 (by decide)
            · refine au_iload_n dX0_nextBehind_66 rfl ?_
              refine au_iconst dX0_nextBehind_67 rfl rfl ?_
              refine au_icmp_eq (tgt := 92) dX0_nextBehind_68 (by decide) (fun c68 => ?_) (fun c68 => ?_)
              · refine au_iload_n dX0_nextBehind_92 rfl ?_
                refine au_istore_n dX0_nextBehind_93 (show 2 < 5 by decide) ?_
                show au_Go G _ _ 94 [some (au_r XO), some (au_i S), some (au_i (k : Int)), some (au_i (k : Int)), some (au_i 1)] [] (mi, si, hi, sl, r, nx) 0 0
                refine au_iinc dX0_nextBehind_94 rfl (show 3 < 5 by decide) (by omega) (by omega) (by decide) (by decide) ?_
                show au_Go G _ _ 97 [some (au_r XO), some (au_i S), some (au_i (k : Int)), some (au_i ((k : Int) + 1)), some (au_i 1)] [] (mi, si, hi, sl, r, nx) 0 0
                refine au_goto (tgt := 4) dX0_nextBehind_97 (by decide) ?_
                exact e1 _ _ (by simp only [nbB, mayP]; grind) (by omega)
              · refine au_aload_n dX0_nextBehind_71 rfl ?_
                refine au_getf (C := RX0) (T := TX0) (N := 15) in_X0 (by decide) rfl 0 (by decide) rfl rfl q245 rfl dX0_nextBehind_72 (v := au_r XN) (congrArg au_q (fx_XO_0 hF)) ?_
                refine au_getN (C := RX1) (T := TX1) (N := 11) in_X1 (by decide) rfl 3 (by decide) rfl rfl q193 rfl dX0_nextBehind_75 (v := au_r XNpride) (congrArg au_q (fx_XN_3 hF)) ?_
                refine au_iload_n dX0_nextBehind_78 rfl ?_
                refine au_iald dX0_nextBehind_79 rfl (by omega) (by show _ < ((10 : Nat) : Int); omega) (v := au_i (Pr (k : Int))) (congrArg au_i (hPr _ (by omega) (by omega))) ?_
                refine au_aload_n dX0_nextBehind_80 rfl ?_
                refine au_getf (C := RX0) (T := TX0) (N := 15) in_X0 (by decide) rfl 0 (by decide) rfl rfl q245 rfl dX0_nextBehind_81 (v := au_r XN) (congrArg au_q (fx_XO_0 hF)) ?_
                refine au_getN (C := RX1) (T := TX1) (N := 11) in_X1 (by decide) rfl 3 (by decide) rfl rfl q193 rfl dX0_nextBehind_84 (v := au_r XNpride) (congrArg au_q (fx_XN_3 hF)) ?_
                refine au_iload_n dX0_nextBehind_87 rfl ?_
                refine au_iald dX0_nextBehind_88 rfl (by omega) (by show _ < ((10 : Nat) : Int); omega) (v := au_i (Pr (nbB B Pr S k))) (congrArg au_i (hPr _ (by omega) (by omega))) ?_
                refine au_icmp_le (tgt := 94) dX0_nextBehind_89 (by decide) (fun c89 => ?_) (fun c89 => ?_)
                · refine au_iinc dX0_nextBehind_94 rfl (show 3 < 5 by decide) (by omega) (by omega) (by decide) (by decide) ?_
                  show au_Go G _ _ 97 [some (au_r XO), some (au_i S), some (au_i (nbB B Pr S k)), some (au_i ((k : Int) + 1)), some (au_i 1)] [] (mi, si, hi, sl, r, nx) 0 0
                  refine au_goto (tgt := 4) dX0_nextBehind_97 (by decide) ?_
                  exact e1 _ _ (by simp only [nbB, mayP]; grind) (by omega)
                · refine au_iload_n dX0_nextBehind_92 rfl ?_
                  refine au_istore_n dX0_nextBehind_93 (show 2 < 5 by decide) ?_
                  show au_Go G _ _ 94 [some (au_r XO), some (au_i S), some (au_i (k : Int)), some (au_i (k : Int)), some (au_i 1)] [] (mi, si, hi, sl, r, nx) 0 0
                  refine au_iinc dX0_nextBehind_94 rfl (show 3 < 5 by decide) (by omega) (by omega) (by decide) (by decide) ?_
                  show au_Go G _ _ 97 [some (au_r XO), some (au_i S), some (au_i (k : Int)), some (au_i ((k : Int) + 1)), some (au_i 1)] [] (mi, si, hi, sl, r, nx) 0 0
                  refine au_goto (tgt := 4) dX0_nextBehind_97 (by decide) ?_
                  exact e1 _ _ (by simp only [nbB, mayP]; grind) (by omega)
          · refine au_iload_n dX0_nextBehind_38 rfl ?_
            refine au_aload_n dX0_nextBehind_39 rfl ?_
            refine au_getf (C := RX0) (T := TX0) (N := 15) in_X0 (by decide) rfl 0 (by decide) rfl rfl q245 rfl dX0_nextBehind_40 (v := au_r XN) (congrArg au_q (fx_XO_0 hF)) ?_
            refine au_getN (C := RX1) (T := TX1) (N := 11) in_X1 (by decide) rfl 2 (by decide) rfl rfl q191 rfl dX0_nextBehind_43 (v := au_r XNboss) (congrArg au_q (fx_XN_2 hF)) ?_
            refine au_iload_n dX0_nextBehind_46 rfl ?_
            refine au_iald dX0_nextBehind_47 rfl (by omega) (by show _ < ((10 : Nat) : Int); omega) (v := au_i (B (k : Int))) (congrArg au_i (hE _ (by omega) (by omega))) ?_
            refine au_callSp (n := 2) (kX0_has G S (B (k : Int)) (mi, si, hi, sl, r, nx)) (lw_S q307 q308 q130 q309) (by decide +kernel) rfl rfl rfl (Nat.le_of_ble_eq_true rfl) (Nat.le_of_ble_eq_true rfl) (Nat.le_of_ble_eq_true rfl) (Nat.le_of_ble_eq_true rfl) (Nat.le_of_ble_eq_true rfl) dX0_nextBehind_48 ?_
            refine au_if_eq (tgt := 58) dX0_nextBehind_51 (by decide) (fun c51 => ?_) (fun c51 => ?_)
            · have c51 := au_b0 c51
              refine au_iconst dX0_nextBehind_58 rfl rfl ?_
              refine au_istore dX0_nextBehind_59 (show 4 < 5 by decide) ?_
              show au_Go G _ _ 61 [some (au_r XO), some (au_i S), some (au_i (nbB B Pr S k)), some (au_i (k : Int)), some (au_i 0)] [] (mi, si, hi, sl, r, nx) 0 0
              refine au_iload dX0_nextBehind_61 rfl ?_
              refine au_if_eq (tgt := 94) dX0_nextBehind_63 (by decide) (fun c63 => ?_) (fun c63 => ?_)
              · refine au_iinc dX0_nextBehind_94 rfl (show 3 < 5 by decide) (by omega) (by omega) (by decide) (by decide) ?_
                show au_Go G _ _ 97 [some (au_r XO), some (au_i S), some (au_i (nbB B Pr S k)), some (au_i ((k : Int) + 1)), some (au_i 0)] [] (mi, si, hi, sl, r, nx) 0 0
                refine au_goto (tgt := 4) dX0_nextBehind_97 (by decide) ?_
                exact e1 _ _ (by simp only [nbB, mayP]; grind) (by omega)
              · exact absurd c63 (by decide)
            · have c51 := au_b1 c51
              refine au_iconst dX0_nextBehind_54 rfl rfl ?_
              refine au_goto (tgt := 59) dX0_nextBehind_55 (by decide) ?_
              refine au_istore dX0_nextBehind_59 (show 4 < 5 by decide) ?_
              show au_Go G _ _ 61 [some (au_r XO), some (au_i S), some (au_i (nbB B Pr S k)), some (au_i (k : Int)), some (au_i 1)] [] (mi, si, hi, sl, r, nx) 0 0
              refine au_iload dX0_nextBehind_61 rfl ?_
              refine au_if_eq (tgt := 94) dX0_nextBehind_63 (by decide) (fun c63 => ?_) (fun c63 => ?_)
              · exact absurd c63 (by decide)
              · refine au_iload_n dX0_nextBehind_66 rfl ?_
                refine au_iconst dX0_nextBehind_67 rfl rfl ?_
                refine au_icmp_eq (tgt := 92) dX0_nextBehind_68 (by decide) (fun c68 => ?_) (fun c68 => ?_)
                · refine au_iload_n dX0_nextBehind_92 rfl ?_
                  refine au_istore_n dX0_nextBehind_93 (show 2 < 5 by decide) ?_
                  show au_Go G _ _ 94 [some (au_r XO), some (au_i S), some (au_i (k : Int)), some (au_i (k : Int)), some (au_i 1)] [] (mi, si, hi, sl, r, nx) 0 0
                  refine au_iinc dX0_nextBehind_94 rfl (show 3 < 5 by decide) (by omega) (by omega) (by decide) (by decide) ?_
                  show au_Go G _ _ 97 [some (au_r XO), some (au_i S), some (au_i (k : Int)), some (au_i ((k : Int) + 1)), some (au_i 1)] [] (mi, si, hi, sl, r, nx) 0 0
                  refine au_goto (tgt := 4) dX0_nextBehind_97 (by decide) ?_
                  exact e1 _ _ (by simp only [nbB, mayP]; grind) (by omega)
                · refine au_aload_n dX0_nextBehind_71 rfl ?_
                  refine au_getf (C := RX0) (T := TX0) (N := 15) in_X0 (by decide) rfl 0 (by decide) rfl rfl q245 rfl dX0_nextBehind_72 (v := au_r XN) (congrArg au_q (fx_XO_0 hF)) ?_
                  refine au_getN (C := RX1) (T := TX1) (N := 11) in_X1 (by decide) rfl 3 (by decide) rfl rfl q193 rfl dX0_nextBehind_75 (v := au_r XNpride) (congrArg au_q (fx_XN_3 hF)) ?_
                  refine au_iload_n dX0_nextBehind_78 rfl ?_
                  refine au_iald dX0_nextBehind_79 rfl (by omega) (by show _ < ((10 : Nat) : Int); omega) (v := au_i (Pr (k : Int))) (congrArg au_i (hPr _ (by omega) (by omega))) ?_
                  refine au_aload_n dX0_nextBehind_80 rfl ?_
                  refine au_getf (C := RX0) (T := TX0) (N := 15) in_X0 (by decide) rfl 0 (by decide) rfl rfl q245 rfl dX0_nextBehind_81 (v := au_r XN) (congrArg au_q (fx_XO_0 hF)) ?_
                  refine au_getN (C := RX1) (T := TX1) (N := 11) in_X1 (by decide) rfl 3 (by decide) rfl rfl q193 rfl dX0_nextBehind_84 (v := au_r XNpride) (congrArg au_q (fx_XN_3 hF)) ?_
                  refine au_iload_n dX0_nextBehind_87 rfl ?_
                  refine au_iald dX0_nextBehind_88 rfl (by omega) (by show _ < ((10 : Nat) : Int); omega) (v := au_i (Pr (nbB B Pr S k))) (congrArg au_i (hPr _ (by omega) (by omega))) ?_
                  refine au_icmp_le (tgt := 94) dX0_nextBehind_89 (by decide) (fun c89 => ?_) (fun c89 => ?_)
                  · refine au_iinc dX0_nextBehind_94 rfl (show 3 < 5 by decide) (by omega) (by omega) (by decide) (by decide) ?_
                    show au_Go G _ _ 97 [some (au_r XO), some (au_i S), some (au_i (nbB B Pr S k)), some (au_i ((k : Int) + 1)), some (au_i 1)] [] (mi, si, hi, sl, r, nx) 0 0
                    refine au_goto (tgt := 4) dX0_nextBehind_97 (by decide) ?_
                    exact e1 _ _ (by simp only [nbB, mayP]; grind) (by omega)
                  · refine au_iload_n dX0_nextBehind_92 rfl ?_
                    refine au_istore_n dX0_nextBehind_93 (show 2 < 5 by decide) ?_
                    show au_Go G _ _ 94 [some (au_r XO), some (au_i S), some (au_i (k : Int)), some (au_i (k : Int)), some (au_i 1)] [] (mi, si, hi, sl, r, nx) 0 0
                    refine au_iinc dX0_nextBehind_94 rfl (show 3 < 5 by decide) (by omega) (by omega) (by decide) (by decide) ?_
                    show au_Go G _ _ 97 [some (au_r XO), some (au_i S), some (au_i (k : Int)), some (au_i ((k : Int) + 1)), some (au_i 1)] [] (mi, si, hi, sl, r, nx) 0 0
                    refine au_goto (tgt := 4) dX0_nextBehind_97 (by decide) ?_
                    exact e1 _ _ (by simp only [nbB, mayP]; grind) (by omega)
  exact hl 11 0 _ (by omega) (by omega)
theorem kX0_first (G : au_G) (q : Int) (mi si hi sl : au_A → Int → Int) (r : au_A → Int → Option au_A) (nx : Nat) (hF : Fix r) (n : Int) (hN : mi XNn 0 = n) (B : Int → Int) (hE : ∀ o, 0 ≤ o → o < 10 → mi XNboss o = B o) (hB : Bs B n) (Pr : Int → Int) (hPr : ∀ o, 0 ≤ o → o < 10 → mi XNpride o = Pr o) : au_Ctr G yX0_first cX0_first 4 (some .int) 2 0 0 [au_r XO, au_i q] (mi, si, hi, sl, r, nx) (au_pure (au_i (@ite Int (0 ≤ q ∧ q < n) (Classical.propDecidable _) (nbB B Pr (prom B Pr n.toNat q.toNat) n.toNat) (-1))) (mi, si, hi, sl, r, nx)) := by
  refine au_of (by decide) (Nat.le_of_ble_eq_true rfl) ?_
  have hb0 := hB.2.1
  have hb1 := hB.1
  have hn : 0 ≤ n ∧ n ≤ 10 := ⟨hb1, hb0⟩
  show au_Go G _ _ 0 [some (au_r XO), some (au_i q), none, none] [] (mi, si, hi, sl, r, nx) 0 0
  refine au_aload_n dX0_first_0 rfl ?_
  refine au_iload_n dX0_first_1 rfl ?_
  refine au_callVp (n := 1) (kX0_isOfficer G q mi si hi sl r nx hF n hN hn ) (lw_V q296 q298 qs0 q130 q299) rfl (by decide +kernel) (by decide) (T := TX0) (N := 15) rfl rfl rfl rfl (Nat.le_of_ble_eq_true rfl) (Nat.le_of_ble_eq_true rfl) (Nat.le_of_ble_eq_true rfl) (Nat.le_of_ble_eq_true rfl) (Nat.le_of_ble_eq_true rfl) dX0_first_2 ?_
  refine au_if_ne (tgt := 10) dX0_first_5 (by decide) (fun c5 => ?_) (fun c5 => ?_)
  · have c5 := au_b1 c5
    refine au_iconst dX0_first_10 rfl rfl ?_
    refine au_istore_n dX0_first_11 (show 2 < 4 by decide) ?_
    show au_Go G _ _ 12 [some (au_r XO), some (au_i q), some (au_i 0), none] [] (mi, si, hi, sl, r, nx) 0 0
    refine au_iconst dX0_first_12 rfl rfl ?_
    refine au_istore_n dX0_first_13 (show 3 < 4 by decide) ?_
    show au_Go G _ _ 14 [some (au_r XO), some (au_i q), some (au_i 0), some (au_i 0)] [] (mi, si, hi, sl, r, nx) 0 0
    have hl : ∀ (f : Nat) (k : Nat), ((k : Int) ≤ q) → (q - (k : Int)) < (f : Int) → au_Go G (yX0_first.cls, cX0_first, 4, (some .int), au_rm 2 0 0, yX0_first.name) (au_QM G (au_rm 2 0 0) (au_pure (au_i (@ite Int (0 ≤ q ∧ q < n) (Classical.propDecidable _) (nbB B Pr (prom B Pr n.toNat q.toNat) n.toNat) (-1))) (mi, si, hi, sl, r, nx))) 14 [some (au_r XO), some (au_i q), some (au_i (prom B Pr n.toNat k)), some (au_i (k : Int))] [] (mi, si, hi, sl, r, nx) 0 0 := by
      intro f
      induction f with
      | zero => intro k h2 hf; exfalso; omega
      | succ f ih =>
        intro k h2 hf
        refine au_iload_n dX0_first_14 rfl ?_
        refine au_iload_n dX0_first_15 rfl ?_
        refine au_icmp_ge (tgt := 35) dX0_first_16 (by decide) (fun c16 => ?_) (fun c16 => ?_)
        · refine au_aload_n dX0_first_35 rfl ?_
          refine au_iload_n dX0_first_36 rfl ?_
          refine au_callVp (n := 1) (kX0_nextBehind G (prom B Pr n.toNat k) mi si hi sl r nx hF n hN B hE hB Pr hPr ) (lw_V q1254 q1256 qs50 q130 q1257) rfl (by decide +kernel) (by decide) (T := TX0) (N := 15) rfl rfl rfl rfl (Nat.le_of_ble_eq_true rfl) (Nat.le_of_ble_eq_true rfl) (Nat.le_of_ble_eq_true rfl) (Nat.le_of_ble_eq_true rfl) (Nat.le_of_ble_eq_true rfl) dX0_first_37 ?_
          exact au_iret dX0_first_40 rfl rfl (Nat.le_of_ble_eq_true rfl) (Nat.le_of_ble_eq_true rfl) (au_pe (by rw [if_pos c5, show q.toNat = k by omega]) rfl)
        · refine au_iload_n dX0_first_19 rfl ?_
          refine au_iconst dX0_first_20 rfl rfl ?_
          refine au_aload_n dX0_first_21 rfl ?_
          refine au_iload_n dX0_first_22 rfl ?_
          refine au_callVp (n := 1) (kX0_nextBehind G (prom B Pr n.toNat k) mi si hi sl r nx hF n hN B hE hB Pr hPr ) (lw_V q1254 q1256 qs50 q130 q1257) rfl (by decide +kernel) (by decide) (T := TX0) (N := 15) rfl rfl rfl rfl (Nat.le_of_ble_eq_true rfl) (Nat.le_of_ble_eq_true rfl) (Nat.le_of_ble_eq_true rfl) (Nat.le_of_ble_eq_true rfl) (Nat.le_of_ble_eq_true rfl) dX0_first_23 ?_
          refine au_ishl dX0_first_26 ?_
          refine au_ior dX0_first_27 ?_
          refine au_istore_n dX0_first_28 (show 2 < 4 by decide) ?_
          show au_Go G _ _ 29 [some (au_r XO), some (au_i q), some (au_i (au_or (prom B Pr n.toNat k) (au_shl 1 (nbB B Pr (prom B Pr n.toNat k) n.toNat)))), some (au_i (k : Int))] [] (mi, si, hi, sl, r, nx) 0 0
          refine au_iinc dX0_first_29 rfl (show 3 < 4 by decide) (by omega) (by omega) (by decide) (by decide) ?_
          show au_Go G _ _ 32 [some (au_r XO), some (au_i q), some (au_i (au_or (prom B Pr n.toNat k) (au_shl 1 (nbB B Pr (prom B Pr n.toNat k) n.toNat)))), some (au_i ((k : Int) + 1))] [] (mi, si, hi, sl, r, nx) 0 0
          refine au_goto (tgt := 14) dX0_first_32 (by decide) ?_
          exact ih (k + 1) (by omega) (by omega)
    exact hl 11 0 (by omega) (by omega)
  · have c5 := au_b0 c5
    refine au_iconst dX0_first_8 rfl rfl ?_
    exact au_iret dX0_first_9 rfl rfl (Nat.le_of_ble_eq_true rfl) (Nat.le_of_ble_eq_true rfl) (au_pe (by rw [if_neg c5]) rfl)
theorem kX0_weigh (G : au_G) (o w : Int) (mi si hi sl : au_A → Int → Int) (r : au_A → Int → Option au_A) (nx : Nat) (hF : Fix r) (n : Int) (hN : mi XNn 0 = n) (hn : 0 ≤ n ∧ n ≤ 10) : au_Ctr G yX0_weigh cX0_weigh 3 (some .boolean) 2 0 0 [au_r XO, au_i o, au_i w] (mi, si, hi, sl, r, nx) (fun rv M' => ((0 ≤ o ∧ o < n ∧ 0 ≤ w ∧ w ≤ 99) ∧ rv = some (au_i 1) ∧ M' = (au_up mi XNweight o w, si, hi, sl, r, nx)) ∨ (¬ (0 ≤ o ∧ o < n ∧ 0 ≤ w ∧ w ≤ 99) ∧ rv = some (au_i 0) ∧ M' = (mi, si, hi, sl, r, nx))) := by
  refine au_of (by decide) (Nat.le_of_ble_eq_true rfl) ?_
  show au_Go G _ _ 0 [some (au_r XO), some (au_i o), some (au_i w)] [] (mi, si, hi, sl, r, nx) 0 0
  refine au_aload_n dX0_weigh_0 rfl ?_
  refine au_iload_n dX0_weigh_1 rfl ?_
  refine au_callVp (n := 1) (kX0_isOfficer G o mi si hi sl r nx hF n hN hn ) (lw_V q296 q298 qs0 q130 q299) rfl (by decide +kernel) (by decide) (T := TX0) (N := 15) rfl rfl rfl rfl (Nat.le_of_ble_eq_true rfl) (Nat.le_of_ble_eq_true rfl) (Nat.le_of_ble_eq_true rfl) (Nat.le_of_ble_eq_true rfl) (Nat.le_of_ble_eq_true rfl) dX0_weigh_2 ?_
  refine au_if_eq (tgt := 18) dX0_weigh_5 (by decide) (fun c5 => ?_) (fun c5 => ?_)
  · have c5 := au_b0 c5
    refine au_iconst dX0_weigh_18 rfl rfl ?_
    exact au_zret dX0_weigh_19 rfl (Or.inl rfl) rfl (Nat.le_of_ble_eq_true rfl) (Nat.le_of_ble_eq_true rfl) (by first | exact Or.inl ⟨by omega, rfl, rfl⟩ | exact Or.inr ⟨by omega, rfl, rfl⟩)
  · have c5 := au_b1 c5
    refine au_iload_n dX0_weigh_8 rfl ?_
    refine au_iconst dX0_weigh_9 rfl rfl ?_
    refine au_bipush dX0_weigh_10 rfl rfl ?_
    refine au_callSp (n := 3) (kX0_in G w 0 99 (mi, si, hi, sl, r, nx)) (lw_S q300 q301 q130 q302) (by decide +kernel) rfl rfl rfl (Nat.le_of_ble_eq_true rfl) (Nat.le_of_ble_eq_true rfl) (Nat.le_of_ble_eq_true rfl) (Nat.le_of_ble_eq_true rfl) (Nat.le_of_ble_eq_true rfl) dX0_weigh_12 ?_
    refine au_if_ne (tgt := 20) dX0_weigh_15 (by decide) (fun c15 => ?_) (fun c15 => ?_)
    · have c15 := au_b1 c15
      refine au_aload_n dX0_weigh_20 rfl ?_
      refine au_getf (C := RX0) (T := TX0) (N := 15) in_X0 (by decide) rfl 0 (by decide) rfl rfl q245 rfl dX0_weigh_21 (v := au_r XN) (congrArg au_q (fx_XO_0 hF)) ?_
      refine au_getN (C := RX1) (T := TX1) (N := 11) in_X1 (by decide) rfl 5 (by decide) rfl rfl q197 rfl dX0_weigh_24 (v := au_r XNweight) (congrArg au_q (fx_XN_5 hF)) ?_
      refine au_iload_n dX0_weigh_27 rfl ?_
      refine au_iload_n dX0_weigh_28 rfl ?_
      refine au_iast dX0_weigh_29 rfl (by decide) (by omega) (by show _ < ((10 : Nat) : Int); omega) (M' := ((au_up mi XNweight o w), si, hi, sl, r, nx)) (by rfl) ?_
      refine au_iconst dX0_weigh_30 rfl rfl ?_
      exact au_zret dX0_weigh_31 rfl (Or.inr rfl) rfl (Nat.le_of_ble_eq_true rfl) (Nat.le_of_ble_eq_true rfl) (by first | exact Or.inl ⟨by omega, rfl, rfl⟩ | exact Or.inr ⟨by omega, rfl, rfl⟩)
    · have c15 := au_b0 c15
      refine au_iconst dX0_weigh_18 rfl rfl ?_
      exact au_zret dX0_weigh_19 rfl (Or.inl rfl) rfl (Nat.le_of_ble_eq_true rfl) (Nat.le_of_ble_eq_true rfl) (by first | exact Or.inl ⟨by omega, rfl, rfl⟩ | exact Or.inr ⟨by omega, rfl, rfl⟩)
theorem kX2_orders (G : au_G) (mi si hi sl : au_A → Int → Int) (r : au_A → Int → Option au_A) (nx : Nat) (hF : Fix r) (n : Int) (hN : mi MA 0 = n) (B : Int → Int) (hE : ∀ o, 0 ≤ o → o < 10 → mi MA (90 + o) = B o) (hB : Bs B n) : au_Ctr G yX2_orders cX2_orders 4 (some .long) 2 0 0 [au_r MO] (mi, si, hi, sl, r, nx) (au_pure (au_l (Int.tdiv (orA n.toNat) (orB B n.toNat n.toNat))) (mi, si, hi, sl, r, nx)) := by
  refine au_of (by decide) (Nat.le_of_ble_eq_true rfl) ?_
  have hb0 := hB.2.1
  have hb1 := hB.1
  show au_Go G _ _ 0 [some (au_r MO), none, none, none] [] (mi, si, hi, sl, r, nx) 0 0
  refine au_lconst dX2_orders_0 rfl ?_
  refine au_lstore_n dX2_orders_1 (show 1 + 1 < 4 by decide) ?_
  show au_Go G _ _ 2 [some (au_r MO), some (au_l 1), none, none] [] (mi, si, hi, sl, r, nx) 0 0
  refine au_iconst dX2_orders_2 rfl rfl ?_
  refine au_istore_n dX2_orders_3 (show 3 < 4 by decide) ?_
  show au_Go G _ _ 4 [some (au_r MO), some (au_l 1), none, some (au_i 2)] [] (mi, si, hi, sl, r, nx) 0 0
  have hl : ∀ (f : Nat) (k : Nat), (2 ≤ k) → ((k : Int) ≤ n + 1 ∨ k = 2) → (max (n + 1 - (k : Int)) 0) < (f : Int) → au_Go G (yX2_orders.cls, cX2_orders, 4, (some .long), au_rm 2 0 0, yX2_orders.name) (au_QM G (au_rm 2 0 0) (au_pure (au_l (Int.tdiv (orA n.toNat) (orB B n.toNat n.toNat))) (mi, si, hi, sl, r, nx))) 4 [some (au_r MO), some (au_l (orA (k - 1))), none, some (au_i (k : Int))] [] (mi, si, hi, sl, r, nx) 0 0 := by
    intro f
    induction f with
    | zero => intro k h0 h3 hf; exfalso; omega
    | succ f ih =>
      intro k h0 h3 hf
      refine au_iload_n dX2_orders_4 rfl ?_
      refine au_aload_n dX2_orders_5 rfl ?_
      refine au_getf (C := RX2) (T := TX2) (N := 35) in_X2 (by decide) rfl 0 (by decide) rfl rfl q1359 rfl dX2_orders_6 (v := au_r MA) (congrArg au_q (fx_MO_0 hF)) ?_
      refine au_iconst dX2_orders_9 rfl rfl ?_
      refine au_iald dX2_orders_10 rfl (by omega) (by show _ < ((4544 : Nat) : Int); omega) (v := au_i (n)) (congrArg au_i (hN)) ?_
      refine au_icmp_gt (tgt := 25) dX2_orders_11 (by decide) (fun c11 => ?_) (fun c11 => ?_)
      · refine au_iconst dX2_orders_25 rfl rfl ?_
        refine au_istore_n dX2_orders_26 (show 3 < 4 by decide) ?_
        show au_Go G _ _ 27 [some (au_r MO), some (au_l (orA (k - 1))), none, some (au_i 0)] [] (mi, si, hi, sl, r, nx) 0 0
        have hj_ : ∀ (f : Nat) (j : Nat), ((j : Int) ≤ n) → (n - (j : Int)) < (f : Int) → au_Go G (yX2_orders.cls, cX2_orders, 4, (some .long), au_rm 2 0 0, yX2_orders.name) (au_QM G (au_rm 2 0 0) (au_pure (au_l (Int.tdiv (orA n.toNat) (orB B n.toNat n.toNat))) (mi, si, hi, sl, r, nx))) 27 [some (au_r MO), some (au_l (orQ B n.toNat j)), none, some (au_i (j : Int))] [] (mi, si, hi, sl, r, nx) 0 0 := by
          intro f
          induction f with
          | zero => intro j hj hf; exfalso; omega
          | succ f ih =>
            intro j hj hf
            refine au_iload_n dX2_orders_27 rfl ?_
            refine au_aload_n dX2_orders_28 rfl ?_
            refine au_getf (C := RX2) (T := TX2) (N := 35) in_X2 (by decide) rfl 0 (by decide) rfl rfl q1359 rfl dX2_orders_29 (v := au_r MA) (congrArg au_q (fx_MO_0 hF)) ?_
            refine au_iconst dX2_orders_32 rfl rfl ?_
            refine au_iald dX2_orders_33 rfl (by omega) (by show _ < ((4544 : Nat) : Int); omega) (v := au_i (n)) (congrArg au_i (hN)) ?_
            refine au_icmp_ge (tgt := 55) dX2_orders_34 (by decide) (fun c34 => ?_) (fun c34 => ?_)
            · refine au_lload_n dX2_orders_55 rfl ?_
              exact au_lret dX2_orders_56 rfl rfl (Nat.le_of_ble_eq_true rfl) (Nat.le_of_ble_eq_true rfl) (⟨congrArg (fun z => some (au_l z)) (by rw [show j = n.toNat by omega]; exact or_same (B := B) hb1 hb0 n.toNat (by omega)), rfl⟩)
            · have hq1 := orQ_bd (B := B) hb1 hb0 j hj
              have hq2 := orQ_bd (B := B) hb1 hb0 (j + 1) (by omega)
              have hpp := pop_pos _ (under_lt' B hb0 (j : Int)) (under_pos (B := B) (by omega) (by omega))
              simp only [orQ] at hq2
              refine au_lload_n dX2_orders_37 rfl ?_
              refine au_aload_n dX2_orders_38 rfl ?_
              refine au_iload_n dX2_orders_39 rfl ?_
              refine au_callVp (n := 1) (kX2_belowOf G (j : Int) mi si hi sl r nx hF n hN B hE hB (by omega) (by omega)) (lw_V q1823 q1825 qs114 q134 q1826) rfl (by decide +kernel) (by decide) (T := TX2) (N := 35) rfl rfl rfl rfl (Nat.le_of_ble_eq_true rfl) (Nat.le_of_ble_eq_true rfl) (Nat.le_of_ble_eq_true rfl) (Nat.le_of_ble_eq_true rfl) (Nat.le_of_ble_eq_true rfl) dX2_orders_40 ?_
              refine au_callSp (n := 1) (kX2_bits G _ (by first | exact under_lt' _ (by omega) _ | assumption | omega) (mi, si, hi, sl, r, nx)) (lw_S q1942 q1943 q134 q1944) (by decide +kernel) rfl rfl rfl (Nat.le_of_ble_eq_true rfl) (Nat.le_of_ble_eq_true rfl) (Nat.le_of_ble_eq_true rfl) (Nat.le_of_ble_eq_true rfl) (Nat.le_of_ble_eq_true rfl) dX2_orders_43 ?_
              refine au_i2l dX2_orders_46 ?_
              refine au_ldiv dX2_orders_47 (by omega) (by omega) (by omega) ?_
              refine au_lstore_n dX2_orders_48 (show 1 + 1 < 4 by decide) ?_
              show au_Go G _ _ 49 [some (au_r MO), some (au_l (Int.tdiv (orQ B n.toNat j) ((pop (under B n.toNat (j : Int)) : Nat) : Int))), none, some (au_i (j : Int))] [] (mi, si, hi, sl, r, nx) 0 0
              refine au_iinc dX2_orders_49 rfl (show 3 < 4 by decide) (by omega) (by omega) (by decide) (by decide) ?_
              show au_Go G _ _ 52 [some (au_r MO), some (au_l (Int.tdiv (orQ B n.toNat j) ((pop (under B n.toNat (j : Int)) : Nat) : Int))), none, some (au_i ((j : Int) + 1))] [] (mi, si, hi, sl, r, nx) 0 0
              refine au_goto (tgt := 27) dX2_orders_52 (by decide) ?_
              exact ih (j + 1) (by omega) (by omega)
        have hk1 : orA (k - 1) = orQ B n.toNat 0 := by
          simp only [orQ]
          rcases h3 with z | z
          · rw [show n.toNat = k - 1 by omega]
          · rw [show k - 1 = 1 by omega]
            have : n.toNat = 0 ∨ n.toNat = 1 := by omega
            rcases this with y | y
            · rw [y]; rfl
            · rw [y]
        rw [hk1]
        exact hj_ 11 0 (by omega) (by omega)
      · have e0 : orA (k - 1) * (k : Int) = orA k := by
          obtain ⟨j, rfl⟩ : ∃ j : Nat, k = j + 1 := ⟨k - 1, by omega⟩
          simp only [orA, Nat.add_sub_cancel]
          rfl
        have ha2 := orA_bd k (by omega)
        refine au_lload_n dX2_orders_14 rfl ?_
        refine au_iload_n dX2_orders_15 rfl ?_
        refine au_i2l dX2_orders_16 ?_
        refine au_lmul dX2_orders_17 (by rw [e0]; omega) (by rw [e0]; omega) ?_
        refine au_lstore_n dX2_orders_18 (show 1 + 1 < 4 by decide) ?_
        show au_Go G _ _ 19 [some (au_r MO), some (au_l ((orA (k - 1)) * (k : Int))), none, some (au_i (k : Int))] [] (mi, si, hi, sl, r, nx) 0 0
        refine au_iinc dX2_orders_19 rfl (show 3 < 4 by decide) (by omega) (by omega) (by decide) (by decide) ?_
        show au_Go G _ _ 22 [some (au_r MO), some (au_l ((orA (k - 1)) * (k : Int))), none, some (au_i ((k : Int) + 1))] [] (mi, si, hi, sl, r, nx) 0 0
        refine au_goto (tgt := 4) dX2_orders_22 (by decide) ?_
        have e1 : orA k = orA (k - 1) * (k : Int) := by
          obtain ⟨j, rfl⟩ : ∃ j : Nat, k = j + 1 := ⟨k - 1, by omega⟩
          simp only [orA, Nat.add_sub_cancel]
          rfl
        rw [← e1]
        exact ih (k + 1) (by omega) (by omega) (by omega)
  exact hl 12 2 (by omega) (by omega) (by omega)
theorem kX2_first (G : au_G) (q : Int) (mi si hi sl : au_A → Int → Int) (r : au_A → Int → Option au_A) (nx : Nat) (hF : Fix r) (n : Int) (hN : mi MA 0 = n) (B : Int → Int) (hE : ∀ o, 0 ≤ o → o < 10 → mi MA (90 + o) = B o) (hB : Bs B n) (Pr : Int → Int) (hPr : ∀ o, 0 ≤ o → o < 10 → mi MA (100 + o) = Pr o) : au_Ctr G yX2_first cX2_first 6 (some .int) 2 0 0 [au_r MO, au_i q] (mi, si, hi, sl, r, nx) (au_pure (au_i (@ite Int (0 ≤ q ∧ q < n) (Classical.propDecidable _) (nbB B Pr (prom B Pr n.toNat q.toNat) n.toNat) (-1))) (mi, si, hi, sl, r, nx)) := by
  refine au_of (by decide) (Nat.le_of_ble_eq_true rfl) ?_
  have hb0 := hB.2.1
  have hb1 := hB.1
  have hn : 0 ≤ n ∧ n ≤ 10 := ⟨hb1, hb0⟩
  show au_Go G _ _ 0 [some (au_r MO), some (au_i q), none, none, none, none] [] (mi, si, hi, sl, r, nx) 0 0
  refine au_aload_n dX2_first_0 rfl ?_
  refine au_iload_n dX2_first_1 rfl ?_
  refine au_callVp (n := 1) (kX2_isOfficer G q mi si hi sl r nx hF n hN hn ) (lw_V q1471 q1473 qs56 q134 q1474) rfl (by decide +kernel) (by decide) (T := TX2) (N := 35) rfl rfl rfl rfl (Nat.le_of_ble_eq_true rfl) (Nat.le_of_ble_eq_true rfl) (Nat.le_of_ble_eq_true rfl) (Nat.le_of_ble_eq_true rfl) (Nat.le_of_ble_eq_true rfl) dX2_first_2 ?_
  refine au_if_ne (tgt := 10) dX2_first_5 (by decide) (fun c5 => ?_) (fun c5 => ?_)
  · have c5 := au_b1 c5
    refine au_iconst dX2_first_10 rfl rfl ?_
    refine au_istore_n dX2_first_11 (show 2 < 6 by decide) ?_
    show au_Go G _ _ 12 [some (au_r MO), some (au_i q), some (au_i 0), none, none, none] [] (mi, si, hi, sl, r, nx) 0 0
    refine au_iconst dX2_first_12 rfl rfl ?_
    refine au_istore_n dX2_first_13 (show 3 < 6 by decide) ?_
    show au_Go G _ _ 14 [some (au_r MO), some (au_i q), some (au_i 0), some (au_i (-1)), none, none] [] (mi, si, hi, sl, r, nx) 0 0
    refine au_iconst dX2_first_14 rfl rfl ?_
    refine au_istore dX2_first_15 (show 4 < 6 by decide) ?_
    show au_Go G _ _ 17 [some (au_r MO), some (au_i q), some (au_i 0), some (au_i (-1)), some (au_i 0), none] [] (mi, si, hi, sl, r, nx) 0 0
    have hk_ : ∀ (f : Nat) (k : Nat) (nx_ : Int) (a5 : Option au_V), ((k : Int) ≤ q + 1) → (1 ≤ k → nx_ = nbB B Pr (prom B Pr n.toNat (k - 1)) n.toNat) → q + 1 - (k : Int) < (f : Int) → au_Go G (yX2_first.cls, cX2_first, 6, (some .int), au_rm 2 0 0, yX2_first.name) (au_QM G (au_rm 2 0 0) (au_pure (au_i (@ite Int (0 ≤ q ∧ q < n) (Classical.propDecidable _) (nbB B Pr (prom B Pr n.toNat q.toNat) n.toNat) (-1))) (mi, si, hi, sl, r, nx))) 17 [some (au_r MO), some (au_i q), some (au_i (prom B Pr n.toNat k)), some (au_i nx_), some (au_i (k : Int)), a5] [] (mi, si, hi, sl, r, nx) 0 0 := by
      intro f
      induction f with
      | zero => intro k nx_ a5 h2 h3 hf; exfalso; omega
      | succ f ihk =>
        intro k nx_ a5 h2 h3 hf
        refine au_iload dX2_first_17 rfl ?_
        refine au_iload_n dX2_first_19 rfl ?_
        refine au_icmp_gt (tgt := 130) dX2_first_20 (by decide) (fun c20 => ?_) (fun c20 => ?_)
        · refine au_iload_n dX2_first_130 rfl ?_
          exact au_iret dX2_first_131 rfl rfl (Nat.le_of_ble_eq_true rfl) (Nat.le_of_ble_eq_true rfl) (au_pe (by rw [if_pos c5, h3 (by omega), show q.toNat = k - 1 by omega]) rfl)
        · refine au_iconst dX2_first_23 rfl rfl ?_
          refine au_istore_n dX2_first_24 (show 3 < 6 by decide) ?_
          show au_Go G _ _ 25 [some (au_r MO), some (au_i q), some (au_i (prom B Pr n.toNat k)), some (au_i (-1)), some (au_i (k : Int)), a5] [] (mi, si, hi, sl, r, nx) 0 0
          refine au_iconst dX2_first_25 rfl rfl ?_
          refine au_istore dX2_first_26 (show 5 < 6 by decide) ?_
          show au_Go G _ _ 28 [some (au_r MO), some (au_i q), some (au_i (prom B Pr n.toNat k)), some (au_i (-1)), some (au_i (k : Int)), some (au_i 0)] [] (mi, si, hi, sl, r, nx) 0 0
          have hj_ : ∀ (f : Nat) (j : Nat), ((j : Int) ≤ n) → (n - (j : Int)) < (f : Int) → au_Go G (yX2_first.cls, cX2_first, 6, (some .int), au_rm 2 0 0, yX2_first.name) (au_QM G (au_rm 2 0 0) (au_pure (au_i (@ite Int (0 ≤ q ∧ q < n) (Classical.propDecidable _) (nbB B Pr (prom B Pr n.toNat q.toNat) n.toNat) (-1))) (mi, si, hi, sl, r, nx))) 28 [some (au_r MO), some (au_i q), some (au_i (prom B Pr n.toNat k)), some (au_i (nbB B Pr (prom B Pr n.toNat k) j)), some (au_i (k : Int)), some (au_i (j : Int))] [] (mi, si, hi, sl, r, nx) 0 0 := by
            intro f
            induction f with
            | zero => intro j hj hf; exfalso; omega
            | succ f ih =>
              intro j hj hf
              refine au_iload dX2_first_28 rfl ?_
              refine au_aload_n dX2_first_30 rfl ?_
              refine au_getf (C := RX2) (T := TX2) (N := 35) in_X2 (by decide) rfl 0 (by decide) rfl rfl q1359 rfl dX2_first_31 (v := au_r MA) (congrArg au_q (fx_MO_0 hF)) ?_
              refine au_iconst dX2_first_34 rfl rfl ?_
              refine au_iald dX2_first_35 rfl (by omega) (by show _ < ((4544 : Nat) : Int); omega) (v := au_i (n)) (congrArg au_i (hN)) ?_
              refine au_icmp_ge (tgt := 118) dX2_first_36 (by decide) (fun c36 => ?_) (fun c36 => ?_)
              · refine au_iload_n dX2_first_118 rfl ?_
                refine au_iconst dX2_first_119 rfl rfl ?_
                refine au_iload_n dX2_first_120 rfl ?_
                refine au_ishl dX2_first_121 ?_
                refine au_ior dX2_first_122 ?_
                refine au_istore_n dX2_first_123 (show 2 < 6 by decide) ?_
                show au_Go G _ _ 124 [some (au_r MO), some (au_i q), some (au_i (au_or (prom B Pr n.toNat k) (au_shl 1 (nbB B Pr (prom B Pr n.toNat k) j)))), some (au_i (nbB B Pr (prom B Pr n.toNat k) j)), some (au_i (k : Int)), some (au_i (j : Int))] [] (mi, si, hi, sl, r, nx) 0 0
                refine au_iinc dX2_first_124 rfl (show 4 < 6 by decide) (by omega) (by omega) (by decide) (by decide) ?_
                show au_Go G _ _ 127 [some (au_r MO), some (au_i q), some (au_i (au_or (prom B Pr n.toNat k) (au_shl 1 (nbB B Pr (prom B Pr n.toNat k) j)))), some (au_i (nbB B Pr (prom B Pr n.toNat k) j)), some (au_i ((k : Int) + 1)), some (au_i (j : Int))] [] (mi, si, hi, sl, r, nx) 0 0
                refine au_goto (tgt := 17) dX2_first_127 (by decide) ?_
                have hjn : j = n.toNat := by omega
                have e2 := ihk (k + 1) (nbB B Pr (prom B Pr n.toNat k) n.toNat) (some (au_i (j : Int))) (by omega) (fun _ => by rw [Nat.add_sub_cancel]) (by omega)
                rw [show (prom B Pr n.toNat (k + 1)) = au_or (prom B Pr n.toNat k) (au_shl 1 (nbB B Pr (prom B Pr n.toNat k) n.toNat)) from rfl] at e2
                rw [← hjn] at e2 ⊢
                exact e2
              · have hm := nbB_bd B Pr (prom B Pr n.toNat k) j
                refine au_iload_n dX2_first_39 rfl ?_
                refine au_iload dX2_first_40 rfl ?_
                refine au_callSp (n := 2) (kX2_has G (prom B Pr n.toNat k) (j : Int) (mi, si, hi, sl, r, nx)) (lw_S q1482 q1483 q134 q1484) (by decide +kernel) rfl rfl rfl (Nat.le_of_ble_eq_true rfl) (Nat.le_of_ble_eq_true rfl) (Nat.le_of_ble_eq_true rfl) (Nat.le_of_ble_eq_true rfl) (Nat.le_of_ble_eq_true rfl) dX2_first_42 ?_
                refine au_if_ne (tgt := 112) dX2_first_45 (by decide) (fun c45 => ?_) (fun c45 => ?_)
                · have c45 := au_b1 c45
                  refine au_iinc dX2_first_112 rfl (show 5 < 6 by decide) (by omega) (by omega) (by decide) (by decide) ?_
                  show au_Go G _ _ 115 [some (au_r MO), some (au_i q), some (au_i (prom B Pr n.toNat k)), some (au_i (nbB B Pr (prom B Pr n.toNat k) j)), some (au_i (k : Int)), some (au_i ((j : Int) + 1))] [] (mi, si, hi, sl, r, nx) 0 0
                  refine au_goto (tgt := 28) dX2_first_115 (by decide) ?_
                  have e1 : ∀ (z : Int), z = nbB B Pr (prom B Pr n.toNat k) (j + 1) → k + 0 ≤ k → au_Go G (yX2_first.cls, cX2_first, 6, (some .int), au_rm 2 0 0, yX2_first.name) (au_QM G (au_rm 2 0 0) (au_pure (au_i (@ite Int (0 ≤ q ∧ q < n) (Classical.propDecidable _) (nbB B Pr (prom B Pr n.toNat q.toNat) n.toNat) (-1))) (mi, si, hi, sl, r, nx))) 28 [some (au_r MO), some (au_i q), some (au_i (prom B Pr n.toNat k)), some (au_i z), some (au_i (k : Int)), some (au_i ((j : Int) + 1))] [] (mi, si, hi, sl, r, nx) 0 0 := fun z hz _ => by rw [hz]; exact ih (j + 1) (by omega) (by omega)
                  exact e1 _ (by simp only [nbB, mayP]; grind) (Nat.le_refl _)
                · have c45 := au_b0 c45
                  refine au_aload_n dX2_first_48 rfl ?_
                  refine au_getf (C := RX2) (T := TX2) (N := 35) in_X2 (by decide) rfl 0 (by decide) rfl rfl q1359 rfl dX2_first_49 (v := au_r MA) (congrArg au_q (fx_MO_0 hF)) ?_
                  refine au_bipush dX2_first_52 rfl rfl ?_
                  refine au_iload dX2_first_54 rfl ?_
                  refine au_iadd dX2_first_56 (by omega) (by omega) ?_
                  refine au_iald dX2_first_57 rfl (by omega) (by show _ < ((4544 : Nat) : Int); omega) (v := au_i (B (j : Int))) (congrArg au_i (hE _ (by omega) (by omega))) ?_
                  refine au_iconst dX2_first_58 rfl rfl ?_
                  refine au_icmp_eq (tgt := 82) dX2_first_59 (by decide) (fun c59 => ?_) (fun c59 => ?_)
                  · refine au_iload_n dX2_first_82 rfl ?_
                    refine au_iconst dX2_first_83 rfl rfl ?_
                    refine au_icmp_eq (tgt := 109) dX2_first_84 (by decide) (fun c84 => ?_) (fun c84 => ?_)
                    · refine au_iload dX2_first_109 rfl ?_
                      refine au_istore_n dX2_first_111 (show 3 < 6 by decide) ?_
                      show au_Go G _ _ 112 [some (au_r MO), some (au_i q), some (au_i (prom B Pr n.toNat k)), some (au_i (j : Int)), some (au_i (k : Int)), some (au_i (j : Int))] [] (mi, si, hi, sl, r, nx) 0 0
                      refine au_iinc dX2_first_112 rfl (show 5 < 6 by decide) (by omega) (by omega) (by decide) (by decide) ?_
                      show au_Go G _ _ 115 [some (au_r MO), some (au_i q), some (au_i (prom B Pr n.toNat k)), some (au_i (j : Int)), some (au_i (k : Int)), some (au_i ((j : Int) + 1))] [] (mi, si, hi, sl, r, nx) 0 0
                      refine au_goto (tgt := 28) dX2_first_115 (by decide) ?_
                      have e1 : ∀ (z : Int), z = nbB B Pr (prom B Pr n.toNat k) (j + 1) → k + 0 ≤ k → au_Go G (yX2_first.cls, cX2_first, 6, (some .int), au_rm 2 0 0, yX2_first.name) (au_QM G (au_rm 2 0 0) (au_pure (au_i (@ite Int (0 ≤ q ∧ q < n) (Classical.propDecidable _) (nbB B Pr (prom B Pr n.toNat q.toNat) n.toNat) (-1))) (mi, si, hi, sl, r, nx))) 28 [some (au_r MO), some (au_i q), some (au_i (prom B Pr n.toNat k)), some (au_i z), some (au_i (k : Int)), some (au_i ((j : Int) + 1))] [] (mi, si, hi, sl, r, nx) 0 0 := fun z hz _ => by rw [hz]; exact ih (j + 1) (by omega) (by omega)
                      exact e1 _ (by simp only [nbB, mayP]; grind) (Nat.le_refl _)
                    · refine au_aload_n dX2_first_87 rfl ?_
                      refine au_getf (C := RX2) (T := TX2) (N := 35) in_X2 (by decide) rfl 0 (by decide) rfl rfl q1359 rfl dX2_first_88 (v := au_r MA) (congrArg au_q (fx_MO_0 hF)) ?_
                      refine au_bipush dX2_first_91 rfl rfl ?_
                      refine au_iload dX2_first_93 rfl ?_
                      refine au_iadd dX2_first_95 (by omega) (by omega) ?_
                      refine au_iald dX2_first_96 rfl (by omega) (by show _ < ((4544 : Nat) : Int); omega) (v := au_i (Pr (j : Int))) (congrArg au_i (hPr _ (by omega) (by omega))) ?_
                      refine au_aload_n dX2_first_97 rfl ?_
                      refine au_getf (C := RX2) (T := TX2) (N := 35) in_X2 (by decide) rfl 0 (by decide) rfl rfl q1359 rfl dX2_first_98 (v := au_r MA) (congrArg au_q (fx_MO_0 hF)) ?_
                      refine au_bipush dX2_first_101 rfl rfl ?_
                      refine au_iload_n dX2_first_103 rfl ?_
                      refine au_iadd dX2_first_104 (by omega) (by omega) ?_
                      refine au_iald dX2_first_105 rfl (by omega) (by show _ < ((4544 : Nat) : Int); omega) (v := au_i (Pr (nbB B Pr (prom B Pr n.toNat k) j))) (congrArg au_i (hPr _ (by omega) (by omega))) ?_
                      refine au_icmp_le (tgt := 112) dX2_first_106 (by decide) (fun c106 => ?_) (fun c106 => ?_)
                      · refine au_iinc dX2_first_112 rfl (show 5 < 6 by decide) (by omega) (by omega) (by decide) (by decide) ?_
                        show au_Go G _ _ 115 [some (au_r MO), some (au_i q), some (au_i (prom B Pr n.toNat k)), some (au_i (nbB B Pr (prom B Pr n.toNat k) j)), some (au_i (k : Int)), some (au_i ((j : Int) + 1))] [] (mi, si, hi, sl, r, nx) 0 0
                        refine au_goto (tgt := 28) dX2_first_115 (by decide) ?_
                        have e1 : ∀ (z : Int), z = nbB B Pr (prom B Pr n.toNat k) (j + 1) → k + 0 ≤ k → au_Go G (yX2_first.cls, cX2_first, 6, (some .int), au_rm 2 0 0, yX2_first.name) (au_QM G (au_rm 2 0 0) (au_pure (au_i (@ite Int (0 ≤ q ∧ q < n) (Classical.propDecidable _) (nbB B Pr (prom B Pr n.toNat q.toNat) n.toNat) (-1))) (mi, si, hi, sl, r, nx))) 28 [some (au_r MO), some (au_i q), some (au_i (prom B Pr n.toNat k)), some (au_i z), some (au_i (k : Int)), some (au_i ((j : Int) + 1))] [] (mi, si, hi, sl, r, nx) 0 0 := fun z hz _ => by rw [hz]; exact ih (j + 1) (by omega) (by omega)
                        exact e1 _ (by simp only [nbB, mayP]; grind) (Nat.le_refl _)
                      · refine au_iload dX2_first_109 rfl ?_
                        refine au_istore_n dX2_first_111 (show 3 < 6 by decide) ?_
                        show au_Go G _ _ 112 [some (au_r MO), some (au_i q), some (au_i (prom B Pr n.toNat k)), some (au_i (j : Int)), some (au_i (k : Int)), some (au_i (j : Int))] [] (mi, si, hi, sl, r, nx) 0 0
                        refine au_iinc dX2_first_112 rfl (show 5 < 6 by decide) (by omega) (by omega) (by decide) (by decide) ?_
                        show au_Go G _ _ 115 [some (au_r MO), some (au_i q), some (au_i (prom B Pr n.toNat k)), some (au_i (j : Int)), some (au_i (k : Int)), some (au_i ((j : Int) + 1))] [] (mi, si, hi, sl, r, nx) 0 0
                        refine au_goto (tgt := 28) dX2_first_115 (by decide) ?_
                        have e1 : ∀ (z : Int), z = nbB B Pr (prom B Pr n.toNat k) (j + 1) → k + 0 ≤ k → au_Go G (yX2_first.cls, cX2_first, 6, (some .int), au_rm 2 0 0, yX2_first.name) (au_QM G (au_rm 2 0 0) (au_pure (au_i (@ite Int (0 ≤ q ∧ q < n) (Classical.propDecidable _) (nbB B Pr (prom B Pr n.toNat q.toNat) n.toNat) (-1))) (mi, si, hi, sl, r, nx))) 28 [some (au_r MO), some (au_i q), some (au_i (prom B Pr n.toNat k)), some (au_i z), some (au_i (k : Int)), some (au_i ((j : Int) + 1))] [] (mi, si, hi, sl, r, nx) 0 0 := fun z hz _ => by rw [hz]; exact ih (j + 1) (by omega) (by omega)
                        exact e1 _ (by simp only [nbB, mayP]; grind) (Nat.le_refl _)
                  · refine au_iload_n dX2_first_62 rfl ?_
                    refine au_aload_n dX2_first_63 rfl ?_
                    refine au_getf (C := RX2) (T := TX2) (N := 35) in_X2 (by decide) rfl 0 (by decide) rfl rfl q1359 rfl dX2_first_64 (v := au_r MA) (congrArg au_q (fx_MO_0 hF)) ?_
                    refine au_bipush dX2_first_67 rfl rfl ?_
                    refine au_iload dX2_first_69 rfl ?_
                    refine au_iadd dX2_first_71 (by omega) (by omega) ?_
                    refine au_iald dX2_first_72 rfl (by omega) (by show _ < ((4544 : Nat) : Int); omega) (v := au_i (B (j : Int))) (congrArg au_i (hE _ (by omega) (by omega))) ?_
                    refine au_callSp (n := 2) (kX2_has G (prom B Pr n.toNat k) (B (j : Int)) (mi, si, hi, sl, r, nx)) (lw_S q1482 q1483 q134 q1484) (by decide +kernel) rfl rfl rfl (Nat.le_of_ble_eq_true rfl) (Nat.le_of_ble_eq_true rfl) (Nat.le_of_ble_eq_true rfl) (Nat.le_of_ble_eq_true rfl) (Nat.le_of_ble_eq_true rfl) dX2_first_73 ?_
                    refine au_if_ne (tgt := 82) dX2_first_76 (by decide) (fun c76 => ?_) (fun c76 => ?_)
                    · have c76 := au_b1 c76
                      refine au_iload_n dX2_first_82 rfl ?_
                      refine au_iconst dX2_first_83 rfl rfl ?_
                      refine au_icmp_eq (tgt := 109) dX2_first_84 (by decide) (fun c84 => ?_) (fun c84 => ?_)
                      · refine au_iload dX2_first_109 rfl ?_
                        refine au_istore_n dX2_first_111 (show 3 < 6 by decide) ?_
                        show au_Go G _ _ 112 [some (au_r MO), some (au_i q), some (au_i (prom B Pr n.toNat k)), some (au_i (j : Int)), some (au_i (k : Int)), some (au_i (j : Int))] [] (mi, si, hi, sl, r, nx) 0 0
                        refine au_iinc dX2_first_112 rfl (show 5 < 6 by decide) (by omega) (by omega) (by decide) (by decide) ?_
                        show au_Go G _ _ 115 [some (au_r MO), some (au_i q), some (au_i (prom B Pr n.toNat k)), some (au_i (j : Int)), some (au_i (k : Int)), some (au_i ((j : Int) + 1))] [] (mi, si, hi, sl, r, nx) 0 0
                        refine au_goto (tgt := 28) dX2_first_115 (by decide) ?_
                        have e1 : ∀ (z : Int), z = nbB B Pr (prom B Pr n.toNat k) (j + 1) → k + 0 ≤ k → au_Go G (yX2_first.cls, cX2_first, 6, (some .int), au_rm 2 0 0, yX2_first.name) (au_QM G (au_rm 2 0 0) (au_pure (au_i (@ite Int (0 ≤ q ∧ q < n) (Classical.propDecidable _) (nbB B Pr (prom B Pr n.toNat q.toNat) n.toNat) (-1))) (mi, si, hi, sl, r, nx))) 28 [some (au_r MO), some (au_i q), some (au_i (prom B Pr n.toNat k)), some (au_i z), some (au_i (k : Int)), some (au_i ((j : Int) + 1))] [] (mi, si, hi, sl, r, nx) 0 0 := fun z hz _ => by rw [hz]; exact ih (j + 1) (by omega) (by omega)
                        exact e1 _ (by simp only [nbB, mayP]; grind) (Nat.le_refl _)
                      · refine au_aload_n dX2_first_87 rfl ?_
                        refine au_getf (C := RX2) (T := TX2) (N := 35) in_X2 (by decide) rfl 0 (by decide) rfl rfl q1359 rfl dX2_first_88 (v := au_r MA) (congrArg au_q (fx_MO_0 hF)) ?_
                        refine au_bipush dX2_first_91 rfl rfl ?_
                        refine au_iload dX2_first_93 rfl ?_
                        refine au_iadd dX2_first_95 (by omega) (by omega) ?_
                        refine au_iald dX2_first_96 rfl (by omega) (by show _ < ((4544 : Nat) : Int); omega) (v := au_i (Pr (j : Int))) (congrArg au_i (hPr _ (by omega) (by omega))) ?_
                        refine au_aload_n dX2_first_97 rfl ?_
                        refine au_getf (C := RX2) (T := TX2) (N := 35) in_X2 (by decide) rfl 0 (by decide) rfl rfl q1359 rfl dX2_first_98 (v := au_r MA) (congrArg au_q (fx_MO_0 hF)) ?_
                        refine au_bipush dX2_first_101 rfl rfl ?_
                        refine au_iload_n dX2_first_103 rfl ?_
                        refine au_iadd dX2_first_104 (by omega) (by omega) ?_
                        refine au_iald dX2_first_105 rfl (by omega) (by show _ < ((4544 : Nat) : Int); omega) (v := au_i (Pr (nbB B Pr (prom B Pr n.toNat k) j))) (congrArg au_i (hPr _ (by omega) (by omega))) ?_
                        refine au_icmp_le (tgt := 112) dX2_first_106 (by decide) (fun c106 => ?_) (fun c106 => ?_)
                        · refine au_iinc dX2_first_112 rfl (show 5 < 6 by decide) (by omega) (by omega) (by decide) (by decide) ?_
                          show au_Go G _ _ 115 [some (au_r MO), some (au_i q), some (au_i (prom B Pr n.toNat k)), some (au_i (nbB B Pr (prom B Pr n.toNat k) j)), some (au_i (k : Int)), some (au_i ((j : Int) + 1))] [] (mi, si, hi, sl, r, nx) 0 0
                          refine au_goto (tgt := 28) dX2_first_115 (by decide) ?_
                          have e1 : ∀ (z : Int), z = nbB B Pr (prom B Pr n.toNat k) (j + 1) → k + 0 ≤ k → au_Go G (yX2_first.cls, cX2_first, 6, (some .int), au_rm 2 0 0, yX2_first.name) (au_QM G (au_rm 2 0 0) (au_pure (au_i (@ite Int (0 ≤ q ∧ q < n) (Classical.propDecidable _) (nbB B Pr (prom B Pr n.toNat q.toNat) n.toNat) (-1))) (mi, si, hi, sl, r, nx))) 28 [some (au_r MO), some (au_i q), some (au_i (prom B Pr n.toNat k)), some (au_i z), some (au_i (k : Int)), some (au_i ((j : Int) + 1))] [] (mi, si, hi, sl, r, nx) 0 0 := fun z hz _ => by rw [hz]; exact ih (j + 1) (by omega) (by omega)
                          exact e1 _ (by simp only [nbB, mayP]; grind) (Nat.le_refl _)
                        · refine au_iload dX2_first_109 rfl ?_
                          refine au_istore_n dX2_first_111 (show 3 < 6 by decide) ?_
                          show au_Go G _ _ 112 [some (au_r MO), some (au_i q), some (au_i (prom B Pr n.toNat k)), some (au_i (j : Int)), some (au_i (k : Int)), some (au_i (j : Int))] [] (mi, si, hi, sl, r, nx) 0 0
                          refine au_iinc dX2_first_112 rfl (show 5 < 6 by decide) (by omega) (by omega) (by decide) (by decide) ?_
                          show au_Go G _ _ 115 [some (au_r MO), some (au_i q), some (au_i (prom B Pr n.toNat k)), some (au_i (j : Int)), some (au_i (k : Int)), some (au_i ((j : Int) + 1))] [] (mi, si, hi, sl, r, nx) 0 0
                          refine au_goto (tgt := 28) dX2_first_115 (by decide) ?_
                          have e1 : ∀ (z : Int), z = nbB B Pr (prom B Pr n.toNat k) (j + 1) → k + 0 ≤ k → au_Go G (yX2_first.cls, cX2_first, 6, (some .int), au_rm 2 0 0, yX2_first.name) (au_QM G (au_rm 2 0 0) (au_pure (au_i (@ite Int (0 ≤ q ∧ q < n) (Classical.propDecidable _) (nbB B Pr (prom B Pr n.toNat q.toNat) n.toNat) (-1))) (mi, si, hi, sl, r, nx))) 28 [some (au_r MO), some (au_i q), some (au_i (prom B Pr n.toNat k)), some (au_i z), some (au_i (k : Int)), some (au_i ((j : Int) + 1))] [] (mi, si, hi, sl, r, nx) 0 0 := fun z hz _ => by rw [hz]; exact ih (j + 1) (by omega) (by omega)
                          exact e1 _ (by simp only [nbB, mayP]; grind) (Nat.le_refl _)
                    · have c76 := au_b0 c76
                      refine au_goto (tgt := 112) dX2_first_79 (by decide) ?_
                      refine au_iinc dX2_first_112 rfl (show 5 < 6 by decide) (by omega) (by omega) (by decide) (by decide) ?_
                      show au_Go G _ _ 115 [some (au_r MO), some (au_i q), some (au_i (prom B Pr n.toNat k)), some (au_i (nbB B Pr (prom B Pr n.toNat k) j)), some (au_i (k : Int)), some (au_i ((j : Int) + 1))] [] (mi, si, hi, sl, r, nx) 0 0
                      refine au_goto (tgt := 28) dX2_first_115 (by decide) ?_
                      have e1 : ∀ (z : Int), z = nbB B Pr (prom B Pr n.toNat k) (j + 1) → k + 0 ≤ k → au_Go G (yX2_first.cls, cX2_first, 6, (some .int), au_rm 2 0 0, yX2_first.name) (au_QM G (au_rm 2 0 0) (au_pure (au_i (@ite Int (0 ≤ q ∧ q < n) (Classical.propDecidable _) (nbB B Pr (prom B Pr n.toNat q.toNat) n.toNat) (-1))) (mi, si, hi, sl, r, nx))) 28 [some (au_r MO), some (au_i q), some (au_i (prom B Pr n.toNat k)), some (au_i z), some (au_i (k : Int)), some (au_i ((j : Int) + 1))] [] (mi, si, hi, sl, r, nx) 0 0 := fun z hz _ => by rw [hz]; exact ih (j + 1) (by omega) (by omega)
                      exact e1 _ (by simp only [nbB, mayP]; grind) (Nat.le_refl _)
          exact hj_ 11 0 (by omega) (by omega)
    exact hk_ 12 0 (-1) _ (by omega) (fun y => by omega) (by omega)
  · have c5 := au_b0 c5
    refine au_iconst dX2_first_8 rfl rfl ?_
    exact au_iret dX2_first_9 rfl rfl (Nat.le_of_ble_eq_true rfl) (Nat.le_of_ble_eq_true rfl) (au_pe (by rw [if_neg c5]) rfl)
theorem kX2_weigh (G : au_G) (o w : Int) (mi si hi sl : au_A → Int → Int) (r : au_A → Int → Option au_A) (nx : Nat) (hF : Fix r) (n : Int) (hN : mi MA 0 = n) (hn : 0 ≤ n ∧ n ≤ 10) : au_Ctr G yX2_weigh cX2_weigh 3 (some .boolean) 2 0 0 [au_r MO, au_i o, au_i w] (mi, si, hi, sl, r, nx) (fun rv M' => ((0 ≤ o ∧ o < n ∧ 0 ≤ w ∧ w ≤ 99) ∧ rv = some (au_i 1) ∧ M' = (au_up mi MA (128 + o) w, si, hi, sl, r, nx)) ∨ (¬ (0 ≤ o ∧ o < n ∧ 0 ≤ w ∧ w ≤ 99) ∧ rv = some (au_i 0) ∧ M' = (mi, si, hi, sl, r, nx))) := by
  refine au_of (by decide) (Nat.le_of_ble_eq_true rfl) ?_
  show au_Go G _ _ 0 [some (au_r MO), some (au_i o), some (au_i w)] [] (mi, si, hi, sl, r, nx) 0 0
  refine au_aload_n dX2_weigh_0 rfl ?_
  refine au_iload_n dX2_weigh_1 rfl ?_
  refine au_callVp (n := 1) (kX2_isOfficer G o mi si hi sl r nx hF n hN hn ) (lw_V q1471 q1473 qs56 q134 q1474) rfl (by decide +kernel) (by decide) (T := TX2) (N := 35) rfl rfl rfl rfl (Nat.le_of_ble_eq_true rfl) (Nat.le_of_ble_eq_true rfl) (Nat.le_of_ble_eq_true rfl) (Nat.le_of_ble_eq_true rfl) (Nat.le_of_ble_eq_true rfl) dX2_weigh_2 ?_
  refine au_if_eq (tgt := 18) dX2_weigh_5 (by decide) (fun c5 => ?_) (fun c5 => ?_)
  · have c5 := au_b0 c5
    refine au_iconst dX2_weigh_18 rfl rfl ?_
    exact au_zret dX2_weigh_19 rfl (Or.inl rfl) rfl (Nat.le_of_ble_eq_true rfl) (Nat.le_of_ble_eq_true rfl) (by first | exact Or.inl ⟨by omega, rfl, rfl⟩ | exact Or.inr ⟨by omega, rfl, rfl⟩)
  · have c5 := au_b1 c5
    refine au_iload_n dX2_weigh_8 rfl ?_
    refine au_iconst dX2_weigh_9 rfl rfl ?_
    refine au_bipush dX2_weigh_10 rfl rfl ?_
    refine au_callSp (n := 3) (kX2_isIn G w 0 99 (mi, si, hi, sl, r, nx)) (lw_S q1475 q1476 q134 q1477) (by decide +kernel) rfl rfl rfl (Nat.le_of_ble_eq_true rfl) (Nat.le_of_ble_eq_true rfl) (Nat.le_of_ble_eq_true rfl) (Nat.le_of_ble_eq_true rfl) (Nat.le_of_ble_eq_true rfl) dX2_weigh_12 ?_
    refine au_if_ne (tgt := 20) dX2_weigh_15 (by decide) (fun c15 => ?_) (fun c15 => ?_)
    · have c15 := au_b1 c15
      refine au_aload_n dX2_weigh_20 rfl ?_
      refine au_getf (C := RX2) (T := TX2) (N := 35) in_X2 (by decide) rfl 0 (by decide) rfl rfl q1359 rfl dX2_weigh_21 (v := au_r MA) (congrArg au_q (fx_MO_0 hF)) ?_
      refine au_sipush dX2_weigh_24 rfl rfl ?_
      refine au_iload_n dX2_weigh_27 rfl ?_
      refine au_iadd dX2_weigh_28 (by omega) (by omega) ?_
      refine au_iload_n dX2_weigh_29 rfl ?_
      refine au_iast dX2_weigh_30 rfl (by decide) (by omega) (by show _ < ((4544 : Nat) : Int); omega) (M' := ((au_up mi MA (128 + o) w), si, hi, sl, r, nx)) (by rfl) ?_
      refine au_iconst dX2_weigh_31 rfl rfl ?_
      exact au_zret dX2_weigh_32 rfl (Or.inr rfl) rfl (Nat.le_of_ble_eq_true rfl) (Nat.le_of_ble_eq_true rfl) (by first | exact Or.inl ⟨by omega, rfl, rfl⟩ | exact Or.inr ⟨by omega, rfl, rfl⟩)
    · have c15 := au_b0 c15
      refine au_iconst dX2_weigh_18 rfl rfl ?_
      exact au_zret dX2_weigh_19 rfl (Or.inl rfl) rfl (Nat.le_of_ble_eq_true rfl) (Nat.le_of_ble_eq_true rfl) (by first | exact Or.inl ⟨by omega, rfl, rfl⟩ | exact Or.inr ⟨by omega, rfl, rfl⟩)
