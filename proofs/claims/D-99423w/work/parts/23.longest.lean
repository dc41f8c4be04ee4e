/-! THE LONGEST WAY, parts, orders, promotions, of both systems (printed by tools/m23.py) -/
set_option maxRecDepth 100000
set_option maxHeartbeats 4000000
theorem kX0_longest (G : au_G) (q : Int) (mi si hi sl : au_A → Int → Int) (r : au_A → Int → Option au_A) (nx : Nat) (hF : Fix r) (n : Int) (hN : mi XNn 0 = n) (B : Int → Int) (hE : ∀ o, 0 ≤ o → o < 10 → mi XNboss o = B o) (hB : Bs B n) : au_Ctr G yX0_longest cX0_longest 6 (some .int) 3 0 0 [au_r XO, au_i q] (mi, si, hi, sl, r, nx) (au_pure (au_i (if q = 0 then (lgO B n.toNat ((0 : Int), (if n = 0 then (-1 : Int) else 0)) n.toNat).1 else (lgO B n.toNat ((0 : Int), (if n = 0 then (-1 : Int) else 0)) n.toNat).2)) (mi, si, hi, sl, r, nx)) := by
  refine au_of (by decide) (Nat.le_of_ble_eq_true rfl) ?_
  have hb0 := hB.2.1
  have hb1 := hB.1
  have hk_ : ∀ (s0 : Int × Int), s0 = ((0 : Int), (if n = 0 then (-1 : Int) else 0)) → ∀ (f : Nat) (k : Nat) (a5 : Option au_V), ((k : Int) ≤ n) → n - (k : Int) < (f : Int) → au_Go G (yX0_longest.cls, cX0_longest, 6, (some .int), au_rm 3 0 0, yX0_longest.name) (au_QM G (au_rm 3 0 0) (au_pure (au_i (if q = 0 then (lgO B n.toNat ((0 : Int), (if n = 0 then (-1 : Int) else 0)) n.toNat).1 else (lgO B n.toNat ((0 : Int), (if n = 0 then (-1 : Int) else 0)) n.toNat).2)) (mi, si, hi, sl, r, nx))) 23 [some (au_r XO), some (au_i q), some (au_i ((lgO B n.toNat s0 k).1)), some (au_i ((lgO B n.toNat s0 k).2)), some (au_i (k : Int)), a5] [] (mi, si, hi, sl, r, nx) 0 0 := by
    intro s0 hs0 f
    induction f with
    | zero => intro k a5 h2 hf; exfalso; omega
    | succ f ihk =>
      intro k a5 h2 hf
      refine au_iload dX0_longest_23 rfl ?_
      refine au_aload_n dX0_longest_25 rfl ?_
      refine au_getf (C := RX0) (T := TX0) (N := 15) in_X0 (by decide) rfl 0 (by decide) rfl rfl q245 rfl dX0_longest_26 (v := au_r XN) (congrArg au_q (fx_XO_0 hF)) ?_
      refine au_getN (C := RX1) (T := TX1) (N := 11) in_X1 (by decide) rfl 0 (by decide) rfl rfl q187 rfl dX0_longest_29 (v := au_r XNn) (congrArg au_q (fx_XN_0 hF)) ?_
      refine au_iconst dX0_longest_32 rfl rfl ?_
      refine au_iald dX0_longest_33 rfl (by omega) (by show _ < ((6 : Nat) : Int); omega) (v := au_i (n)) (congrArg au_i (hN)) ?_
      refine au_icmp_ge (tgt := 93) dX0_longest_34 (by decide) (fun c34 => ?_) (fun c34 => ?_)
      · have hkn : k = n.toNat := by omega
        rw [hkn, hs0]
        refine au_iload_n dX0_longest_93 rfl ?_
        refine au_if_eq (tgt := 101) dX0_longest_94 (by decide) (fun c94 => ?_) (fun c94 => ?_)
        · refine au_iload_n dX0_longest_101 rfl ?_
          exact au_iret dX0_longest_102 rfl rfl (Nat.le_of_ble_eq_true rfl) (Nat.le_of_ble_eq_true rfl) (by first | exact au_pe (if_pos c94).symm rfl | exact au_pe (if_neg c94).symm rfl)
        · refine au_iload_n dX0_longest_97 rfl ?_
          refine au_goto (tgt := 102) dX0_longest_98 (by decide) ?_
          exact au_iret dX0_longest_102 rfl rfl (Nat.le_of_ble_eq_true rfl) (Nat.le_of_ble_eq_true rfl) (by first | exact au_pe (if_pos c94).symm rfl | exact au_pe (if_neg c94).symm rfl)
      · refine au_iconst dX0_longest_37 rfl rfl ?_
        refine au_istore dX0_longest_38 (show 5 < 6 by decide) ?_
        show au_Go G _ _ 40 [some (au_r XO), some (au_i q), some (au_i ((lgO B n.toNat s0 k).1)), some (au_i ((lgO B n.toNat s0 k).2)), some (au_i (k : Int)), some (au_i 0)] [] (mi, si, hi, sl, r, nx) 0 0
        have hj_ : ∀ (f : Nat) (j : Nat), ((j : Int) ≤ n) → (n - (j : Int)) < (f : Int) → au_Go G (yX0_longest.cls, cX0_longest, 6, (some .int), au_rm 3 0 0, yX0_longest.name) (au_QM G (au_rm 3 0 0) (au_pure (au_i (if q = 0 then (lgO B n.toNat ((0 : Int), (if n = 0 then (-1 : Int) else 0)) n.toNat).1 else (lgO B n.toNat ((0 : Int), (if n = 0 then (-1 : Int) else 0)) n.toNat).2)) (mi, si, hi, sl, r, nx))) 40 [some (au_r XO), some (au_i q), some (au_i ((lgI B k (lgO B n.toNat s0 k) j).1)), some (au_i ((lgI B k (lgO B n.toNat s0 k) j).2)), some (au_i (k : Int)), some (au_i (j : Int))] [] (mi, si, hi, sl, r, nx) 0 0 := by
          intro f
          induction f with
          | zero => intro j hj hf; exfalso; omega
          | succ f ih =>
            intro j hj hf
            refine au_iload dX0_longest_40 rfl ?_
            refine au_aload_n dX0_longest_42 rfl ?_
            refine au_getf (C := RX0) (T := TX0) (N := 15) in_X0 (by decide) rfl 0 (by decide) rfl rfl q245 rfl dX0_longest_43 (v := au_r XN) (congrArg au_q (fx_XO_0 hF)) ?_
            refine au_getN (C := RX1) (T := TX1) (N := 11) in_X1 (by decide) rfl 0 (by decide) rfl rfl q187 rfl dX0_longest_46 (v := au_r XNn) (congrArg au_q (fx_XN_0 hF)) ?_
            refine au_iconst dX0_longest_49 rfl rfl ?_
            refine au_iald dX0_longest_50 rfl (by omega) (by show _ < ((6 : Nat) : Int); omega) (v := au_i (n)) (congrArg au_i (hN)) ?_
            refine au_icmp_ge (tgt := 87) dX0_longest_51 (by decide) (fun c51 => ?_) (fun c51 => ?_)
            · refine au_iinc dX0_longest_87 rfl (show 4 < 6 by decide) (by omega) (by omega) (by decide) (by decide) ?_
              show au_Go G _ _ 90 [some (au_r XO), some (au_i q), some (au_i ((lgI B k (lgO B n.toNat s0 k) j).1)), some (au_i ((lgI B k (lgO B n.toNat s0 k) j).2)), some (au_i ((k : Int) + 1)), some (au_i (j : Int))] [] (mi, si, hi, sl, r, nx) 0 0
              refine au_goto (tgt := 23) dX0_longest_90 (by decide) ?_
              have hjn : j = n.toNat := by omega
              have e2 : lgO B n.toNat s0 (k + 1) = (lgI B k (lgO B n.toNat s0 k) j) := by rw [hjn]; rfl
              have e3 := ihk (k + 1) (some (au_i (j : Int))) (by omega) (by omega)
              rw [e2] at e3
              exact e3
            · refine au_aload_n dX0_longest_54 rfl ?_
              refine au_iload dX0_longest_55 rfl ?_
              refine au_iload dX0_longest_57 rfl ?_
              refine au_callVp (n := 2) (kX0_stepsOf G (k : Int) (j : Int) mi si hi sl r nx hF n hN B hE hB (by omega) (by omega) (by omega) (by omega)) (lw_V q1204 q1206 qs47 q130 q1207) rfl (by decide +kernel) (by decide) (T := TX0) (N := 15) rfl rfl rfl rfl (Nat.le_of_ble_eq_true rfl) (Nat.le_of_ble_eq_true rfl) (Nat.le_of_ble_eq_true rfl) (Nat.le_of_ble_eq_true rfl) (Nat.le_of_ble_eq_true rfl) dX0_longest_59 ?_
              refine au_iload_n dX0_longest_62 rfl ?_
              refine au_icmp_gt (tgt := 69) dX0_longest_63 (by decide) (fun c63 => ?_) (fun c63 => ?_)
              · refine au_aload_n dX0_longest_69 rfl ?_
                refine au_iload dX0_longest_70 rfl ?_
                refine au_iload dX0_longest_72 rfl ?_
                refine au_callVp (n := 2) (kX0_stepsOf G (k : Int) (j : Int) mi si hi sl r nx hF n hN B hE hB (by omega) (by omega) (by omega) (by omega)) (lw_V q1204 q1206 qs47 q130 q1207) rfl (by decide +kernel) (by decide) (T := TX0) (N := 15) rfl rfl rfl rfl (Nat.le_of_ble_eq_true rfl) (Nat.le_of_ble_eq_true rfl) (Nat.le_of_ble_eq_true rfl) (Nat.le_of_ble_eq_true rfl) (Nat.le_of_ble_eq_true rfl) dX0_longest_74 ?_
                refine au_istore_n dX0_longest_77 (show 2 < 6 by decide) ?_
                show au_Go G _ _ 78 [some (au_r XO), some (au_i q), some (au_i (stepsN B (k : Int) (j : Int))), some (au_i ((lgI B k (lgO B n.toNat s0 k) j).2)), some (au_i (k : Int)), some (au_i (j : Int))] [] (mi, si, hi, sl, r, nx) 0 0
                refine au_iload dX0_longest_78 rfl ?_
                refine au_istore_n dX0_longest_80 (show 3 < 6 by decide) ?_
                show au_Go G _ _ 81 [some (au_r XO), some (au_i q), some (au_i (stepsN B (k : Int) (j : Int))), some (au_i (k : Int)), some (au_i (k : Int)), some (au_i (j : Int))] [] (mi, si, hi, sl, r, nx) 0 0
                refine au_iinc dX0_longest_81 rfl (show 5 < 6 by decide) (by omega) (by omega) (by decide) (by decide) ?_
                show au_Go G _ _ 84 [some (au_r XO), some (au_i q), some (au_i (stepsN B (k : Int) (j : Int))), some (au_i (k : Int)), some (au_i (k : Int)), some (au_i ((j : Int) + 1))] [] (mi, si, hi, sl, r, nx) 0 0
                refine au_goto (tgt := 40) dX0_longest_84 (by decide) ?_
                have e1 : ∀ z : Int × Int, z = lgI B k (lgO B n.toNat s0 k) (j + 1) → au_Go G (yX0_longest.cls, cX0_longest, 6, (some .int), au_rm 3 0 0, yX0_longest.name) (au_QM G (au_rm 3 0 0) (au_pure (au_i (if q = 0 then (lgO B n.toNat ((0 : Int), (if n = 0 then (-1 : Int) else 0)) n.toNat).1 else (lgO B n.toNat ((0 : Int), (if n = 0 then (-1 : Int) else 0)) n.toNat).2)) (mi, si, hi, sl, r, nx))) 40 [some (au_r XO), some (au_i q), some (au_i z.1), some (au_i z.2), some (au_i (k : Int)), some (au_i ((j : Int) + 1))] [] (mi, si, hi, sl, r, nx) 0 0 := fun z hz => by rw [hz]; exact ih (j + 1) (by omega) (by omega)
                by_cases hx : (lgI B k (lgO B n.toNat s0 k) j).1 < stepsN B k j
                · first
                  | exact absurd hx (by omega)
                  | exact e1 (stepsN B k j, (k : Int)) (by simp only [lgI]; exact (if_pos hx).symm)
                · first
                  | exact absurd c63 (by omega)
                  | exact e1 (lgI B k (lgO B n.toNat s0 k) j) (by simp only [lgI]; exact (if_neg hx).symm)
              · refine au_goto (tgt := 81) dX0_longest_66 (by decide) ?_
                refine au_iinc dX0_longest_81 rfl (show 5 < 6 by decide) (by omega) (by omega) (by decide) (by decide) ?_
                show au_Go G _ _ 84 [some (au_r XO), some (au_i q), some (au_i ((lgI B k (lgO B n.toNat s0 k) j).1)), some (au_i ((lgI B k (lgO B n.toNat s0 k) j).2)), some (au_i (k : Int)), some (au_i ((j : Int) + 1))] [] (mi, si, hi, sl, r, nx) 0 0
                refine au_goto (tgt := 40) dX0_longest_84 (by decide) ?_
                have e1 : ∀ z : Int × Int, z = lgI B k (lgO B n.toNat s0 k) (j + 1) → au_Go G (yX0_longest.cls, cX0_longest, 6, (some .int), au_rm 3 0 0, yX0_longest.name) (au_QM G (au_rm 3 0 0) (au_pure (au_i (if q = 0 then (lgO B n.toNat ((0 : Int), (if n = 0 then (-1 : Int) else 0)) n.toNat).1 else (lgO B n.toNat ((0 : Int), (if n = 0 then (-1 : Int) else 0)) n.toNat).2)) (mi, si, hi, sl, r, nx))) 40 [some (au_r XO), some (au_i q), some (au_i z.1), some (au_i z.2), some (au_i (k : Int)), some (au_i ((j : Int) + 1))] [] (mi, si, hi, sl, r, nx) 0 0 := fun z hz => by rw [hz]; exact ih (j + 1) (by omega) (by omega)
                by_cases hx : (lgI B k (lgO B n.toNat s0 k) j).1 < stepsN B k j
                · first
                  | exact absurd hx (by omega)
                  | exact e1 (stepsN B k j, (k : Int)) (by simp only [lgI]; exact (if_pos hx).symm)
                · first
                  | exact absurd c63 (by omega)
                  | exact e1 (lgI B k (lgO B n.toNat s0 k) j) (by simp only [lgI]; exact (if_neg hx).symm)
        exact hj_ 11 0 (by omega) (by omega)
  show au_Go G _ _ 0 [some (au_r XO), some (au_i q), none, none, none, none] [] (mi, si, hi, sl, r, nx) 0 0
  refine au_iconst dX0_longest_0 rfl rfl ?_
  refine au_istore_n dX0_longest_1 (show 2 < 6 by decide) ?_
  show au_Go G _ _ 2 [some (au_r XO), some (au_i q), some (au_i 0), none, none, none] [] (mi, si, hi, sl, r, nx) 0 0
  refine au_aload_n dX0_longest_2 rfl ?_
  refine au_getf (C := RX0) (T := TX0) (N := 15) in_X0 (by decide) rfl 0 (by decide) rfl rfl q245 rfl dX0_longest_3 (v := au_r XN) (congrArg au_q (fx_XO_0 hF)) ?_
  refine au_getN (C := RX1) (T := TX1) (N := 11) in_X1 (by decide) rfl 0 (by decide) rfl rfl q187 rfl dX0_longest_6 (v := au_r XNn) (congrArg au_q (fx_XN_0 hF)) ?_
  refine au_iconst dX0_longest_9 rfl rfl ?_
  refine au_iald dX0_longest_10 rfl (by omega) (by show _ < ((6 : Nat) : Int); omega) (v := au_i (n)) (congrArg au_i (hN)) ?_
  refine au_if_ne (tgt := 18) dX0_longest_11 (by decide) (fun c11 => ?_) (fun c11 => ?_)
  · refine au_iconst dX0_longest_18 rfl rfl ?_
    refine au_istore_n dX0_longest_19 (show 3 < 6 by decide) ?_
    show au_Go G _ _ 20 [some (au_r XO), some (au_i q), some (au_i 0), some (au_i 0), none, none] [] (mi, si, hi, sl, r, nx) 0 0
    refine au_iconst dX0_longest_20 rfl rfl ?_
    refine au_istore dX0_longest_21 (show 4 < 6 by decide) ?_
    show au_Go G _ _ 23 [some (au_r XO), some (au_i q), some (au_i 0), some (au_i 0), some (au_i 0), none] [] (mi, si, hi, sl, r, nx) 0 0
    exact hk_ _ (by first | rw [if_neg c11] | rw [if_pos c11]) 11 0 _ (by omega) (by omega)
  · refine au_iconst dX0_longest_14 rfl rfl ?_
    refine au_goto (tgt := 19) dX0_longest_15 (by decide) ?_
    refine au_istore_n dX0_longest_19 (show 3 < 6 by decide) ?_
    show au_Go G _ _ 20 [some (au_r XO), some (au_i q), some (au_i 0), some (au_i (-1)), none, none] [] (mi, si, hi, sl, r, nx) 0 0
    refine au_iconst dX0_longest_20 rfl rfl ?_
    refine au_istore dX0_longest_21 (show 4 < 6 by decide) ?_
    show au_Go G _ _ 23 [some (au_r XO), some (au_i q), some (au_i 0), some (au_i (-1)), some (au_i 0), none] [] (mi, si, hi, sl, r, nx) 0 0
    exact hk_ _ (by first | rw [if_neg c11] | rw [if_pos c11]) 11 0 _ (by omega) (by omega)
theorem kX0_parts (G : au_G) (a : Int) (mi si hi sl : au_A → Int → Int) (r : au_A → Int → Option au_A) (nx : Nat) (hF : Fix r) (n : Int) (hN : mi XNn 0 = n) (B : Int → Int) (hE : ∀ o, 0 ≤ o → o < 10 → mi XNboss o = B o) (hB : Bs B n) : au_Ctr G yX0_parts cX0_parts 4 (some .int) 2 0 0 [au_r XO, au_i a] (mi, si, hi, sl, r, nx) (au_pure (au_i (@ite Int (0 ≤ a ∧ a < n) (Classical.propDecidable _) (ptM B n.toNat a (n - (pop (under B n.toNat a) : Int)) (max n 1).toNat) (-1))) (mi, si, hi, sl, r, nx)) := by
  refine au_of (by decide) (Nat.le_of_ble_eq_true rfl) ?_
  have hb0 := hB.2.1
  have hb1 := hB.1
  have hn : 0 ≤ n ∧ n ≤ 10 := ⟨hb1, hb0⟩
  show au_Go G _ _ 0 [some (au_r XO), some (au_i a), none, none] [] (mi, si, hi, sl, r, nx) 0 0
  have hp0 := pop_le (under B n.toNat a)
  refine au_aload_n dX0_parts_0 rfl ?_
  refine au_iload_n dX0_parts_1 rfl ?_
  refine au_callVp (n := 1) (kX0_isOfficer G a mi si hi sl r nx hF n hN hn ) (lw_V q296 q298 qs0 q130 q299) rfl (by decide +kernel) (by decide) (T := TX0) (N := 15) rfl rfl rfl rfl (Nat.le_of_ble_eq_true rfl) (Nat.le_of_ble_eq_true rfl) (Nat.le_of_ble_eq_true rfl) (Nat.le_of_ble_eq_true rfl) (Nat.le_of_ble_eq_true rfl) dX0_parts_2 ?_
  refine au_if_ne (tgt := 10) dX0_parts_5 (by decide) (fun c5 => ?_) (fun c5 => ?_)
  · have c5 := au_b1 c5
    refine au_aload_n dX0_parts_10 rfl ?_
    refine au_getf (C := RX0) (T := TX0) (N := 15) in_X0 (by decide) rfl 0 (by decide) rfl rfl q245 rfl dX0_parts_11 (v := au_r XN) (congrArg au_q (fx_XO_0 hF)) ?_
    refine au_getN (C := RX1) (T := TX1) (N := 11) in_X1 (by decide) rfl 0 (by decide) rfl rfl q187 rfl dX0_parts_14 (v := au_r XNn) (congrArg au_q (fx_XN_0 hF)) ?_
    refine au_iconst dX0_parts_17 rfl rfl ?_
    refine au_iald dX0_parts_18 rfl (by omega) (by show _ < ((6 : Nat) : Int); omega) (v := au_i (n)) (congrArg au_i (hN)) ?_
    refine au_aload_n dX0_parts_19 rfl ?_
    refine au_iload_n dX0_parts_20 rfl ?_
    refine au_callVp (n := 1) (kX0_under G a mi si hi sl r nx hF n hN B hE hB (by omega)) (lw_V q1168 q1170 qs45 q130 q1171) rfl (by decide +kernel) (by decide) (T := TX0) (N := 15) rfl rfl rfl rfl (Nat.le_of_ble_eq_true rfl) (Nat.le_of_ble_eq_true rfl) (Nat.le_of_ble_eq_true rfl) (Nat.le_of_ble_eq_true rfl) (Nat.le_of_ble_eq_true rfl) dX0_parts_21 ?_
    refine au_callSp (n := 1) (kJ15_bitCount G _ (by first | exact under_lt' _ (by omega) _ | assumption | omega) (mi, si, hi, sl, r, nx)) (lw_S q1244 q1245 q162 q1246) (by decide +kernel) rfl rfl rfl (Nat.le_of_ble_eq_true rfl) (Nat.le_of_ble_eq_true rfl) (Nat.le_of_ble_eq_true rfl) (Nat.le_of_ble_eq_true rfl) (Nat.le_of_ble_eq_true rfl) dX0_parts_24 ?_
    refine au_isub dX0_parts_27 (by omega) (by omega) ?_
    refine au_istore_n dX0_parts_28 (show 2 < 4 by decide) ?_
    show au_Go G _ _ 29 [some (au_r XO), some (au_i a), some (au_i (n - ((pop (under B n.toNat a) : Nat) : Int))), none] [] (mi, si, hi, sl, r, nx) 0 0
    refine au_iconst dX0_parts_29 rfl rfl ?_
    refine au_istore_n dX0_parts_30 (show 3 < 4 by decide) ?_
    show au_Go G _ _ 31 [some (au_r XO), some (au_i a), some (au_i (n - ((pop (under B n.toNat a) : Nat) : Int))), some (au_i 1)] [] (mi, si, hi, sl, r, nx) 0 0
    have hl : ∀ (f : Nat) (k : Nat), (1 ≤ k) → (k = 1 ∨ (k : Int) ≤ n) → (max (n - (k : Int)) 0) < (f : Int) → au_Go G (yX0_parts.cls, cX0_parts, 4, (some .int), au_rm 2 0 0, yX0_parts.name) (au_QM G (au_rm 2 0 0) (au_pure (au_i (@ite Int (0 ≤ a ∧ a < n) (Classical.propDecidable _) (ptM B n.toNat a (n - (pop (under B n.toNat a) : Int)) (max n 1).toNat) (-1))) (mi, si, hi, sl, r, nx))) 31 [some (au_r XO), some (au_i a), some (au_i (ptM B n.toNat a (n - (pop (under B n.toNat a) : Int)) k)), some (au_i (k : Int))] [] (mi, si, hi, sl, r, nx) 0 0 := by
      intro f
      induction f with
      | zero => intro k h0 h2 hf; exfalso; omega
      | succ f ih =>
        intro k h0 h2 hf
        refine au_iload_n dX0_parts_31 rfl ?_
        refine au_aload_n dX0_parts_32 rfl ?_
        refine au_getf (C := RX0) (T := TX0) (N := 15) in_X0 (by decide) rfl 0 (by decide) rfl rfl q245 rfl dX0_parts_33 (v := au_r XN) (congrArg au_q (fx_XO_0 hF)) ?_
        refine au_getN (C := RX1) (T := TX1) (N := 11) in_X1 (by decide) rfl 0 (by decide) rfl rfl q187 rfl dX0_parts_36 (v := au_r XNn) (congrArg au_q (fx_XN_0 hF)) ?_
        refine au_iconst dX0_parts_39 rfl rfl ?_
        refine au_iald dX0_parts_40 rfl (by omega) (by show _ < ((6 : Nat) : Int); omega) (v := au_i (n)) (congrArg au_i (hN)) ?_
        refine au_icmp_ge (tgt := 80) dX0_parts_41 (by decide) (fun c41 => ?_) (fun c41 => ?_)
        · refine au_iload_n dX0_parts_80 rfl ?_
          exact au_iret dX0_parts_81 rfl rfl (Nat.le_of_ble_eq_true rfl) (Nat.le_of_ble_eq_true rfl) (au_pe (by rw [if_pos (by omega), show (max n 1).toNat = k by omega]) rfl)
        · refine au_aload_n dX0_parts_44 rfl ?_
          refine au_getf (C := RX0) (T := TX0) (N := 15) in_X0 (by decide) rfl 0 (by decide) rfl rfl q245 rfl dX0_parts_45 (v := au_r XN) (congrArg au_q (fx_XO_0 hF)) ?_
          refine au_getN (C := RX1) (T := TX1) (N := 11) in_X1 (by decide) rfl 2 (by decide) rfl rfl q191 rfl dX0_parts_48 (v := au_r XNboss) (congrArg au_q (fx_XN_2 hF)) ?_
          refine au_iload_n dX0_parts_51 rfl ?_
          refine au_iald dX0_parts_52 rfl (by omega) (by show _ < ((10 : Nat) : Int); omega) (v := au_i (B (k : Int))) (congrArg au_i (hE _ (by omega) (by omega))) ?_
          refine au_iload_n dX0_parts_53 rfl ?_
          refine au_icmp_ne (tgt := 72) dX0_parts_54 (by decide) (fun c54 => ?_) (fun c54 => ?_)
          · refine au_iload_n dX0_parts_72 rfl ?_
            refine au_istore_n dX0_parts_73 (show 2 < 4 by decide) ?_
            show au_Go G _ _ 74 [some (au_r XO), some (au_i a), some (au_i (ptM B n.toNat a (n - (pop (under B n.toNat a) : Int)) k)), some (au_i (k : Int))] [] (mi, si, hi, sl, r, nx) 0 0
            refine au_iinc dX0_parts_74 rfl (show 3 < 4 by decide) (by omega) (by omega) (by decide) (by decide) ?_
            show au_Go G _ _ 77 [some (au_r XO), some (au_i a), some (au_i (ptM B n.toNat a (n - (pop (under B n.toNat a) : Int)) k)), some (au_i ((k : Int) + 1))] [] (mi, si, hi, sl, r, nx) 0 0
            refine au_goto (tgt := 31) dX0_parts_77 (by decide) ?_
            have e1 : ∀ z : Int, z = ptM B n.toNat a (n - (pop (under B n.toNat a) : Int)) (k + 1) → au_Go G (yX0_parts.cls, cX0_parts, 4, (some .int), au_rm 2 0 0, yX0_parts.name) (au_QM G (au_rm 2 0 0) (au_pure (au_i (@ite Int (0 ≤ a ∧ a < n) (Classical.propDecidable _) (ptM B n.toNat a (n - (pop (under B n.toNat a) : Int)) (max n 1).toNat) (-1))) (mi, si, hi, sl, r, nx))) 31 [some (au_r XO), some (au_i a), some (au_i z), some (au_i ((k : Int) + 1))] [] (mi, si, hi, sl, r, nx) 0 0 := fun z hz => by rw [hz]; exact ih (k + 1) (by omega) (by omega) (by omega)
            exact e1 _ (by
              simp only [ptM, Int.toNat_natCast]
              first
              | exact (if_neg (fun z => c54 z.2.1)).symm
              | (by_cases hx : ptM B n.toNat a (n - (pop (under B n.toNat a) : Int)) k < (pop (under B n.toNat (k : Int)) : Int)
                 · rw [if_pos ⟨by omega, c54, hx⟩]; omega
                 · rw [if_neg (fun z => hx z.2.2)]; omega))
          · refine au_iload_n dX0_parts_57 rfl ?_
            refine au_aload_n dX0_parts_58 rfl ?_
            refine au_iload_n dX0_parts_59 rfl ?_
            refine au_callVp (n := 1) (kX0_under G (k : Int) mi si hi sl r nx hF n hN B hE hB (by omega)) (lw_V q1168 q1170 qs45 q130 q1171) rfl (by decide +kernel) (by decide) (T := TX0) (N := 15) rfl rfl rfl rfl (Nat.le_of_ble_eq_true rfl) (Nat.le_of_ble_eq_true rfl) (Nat.le_of_ble_eq_true rfl) (Nat.le_of_ble_eq_true rfl) (Nat.le_of_ble_eq_true rfl) dX0_parts_60 ?_
            refine au_callSp (n := 1) (kJ15_bitCount G _ (by first | exact under_lt' _ (by omega) _ | assumption | omega) (mi, si, hi, sl, r, nx)) (lw_S q1244 q1245 q162 q1246) (by decide +kernel) rfl rfl rfl (Nat.le_of_ble_eq_true rfl) (Nat.le_of_ble_eq_true rfl) (Nat.le_of_ble_eq_true rfl) (Nat.le_of_ble_eq_true rfl) (Nat.le_of_ble_eq_true rfl) dX0_parts_63 ?_
            refine au_mmax q1069 q646 q144 q647 rfl rfl (Nat.le_of_ble_eq_true rfl) (Nat.le_of_ble_eq_true rfl) (Nat.le_of_ble_eq_true rfl) (Nat.le_of_ble_eq_true rfl) (Nat.le_of_ble_eq_true rfl) dX0_parts_66 ?_
            show au_Go G _ _ 69 [some (au_r XO), some (au_i a), some (au_i (ptM B n.toNat a (n - (pop (under B n.toNat a) : Int)) k)), some (au_i (k : Int))] [au_i (max (ptM B n.toNat a (n - (pop (under B n.toNat a) : Int)) k) ((pop (under B n.toNat (k : Int)) : Nat) : Int))] (mi, si, hi, sl, r, nx) 0 0
            refine au_goto (tgt := 73) dX0_parts_69 (by decide) ?_
            refine au_istore_n dX0_parts_73 (show 2 < 4 by decide) ?_
            show au_Go G _ _ 74 [some (au_r XO), some (au_i a), some (au_i (max (ptM B n.toNat a (n - (pop (under B n.toNat a) : Int)) k) ((pop (under B n.toNat (k : Int)) : Nat) : Int))), some (au_i (k : Int))] [] (mi, si, hi, sl, r, nx) 0 0
            refine au_iinc dX0_parts_74 rfl (show 3 < 4 by decide) (by omega) (by omega) (by decide) (by decide) ?_
            show au_Go G _ _ 77 [some (au_r XO), some (au_i a), some (au_i (max (ptM B n.toNat a (n - (pop (under B n.toNat a) : Int)) k) ((pop (under B n.toNat (k : Int)) : Nat) : Int))), some (au_i ((k : Int) + 1))] [] (mi, si, hi, sl, r, nx) 0 0
            refine au_goto (tgt := 31) dX0_parts_77 (by decide) ?_
            have e1 : ∀ z : Int, z = ptM B n.toNat a (n - (pop (under B n.toNat a) : Int)) (k + 1) → au_Go G (yX0_parts.cls, cX0_parts, 4, (some .int), au_rm 2 0 0, yX0_parts.name) (au_QM G (au_rm 2 0 0) (au_pure (au_i (@ite Int (0 ≤ a ∧ a < n) (Classical.propDecidable _) (ptM B n.toNat a (n - (pop (under B n.toNat a) : Int)) (max n 1).toNat) (-1))) (mi, si, hi, sl, r, nx))) 31 [some (au_r XO), some (au_i a), some (au_i z), some (au_i ((k : Int) + 1))] [] (mi, si, hi, sl, r, nx) 0 0 := fun z hz => by rw [hz]; exact ih (k + 1) (by omega) (by omega) (by omega)
            exact e1 _ (by
              simp only [ptM, Int.toNat_natCast]
              first
              | exact (if_neg (fun z => c54 z.2.1)).symm
              | (by_cases hx : ptM B n.toNat a (n - (pop (under B n.toNat a) : Int)) k < (pop (under B n.toNat (k : Int)) : Int)
                 · rw [if_pos ⟨by omega, c54, hx⟩]; omega
                 · rw [if_neg (fun z => hx z.2.2)]; omega))
    have h0_ := hl 11 1 (by omega) (by omega) (by omega)
    rw [ptM_1] at h0_
    exact h0_
  · have c5 := au_b0 c5
    refine au_iconst dX0_parts_8 rfl rfl ?_
    exact au_iret dX0_parts_9 rfl rfl (Nat.le_of_ble_eq_true rfl) (Nat.le_of_ble_eq_true rfl) (au_pe (by rw [if_neg (by omega)]) rfl)
theorem kX2_longest (G : au_G) (q : Int) (mi si hi sl : au_A → Int → Int) (r : au_A → Int → Option au_A) (nx : Nat) (hF : Fix r) (n : Int) (hN : mi MA 0 = n) (B : Int → Int) (hE : ∀ o, 0 ≤ o → o < 10 → mi MA (90 + o) = B o) (hB : Bs B n) : au_Ctr G yX2_longest cX2_longest 6 (some .int) 4 0 0 [au_r MO, au_i q] (mi, si, hi, sl, r, nx) (au_pure (au_i (if q = 0 then (if (lgO B n.toNat ((-1 : Int), (-1 : Int)) n.toNat).1 = -1 then 0 else (lgO B n.toNat ((-1 : Int), (-1 : Int)) n.toNat).1) else (lgO B n.toNat ((-1 : Int), (-1 : Int)) n.toNat).2)) (mi, si, hi, sl, r, nx)) := by
  refine au_of (by decide) (Nat.le_of_ble_eq_true rfl) ?_
  have hb0 := hB.2.1
  have hb1 := hB.1
  have hk_ : ∀ (s0 : Int × Int), s0 = ((-1 : Int), (-1 : Int)) → ∀ (f : Nat) (k : Nat) (a5 : Option au_V), ((k : Int) ≤ n) → n - (k : Int) < (f : Int) → au_Go G (yX2_longest.cls, cX2_longest, 6, (some .int), au_rm 4 0 0, yX2_longest.name) (au_QM G (au_rm 4 0 0) (au_pure (au_i (if q = 0 then (if (lgO B n.toNat ((-1 : Int), (-1 : Int)) n.toNat).1 = -1 then 0 else (lgO B n.toNat ((-1 : Int), (-1 : Int)) n.toNat).1) else (lgO B n.toNat ((-1 : Int), (-1 : Int)) n.toNat).2)) (mi, si, hi, sl, r, nx))) 7 [some (au_r MO), some (au_i q), some (au_i ((lgO B n.toNat s0 k).2)), some (au_i ((lgO B n.toNat s0 k).1)), some (au_i (k : Int)), a5] [] (mi, si, hi, sl, r, nx) 0 0 := by
    intro s0 hs0 f
    induction f with
    | zero => intro k a5 h2 hf; exfalso; omega
    | succ f ihk =>
      intro k a5 h2 hf
      refine au_iload dX2_longest_7 rfl ?_
      refine au_aload_n dX2_longest_9 rfl ?_
      refine au_getf (C := RX2) (T := TX2) (N := 35) in_X2 (by decide) rfl 0 (by decide) rfl rfl q1359 rfl dX2_longest_10 (v := au_r MA) (congrArg au_q (fx_MO_0 hF)) ?_
      refine au_iconst dX2_longest_13 rfl rfl ?_
      refine au_iald dX2_longest_14 rfl (by omega) (by show _ < ((4544 : Nat) : Int); omega) (v := au_i (n)) (congrArg au_i (hN)) ?_
      refine au_icmp_ge (tgt := 71) dX2_longest_15 (by decide) (fun c15 => ?_) (fun c15 => ?_)
      · have hkn : k = n.toNat := by omega
        rw [hkn, hs0]
        refine au_iload_n dX2_longest_71 rfl ?_
        refine au_if_eq (tgt := 79) dX2_longest_72 (by decide) (fun c72 => ?_) (fun c72 => ?_)
        · refine au_iload_n dX2_longest_79 rfl ?_
          refine au_iconst dX2_longest_80 rfl rfl ?_
          refine au_icmp_ne (tgt := 88) dX2_longest_81 (by decide) (fun c81 => ?_) (fun c81 => ?_)
          · refine au_iload_n dX2_longest_88 rfl ?_
            exact au_iret dX2_longest_89 rfl rfl (Nat.le_of_ble_eq_true rfl) (Nat.le_of_ble_eq_true rfl) (by first | exact au_pe (by rw [if_pos c72, if_pos c81]) rfl | exact au_pe (by rw [if_pos c72, if_neg c81]) rfl | exact au_pe (if_neg c72).symm rfl)
          · refine au_iconst dX2_longest_84 rfl rfl ?_
            refine au_goto (tgt := 89) dX2_longest_85 (by decide) ?_
            exact au_iret dX2_longest_89 rfl rfl (Nat.le_of_ble_eq_true rfl) (Nat.le_of_ble_eq_true rfl) (by first | exact au_pe (by rw [if_pos c72, if_pos c81]) rfl | exact au_pe (by rw [if_pos c72, if_neg c81]) rfl | exact au_pe (if_neg c72).symm rfl)
        · refine au_iload_n dX2_longest_75 rfl ?_
          refine au_goto (tgt := 89) dX2_longest_76 (by decide) ?_
          exact au_iret dX2_longest_89 rfl rfl (Nat.le_of_ble_eq_true rfl) (Nat.le_of_ble_eq_true rfl) (by first | exact au_pe (by rw [if_pos c72, if_pos c81]) rfl | exact au_pe (by rw [if_pos c72, if_neg c81]) rfl | exact au_pe (if_neg c72).symm rfl)
      · refine au_iconst dX2_longest_18 rfl rfl ?_
        refine au_istore dX2_longest_19 (show 5 < 6 by decide) ?_
        show au_Go G _ _ 21 [some (au_r MO), some (au_i q), some (au_i ((lgO B n.toNat s0 k).2)), some (au_i ((lgO B n.toNat s0 k).1)), some (au_i (k : Int)), some (au_i 0)] [] (mi, si, hi, sl, r, nx) 0 0
        have hj_ : ∀ (f : Nat) (j : Nat), ((j : Int) ≤ n) → (n - (j : Int)) < (f : Int) → au_Go G (yX2_longest.cls, cX2_longest, 6, (some .int), au_rm 4 0 0, yX2_longest.name) (au_QM G (au_rm 4 0 0) (au_pure (au_i (if q = 0 then (if (lgO B n.toNat ((-1 : Int), (-1 : Int)) n.toNat).1 = -1 then 0 else (lgO B n.toNat ((-1 : Int), (-1 : Int)) n.toNat).1) else (lgO B n.toNat ((-1 : Int), (-1 : Int)) n.toNat).2)) (mi, si, hi, sl, r, nx))) 21 [some (au_r MO), some (au_i q), some (au_i ((lgI B k (lgO B n.toNat s0 k) j).2)), some (au_i ((lgI B k (lgO B n.toNat s0 k) j).1)), some (au_i (k : Int)), some (au_i (j : Int))] [] (mi, si, hi, sl, r, nx) 0 0 := by
          intro f
          induction f with
          | zero => intro j hj hf; exfalso; omega
          | succ f ih =>
            intro j hj hf
            refine au_iload dX2_longest_21 rfl ?_
            refine au_aload_n dX2_longest_23 rfl ?_
            refine au_getf (C := RX2) (T := TX2) (N := 35) in_X2 (by decide) rfl 0 (by decide) rfl rfl q1359 rfl dX2_longest_24 (v := au_r MA) (congrArg au_q (fx_MO_0 hF)) ?_
            refine au_iconst dX2_longest_27 rfl rfl ?_
            refine au_iald dX2_longest_28 rfl (by omega) (by show _ < ((4544 : Nat) : Int); omega) (v := au_i (n)) (congrArg au_i (hN)) ?_
            refine au_icmp_ge (tgt := 65) dX2_longest_29 (by decide) (fun c29 => ?_) (fun c29 => ?_)
            · refine au_iinc dX2_longest_65 rfl (show 4 < 6 by decide) (by omega) (by omega) (by decide) (by decide) ?_
              show au_Go G _ _ 68 [some (au_r MO), some (au_i q), some (au_i ((lgI B k (lgO B n.toNat s0 k) j).2)), some (au_i ((lgI B k (lgO B n.toNat s0 k) j).1)), some (au_i ((k : Int) + 1)), some (au_i (j : Int))] [] (mi, si, hi, sl, r, nx) 0 0
              refine au_goto (tgt := 7) dX2_longest_68 (by decide) ?_
              have hjn : j = n.toNat := by omega
              have e2 : lgO B n.toNat s0 (k + 1) = (lgI B k (lgO B n.toNat s0 k) j) := by rw [hjn]; rfl
              have e3 := ihk (k + 1) (some (au_i (j : Int))) (by omega) (by omega)
              rw [e2] at e3
              exact e3
            · refine au_aload_n dX2_longest_32 rfl ?_
              refine au_iload dX2_longest_33 rfl ?_
              refine au_iload dX2_longest_35 rfl ?_
              refine au_callVp (n := 2) (kX2_stepsOf G (k : Int) (j : Int) mi si hi sl r nx hF n hN B hE hB (by omega) (by omega) (by omega) (by omega)) (lw_V q1889 q1891 qs118 q134 q1892) rfl (by decide +kernel) (by decide) (T := TX2) (N := 35) rfl rfl rfl rfl (Nat.le_of_ble_eq_true rfl) (Nat.le_of_ble_eq_true rfl) (Nat.le_of_ble_eq_true rfl) (Nat.le_of_ble_eq_true rfl) (Nat.le_of_ble_eq_true rfl) dX2_longest_37 ?_
              refine au_iload_n dX2_longest_40 rfl ?_
              refine au_icmp_gt (tgt := 47) dX2_longest_41 (by decide) (fun c41 => ?_) (fun c41 => ?_)
              · refine au_aload_n dX2_longest_47 rfl ?_
                refine au_iload dX2_longest_48 rfl ?_
                refine au_iload dX2_longest_50 rfl ?_
                refine au_callVp (n := 2) (kX2_stepsOf G (k : Int) (j : Int) mi si hi sl r nx hF n hN B hE hB (by omega) (by omega) (by omega) (by omega)) (lw_V q1889 q1891 qs118 q134 q1892) rfl (by decide +kernel) (by decide) (T := TX2) (N := 35) rfl rfl rfl rfl (Nat.le_of_ble_eq_true rfl) (Nat.le_of_ble_eq_true rfl) (Nat.le_of_ble_eq_true rfl) (Nat.le_of_ble_eq_true rfl) (Nat.le_of_ble_eq_true rfl) dX2_longest_52 ?_
                refine au_istore_n dX2_longest_55 (show 3 < 6 by decide) ?_
                show au_Go G _ _ 56 [some (au_r MO), some (au_i q), some (au_i ((lgI B k (lgO B n.toNat s0 k) j).2)), some (au_i (stepsN B (k : Int) (j : Int))), some (au_i (k : Int)), some (au_i (j : Int))] [] (mi, si, hi, sl, r, nx) 0 0
                refine au_iload dX2_longest_56 rfl ?_
                refine au_istore_n dX2_longest_58 (show 2 < 6 by decide) ?_
                show au_Go G _ _ 59 [some (au_r MO), some (au_i q), some (au_i (k : Int)), some (au_i (stepsN B (k : Int) (j : Int))), some (au_i (k : Int)), some (au_i (j : Int))] [] (mi, si, hi, sl, r, nx) 0 0
                refine au_iinc dX2_longest_59 rfl (show 5 < 6 by decide) (by omega) (by omega) (by decide) (by decide) ?_
                show au_Go G _ _ 62 [some (au_r MO), some (au_i q), some (au_i (k : Int)), some (au_i (stepsN B (k : Int) (j : Int))), some (au_i (k : Int)), some (au_i ((j : Int) + 1))] [] (mi, si, hi, sl, r, nx) 0 0
                refine au_goto (tgt := 21) dX2_longest_62 (by decide) ?_
                have e1 : ∀ z : Int × Int, z = lgI B k (lgO B n.toNat s0 k) (j + 1) → au_Go G (yX2_longest.cls, cX2_longest, 6, (some .int), au_rm 4 0 0, yX2_longest.name) (au_QM G (au_rm 4 0 0) (au_pure (au_i (if q = 0 then (if (lgO B n.toNat ((-1 : Int), (-1 : Int)) n.toNat).1 = -1 then 0 else (lgO B n.toNat ((-1 : Int), (-1 : Int)) n.toNat).1) else (lgO B n.toNat ((-1 : Int), (-1 : Int)) n.toNat).2)) (mi, si, hi, sl, r, nx))) 21 [some (au_r MO), some (au_i q), some (au_i z.2), some (au_i z.1), some (au_i (k : Int)), some (au_i ((j : Int) + 1))] [] (mi, si, hi, sl, r, nx) 0 0 := fun z hz => by rw [hz]; exact ih (j + 1) (by omega) (by omega)
                by_cases hx : (lgI B k (lgO B n.toNat s0 k) j).1 < stepsN B k j
                · first
                  | exact absurd hx (by omega)
                  | exact e1 (stepsN B k j, (k : Int)) (by simp only [lgI]; exact (if_pos hx).symm)
                · first
                  | exact absurd c41 (by omega)
                  | exact e1 (lgI B k (lgO B n.toNat s0 k) j) (by simp only [lgI]; exact (if_neg hx).symm)
              · refine au_goto (tgt := 59) dX2_longest_44 (by decide) ?_
                refine au_iinc dX2_longest_59 rfl (show 5 < 6 by decide) (by omega) (by omega) (by decide) (by decide) ?_
                show au_Go G _ _ 62 [some (au_r MO), some (au_i q), some (au_i ((lgI B k (lgO B n.toNat s0 k) j).2)), some (au_i ((lgI B k (lgO B n.toNat s0 k) j).1)), some (au_i (k : Int)), some (au_i ((j : Int) + 1))] [] (mi, si, hi, sl, r, nx) 0 0
                refine au_goto (tgt := 21) dX2_longest_62 (by decide) ?_
                have e1 : ∀ z : Int × Int, z = lgI B k (lgO B n.toNat s0 k) (j + 1) → au_Go G (yX2_longest.cls, cX2_longest, 6, (some .int), au_rm 4 0 0, yX2_longest.name) (au_QM G (au_rm 4 0 0) (au_pure (au_i (if q = 0 then (if (lgO B n.toNat ((-1 : Int), (-1 : Int)) n.toNat).1 = -1 then 0 else (lgO B n.toNat ((-1 : Int), (-1 : Int)) n.toNat).1) else (lgO B n.toNat ((-1 : Int), (-1 : Int)) n.toNat).2)) (mi, si, hi, sl, r, nx))) 21 [some (au_r MO), some (au_i q), some (au_i z.2), some (au_i z.1), some (au_i (k : Int)), some (au_i ((j : Int) + 1))] [] (mi, si, hi, sl, r, nx) 0 0 := fun z hz => by rw [hz]; exact ih (j + 1) (by omega) (by omega)
                by_cases hx : (lgI B k (lgO B n.toNat s0 k) j).1 < stepsN B k j
                · first
                  | exact absurd hx (by omega)
                  | exact e1 (stepsN B k j, (k : Int)) (by simp only [lgI]; exact (if_pos hx).symm)
                · first
                  | exact absurd c41 (by omega)
                  | exact e1 (lgI B k (lgO B n.toNat s0 k) j) (by simp only [lgI]; exact (if_neg hx).symm)
        exact hj_ 11 0 (by omega) (by omega)
  show au_Go G _ _ 0 [some (au_r MO), some (au_i q), none, none, none, none] [] (mi, si, hi, sl, r, nx) 0 0
  refine au_iconst dX2_longest_0 rfl rfl ?_
  refine au_istore_n dX2_longest_1 (show 2 < 6 by decide) ?_
  show au_Go G _ _ 2 [some (au_r MO), some (au_i q), some (au_i (-1)), none, none, none] [] (mi, si, hi, sl, r, nx) 0 0
  refine au_iconst dX2_longest_2 rfl rfl ?_
  refine au_istore_n dX2_longest_3 (show 3 < 6 by decide) ?_
  show au_Go G _ _ 4 [some (au_r MO), some (au_i q), some (au_i (-1)), some (au_i (-1)), none, none] [] (mi, si, hi, sl, r, nx) 0 0
  refine au_iconst dX2_longest_4 rfl rfl ?_
  refine au_istore dX2_longest_5 (show 4 < 6 by decide) ?_
  show au_Go G _ _ 7 [some (au_r MO), some (au_i q), some (au_i (-1)), some (au_i (-1)), some (au_i 0), none] [] (mi, si, hi, sl, r, nx) 0 0
  exact hk_ _ rfl 11 0 _ (by omega) (by omega)
theorem kX2_parts (G : au_G) (a : Int) (mi si hi sl : au_A → Int → Int) (r : au_A → Int → Option au_A) (nx : Nat) (hF : Fix r) (n : Int) (hN : mi MA 0 = n) (B : Int → Int) (hE : ∀ o, 0 ≤ o → o < 10 → mi MA (90 + o) = B o) (hB : Bs B n) : au_Ctr G yX2_parts cX2_parts 4 (some .int) 2 0 0 [au_r MO, au_i a] (mi, si, hi, sl, r, nx) (au_pure (au_i (@ite Int (0 ≤ a ∧ a < n) (Classical.propDecidable _) (ptM B n.toNat a (n - (pop (under B n.toNat a) : Int)) (max n 1).toNat) (-1))) (mi, si, hi, sl, r, nx)) := by
  refine au_of (by decide) (Nat.le_of_ble_eq_true rfl) ?_
  have hb0 := hB.2.1
  have hb1 := hB.1
  have hn : 0 ≤ n ∧ n ≤ 10 := ⟨hb1, hb0⟩
  show au_Go G _ _ 0 [some (au_r MO), some (au_i a), none, none] [] (mi, si, hi, sl, r, nx) 0 0
  have hp0 := pop_le (under B n.toNat a)
  refine au_aload_n dX2_parts_0 rfl ?_
  refine au_iload_n dX2_parts_1 rfl ?_
  refine au_callVp (n := 1) (kX2_isOfficer G a mi si hi sl r nx hF n hN hn ) (lw_V q1471 q1473 qs56 q134 q1474) rfl (by decide +kernel) (by decide) (T := TX2) (N := 35) rfl rfl rfl rfl (Nat.le_of_ble_eq_true rfl) (Nat.le_of_ble_eq_true rfl) (Nat.le_of_ble_eq_true rfl) (Nat.le_of_ble_eq_true rfl) (Nat.le_of_ble_eq_true rfl) dX2_parts_2 ?_
  refine au_if_ne (tgt := 10) dX2_parts_5 (by decide) (fun c5 => ?_) (fun c5 => ?_)
  · have c5 := au_b1 c5
    refine au_aload_n dX2_parts_10 rfl ?_
    refine au_getf (C := RX2) (T := TX2) (N := 35) in_X2 (by decide) rfl 0 (by decide) rfl rfl q1359 rfl dX2_parts_11 (v := au_r MA) (congrArg au_q (fx_MO_0 hF)) ?_
    refine au_iconst dX2_parts_14 rfl rfl ?_
    refine au_iald dX2_parts_15 rfl (by omega) (by show _ < ((4544 : Nat) : Int); omega) (v := au_i (n)) (congrArg au_i (hN)) ?_
    refine au_aload_n dX2_parts_16 rfl ?_
    refine au_iload_n dX2_parts_17 rfl ?_
    refine au_callVp (n := 1) (kX2_belowOf G a mi si hi sl r nx hF n hN B hE hB (by omega) (by omega)) (lw_V q1823 q1825 qs114 q134 q1826) rfl (by decide +kernel) (by decide) (T := TX2) (N := 35) rfl rfl rfl rfl (Nat.le_of_ble_eq_true rfl) (Nat.le_of_ble_eq_true rfl) (Nat.le_of_ble_eq_true rfl) (Nat.le_of_ble_eq_true rfl) (Nat.le_of_ble_eq_true rfl) dX2_parts_18 ?_
    refine au_callSp (n := 1) (kX2_bits G _ (by first | exact under_lt' _ (by omega) _ | assumption | omega) (mi, si, hi, sl, r, nx)) (lw_S q1942 q1943 q134 q1944) (by decide +kernel) rfl rfl rfl (Nat.le_of_ble_eq_true rfl) (Nat.le_of_ble_eq_true rfl) (Nat.le_of_ble_eq_true rfl) (Nat.le_of_ble_eq_true rfl) (Nat.le_of_ble_eq_true rfl) dX2_parts_21 ?_
    refine au_isub dX2_parts_24 (by omega) (by omega) ?_
    refine au_istore_n dX2_parts_25 (show 2 < 4 by decide) ?_
    show au_Go G _ _ 26 [some (au_r MO), some (au_i a), some (au_i (n - ((pop (under B n.toNat a) : Nat) : Int))), none] [] (mi, si, hi, sl, r, nx) 0 0
    refine au_iconst dX2_parts_26 rfl rfl ?_
    refine au_istore_n dX2_parts_27 (show 3 < 4 by decide) ?_
    show au_Go G _ _ 28 [some (au_r MO), some (au_i a), some (au_i (n - ((pop (under B n.toNat a) : Nat) : Int))), some (au_i 1)] [] (mi, si, hi, sl, r, nx) 0 0
    have hl : ∀ (f : Nat) (k : Nat), (1 ≤ k) → (k = 1 ∨ (k : Int) ≤ n) → (max (n - (k : Int)) 0) < (f : Int) → au_Go G (yX2_parts.cls, cX2_parts, 4, (some .int), au_rm 2 0 0, yX2_parts.name) (au_QM G (au_rm 2 0 0) (au_pure (au_i (@ite Int (0 ≤ a ∧ a < n) (Classical.propDecidable _) (ptM B n.toNat a (n - (pop (under B n.toNat a) : Int)) (max n 1).toNat) (-1))) (mi, si, hi, sl, r, nx))) 28 [some (au_r MO), some (au_i a), some (au_i (ptM B n.toNat a (n - (pop (under B n.toNat a) : Int)) k)), some (au_i (k : Int))] [] (mi, si, hi, sl, r, nx) 0 0 := by
      intro f
      induction f with
      | zero => intro k h0 h2 hf; exfalso; omega
      | succ f ih =>
        intro k h0 h2 hf
        refine au_iload_n dX2_parts_28 rfl ?_
        refine au_aload_n dX2_parts_29 rfl ?_
        refine au_getf (C := RX2) (T := TX2) (N := 35) in_X2 (by decide) rfl 0 (by decide) rfl rfl q1359 rfl dX2_parts_30 (v := au_r MA) (congrArg au_q (fx_MO_0 hF)) ?_
        refine au_iconst dX2_parts_33 rfl rfl ?_
        refine au_iald dX2_parts_34 rfl (by omega) (by show _ < ((4544 : Nat) : Int); omega) (v := au_i (n)) (congrArg au_i (hN)) ?_
        refine au_icmp_ge (tgt := 78) dX2_parts_35 (by decide) (fun c35 => ?_) (fun c35 => ?_)
        · refine au_iload_n dX2_parts_78 rfl ?_
          exact au_iret dX2_parts_79 rfl rfl (Nat.le_of_ble_eq_true rfl) (Nat.le_of_ble_eq_true rfl) (au_pe (by rw [if_pos (by omega), show (max n 1).toNat = k by omega]) rfl)
        · refine au_aload_n dX2_parts_38 rfl ?_
          refine au_getf (C := RX2) (T := TX2) (N := 35) in_X2 (by decide) rfl 0 (by decide) rfl rfl q1359 rfl dX2_parts_39 (v := au_r MA) (congrArg au_q (fx_MO_0 hF)) ?_
          refine au_bipush dX2_parts_42 rfl rfl ?_
          refine au_iload_n dX2_parts_44 rfl ?_
          refine au_iadd dX2_parts_45 (by omega) (by omega) ?_
          refine au_iald dX2_parts_46 rfl (by omega) (by show _ < ((4544 : Nat) : Int); omega) (v := au_i (B (k : Int))) (congrArg au_i (hE _ (by omega) (by omega))) ?_
          refine au_iload_n dX2_parts_47 rfl ?_
          refine au_icmp_ne (tgt := 72) dX2_parts_48 (by decide) (fun c48 => ?_) (fun c48 => ?_)
          · refine au_iinc dX2_parts_72 rfl (show 3 < 4 by decide) (by omega) (by omega) (by decide) (by decide) ?_
            show au_Go G _ _ 75 [some (au_r MO), some (au_i a), some (au_i (ptM B n.toNat a (n - (pop (under B n.toNat a) : Int)) k)), some (au_i ((k : Int) + 1))] [] (mi, si, hi, sl, r, nx) 0 0
            refine au_goto (tgt := 28) dX2_parts_75 (by decide) ?_
            have e1 : ∀ z : Int, z = ptM B n.toNat a (n - (pop (under B n.toNat a) : Int)) (k + 1) → au_Go G (yX2_parts.cls, cX2_parts, 4, (some .int), au_rm 2 0 0, yX2_parts.name) (au_QM G (au_rm 2 0 0) (au_pure (au_i (@ite Int (0 ≤ a ∧ a < n) (Classical.propDecidable _) (ptM B n.toNat a (n - (pop (under B n.toNat a) : Int)) (max n 1).toNat) (-1))) (mi, si, hi, sl, r, nx))) 28 [some (au_r MO), some (au_i a), some (au_i z), some (au_i ((k : Int) + 1))] [] (mi, si, hi, sl, r, nx) 0 0 := fun z hz => by rw [hz]; exact ih (k + 1) (by omega) (by omega) (by omega)
            exact e1 _ (by
              simp only [ptM, Int.toNat_natCast]
              first
              | exact (if_neg (fun z => c48 z.2.1)).symm
              | exact (if_pos ⟨by omega, c48, c60⟩).symm
              | exact (if_neg (fun z => by have := z.2.2; omega)).symm)
          · refine au_aload_n dX2_parts_51 rfl ?_
            refine au_iload_n dX2_parts_52 rfl ?_
            refine au_callVp (n := 1) (kX2_belowOf G (k : Int) mi si hi sl r nx hF n hN B hE hB (by omega) (by omega)) (lw_V q1823 q1825 qs114 q134 q1826) rfl (by decide +kernel) (by decide) (T := TX2) (N := 35) rfl rfl rfl rfl (Nat.le_of_ble_eq_true rfl) (Nat.le_of_ble_eq_true rfl) (Nat.le_of_ble_eq_true rfl) (Nat.le_of_ble_eq_true rfl) (Nat.le_of_ble_eq_true rfl) dX2_parts_53 ?_
            refine au_callSp (n := 1) (kX2_bits G _ (by first | exact under_lt' _ (by omega) _ | assumption | omega) (mi, si, hi, sl, r, nx)) (lw_S q1942 q1943 q134 q1944) (by decide +kernel) rfl rfl rfl (Nat.le_of_ble_eq_true rfl) (Nat.le_of_ble_eq_true rfl) (Nat.le_of_ble_eq_true rfl) (Nat.le_of_ble_eq_true rfl) (Nat.le_of_ble_eq_true rfl) dX2_parts_56 ?_
            refine au_iload_n dX2_parts_59 rfl ?_
            refine au_icmp_le (tgt := 72) dX2_parts_60 (by decide) (fun c60 => ?_) (fun c60 => ?_)
            · refine au_iinc dX2_parts_72 rfl (show 3 < 4 by decide) (by omega) (by omega) (by decide) (by decide) ?_
              show au_Go G _ _ 75 [some (au_r MO), some (au_i a), some (au_i (ptM B n.toNat a (n - (pop (under B n.toNat a) : Int)) k)), some (au_i ((k : Int) + 1))] [] (mi, si, hi, sl, r, nx) 0 0
              refine au_goto (tgt := 28) dX2_parts_75 (by decide) ?_
              have e1 : ∀ z : Int, z = ptM B n.toNat a (n - (pop (under B n.toNat a) : Int)) (k + 1) → au_Go G (yX2_parts.cls, cX2_parts, 4, (some .int), au_rm 2 0 0, yX2_parts.name) (au_QM G (au_rm 2 0 0) (au_pure (au_i (@ite Int (0 ≤ a ∧ a < n) (Classical.propDecidable _) (ptM B n.toNat a (n - (pop (under B n.toNat a) : Int)) (max n 1).toNat) (-1))) (mi, si, hi, sl, r, nx))) 28 [some (au_r MO), some (au_i a), some (au_i z), some (au_i ((k : Int) + 1))] [] (mi, si, hi, sl, r, nx) 0 0 := fun z hz => by rw [hz]; exact ih (k + 1) (by omega) (by omega) (by omega)
              exact e1 _ (by
                simp only [ptM, Int.toNat_natCast]
                first
                | exact (if_neg (fun z => c48 z.2.1)).symm
                | exact (if_pos ⟨by omega, c48, c60⟩).symm
                | exact (if_neg (fun z => by have := z.2.2; omega)).symm)
            · refine au_aload_n dX2_parts_63 rfl ?_
              refine au_iload_n dX2_parts_64 rfl ?_
              refine au_callVp (n := 1) (kX2_belowOf G (k : Int) mi si hi sl r nx hF n hN B hE hB (by omega) (by omega)) (lw_V q1823 q1825 qs114 q134 q1826) rfl (by decide +kernel) (by decide) (T := TX2) (N := 35) rfl rfl rfl rfl (Nat.le_of_ble_eq_true rfl) (Nat.le_of_ble_eq_true rfl) (Nat.le_of_ble_eq_true rfl) (Nat.le_of_ble_eq_true rfl) (Nat.le_of_ble_eq_true rfl) dX2_parts_65 ?_
              refine au_callSp (n := 1) (kX2_bits G _ (by first | exact under_lt' _ (by omega) _ | assumption | omega) (mi, si, hi, sl, r, nx)) (lw_S q1942 q1943 q134 q1944) (by decide +kernel) rfl rfl rfl (Nat.le_of_ble_eq_true rfl) (Nat.le_of_ble_eq_true rfl) (Nat.le_of_ble_eq_true rfl) (Nat.le_of_ble_eq_true rfl) (Nat.le_of_ble_eq_true rfl) dX2_parts_68 ?_
              refine au_istore_n dX2_parts_71 (show 2 < 4 by decide) ?_
              show au_Go G _ _ 72 [some (au_r MO), some (au_i a), some (au_i ((pop (under B n.toNat (k : Int)) : Nat) : Int)), some (au_i (k : Int))] [] (mi, si, hi, sl, r, nx) 0 0
              refine au_iinc dX2_parts_72 rfl (show 3 < 4 by decide) (by omega) (by omega) (by decide) (by decide) ?_
              show au_Go G _ _ 75 [some (au_r MO), some (au_i a), some (au_i ((pop (under B n.toNat (k : Int)) : Nat) : Int)), some (au_i ((k : Int) + 1))] [] (mi, si, hi, sl, r, nx) 0 0
              refine au_goto (tgt := 28) dX2_parts_75 (by decide) ?_
              have e1 : ∀ z : Int, z = ptM B n.toNat a (n - (pop (under B n.toNat a) : Int)) (k + 1) → au_Go G (yX2_parts.cls, cX2_parts, 4, (some .int), au_rm 2 0 0, yX2_parts.name) (au_QM G (au_rm 2 0 0) (au_pure (au_i (@ite Int (0 ≤ a ∧ a < n) (Classical.propDecidable _) (ptM B n.toNat a (n - (pop (under B n.toNat a) : Int)) (max n 1).toNat) (-1))) (mi, si, hi, sl, r, nx))) 28 [some (au_r MO), some (au_i a), some (au_i z), some (au_i ((k : Int) + 1))] [] (mi, si, hi, sl, r, nx) 0 0 := fun z hz => by rw [hz]; exact ih (k + 1) (by omega) (by omega) (by omega)
              exact e1 _ (by
                simp only [ptM, Int.toNat_natCast]
                first
                | exact (if_neg (fun z => c48 z.2.1)).symm
                | exact (if_pos ⟨by omega, c48, c60⟩).symm
                | exact (if_neg (fun z => by have := z.2.2; omega)).symm)
    have h0_ := hl 11 1 (by omega) (by omega) (by omega)
    rw [ptM_1] at h0_
    exact h0_
  · have c5 := au_b0 c5
    refine au_iconst dX2_parts_8 rfl rfl ?_
    exact au_iret dX2_parts_9 rfl rfl (Nat.le_of_ble_eq_true rfl) (Nat.le_of_ble_eq_true rfl) (au_pe (by rw [if_neg (by omega)]) rfl)
