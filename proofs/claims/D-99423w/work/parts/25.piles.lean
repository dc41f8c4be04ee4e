/-! PILES, of both systems (printed by tools/m25.py) -/
set_option maxRecDepth 100000
set_option maxHeartbeats 4000000

noncomputable def cntF (Pi : Int → Int) (pn : Nat) (t : Int) : Nat → Int
  | 0 => 0
  | S + 1 => cntF Pi pn t S + @ite Int (wsum Pi (S : Int) pn = t) (Classical.propDecidable _) 1 0
noncomputable def wcF (Pi : Int → Int) (pn : Nat) (t k : Int) : Nat → Int
  | 0 => 0
  | S + 1 => wcF Pi pn t k S + @ite Int (wsum Pi (S : Int) pn = t ∧ hs (S : Int) k) (Classical.propDecidable _) 1 0
theorem cntF_bd (Pi : Int → Int) (pn : Nat) (t : Int) : ∀ S : Nat, 0 ≤ cntF Pi pn t S ∧ cntF Pi pn t S ≤ S := by
  intro S
  induction S with
  | zero => simp [cntF]
  | succ S ih => simp only [cntF]; split <;> omega
theorem wcF_bd (Pi : Int → Int) (pn : Nat) (t k : Int) : ∀ S : Nat, 0 ≤ wcF Pi pn t k S ∧ wcF Pi pn t k S ≤ cntF Pi pn t S := by
  intro S
  induction S with
  | zero => simp [cntF, wcF]
  | succ S ih =>
    simp only [cntF, wcF]
    by_cases h : wsum Pi (S : Int) pn = t
    · rw [if_pos h]
      split <;> omega
    · rw [if_neg h, if_neg (fun q => h q.1)]
      omega
theorem hs_val {S k : Nat} (hS : S < 1024) (hk : k < 32) : au_and (au_shr (S : Int) (k : Int)) 1 = @ite Int (hs (S : Int) (k : Int)) (Classical.propDecidable _) 1 0 := by
  have h1 := Nat.div_le_self S (2 ^ k)
  have h2 : au_and (au_shr (S : Int) (k : Int)) 1 = ((S / 2 ^ k % 2 : Nat) : Int) := by
    rw [au_shr_nat hk (by omega), show (1 : Int) = ((1 : Nat) : Int) from rfl, au_and_nat _ _ (by omega), Nat.and_one_is_mod]
  unfold hs
  rw [h2]
  split <;> omega
theorem hs_big {S k : Nat} {pn : Nat} (hS : S < 2 ^ pn) (hk : pn ≤ k) (hk2 : k < 32) (hS2 : S < 1024) : ¬ hs (S : Int) (k : Int) := by
  unfold hs
  rw [au_has_nat hk2 (by omega)]
  intro h
  have := Nat.testBit_lt_two_pow (Nat.lt_of_lt_of_le hS (Nat.pow_le_pow_right (by decide) hk))
  rw [this] at h
  cases h

theorem kJ0_fill (G : au_G) (a : au_A) (v : Int) (mi si hi sl : au_A → Int → Int) (r : au_A → Int → Option au_A) (nx : Nat) (ha : a.2.2 = 40) (hn : a.2.1 < 10000) (hreg : ∀ j, au_reg a j = 1) (hnew : 1000 ≤ a.1) : au_Ctr G yJ0_fill cJ0_fill 4 none 0 0 0 [au_r a, au_i v] (mi, si, hi, sl, r, nx) (fun rv M' => rv = none ∧ M' = (mi, au_fil si a (a.2.1 : Int) v, hi, sl, r, nx)) := by
  refine au_of (by decide) (Nat.le_of_ble_eq_true rfl) ?_
  show au_Go G _ _ 0 [some (au_r a), some (au_i v), none, none] [] (mi, si, hi, sl, r, nx) 0 0
  refine au_iconst dJ0_fill_0 rfl rfl ?_
  refine au_istore_n dJ0_fill_1 (show 2 < 4 by decide) ?_
  show au_Go G _ _ 2 [some (au_r a), some (au_i v), some (au_i 0), none] [] (mi, si, hi, sl, r, nx) 0 0
  refine au_aload_n dJ0_fill_2 rfl ?_
  refine au_alen dJ0_fill_3 (by omega) (by omega) (by omega) ?_
  show au_Go G _ _ 4 [some (au_r a), some (au_i v), some (au_i 0), none] [au_i (a.2.1 : Int)] (mi, si, hi, sl, r, nx) 0 0
  refine au_istore_n dJ0_fill_4 (show 3 < 4 by decide) ?_
  show au_Go G _ _ 5 [some (au_r a), some (au_i v), some (au_i 0), some (au_i (a.2.1 : Int))] [] (mi, si, hi, sl, r, nx) 0 0
  have hl : ∀ (f : Nat) (k : Nat), ((k : Int) ≤ (a.2.1 : Int)) → ((a.2.1 : Int) - (k : Int)) < (f : Int) → au_Go G (yJ0_fill.cls, cJ0_fill, 4, none, au_rm 0 0 0, yJ0_fill.name) (au_QM G (au_rm 0 0 0) (fun rv M' => rv = none ∧ M' = (mi, au_fil si a (a.2.1 : Int) v, hi, sl, r, nx))) 5 [some (au_r a), some (au_i v), some (au_i (k : Int)), some (au_i (a.2.1 : Int))] [] (mi, au_fil si a (k : Int) v, hi, sl, r, nx) 0 0 := by
    intro f
    induction f with
    | zero => intro k h1 hf; exfalso; omega
    | succ f ih =>
      intro k h1 hf
      refine au_iload_n dJ0_fill_5 rfl ?_
      refine au_iload_n dJ0_fill_6 rfl ?_
      refine au_icmp_ge (tgt := 20) dJ0_fill_7 (by decide) (fun c7 => ?_) (fun c7 => ?_)
      · exact au_vret dJ0_fill_20 rfl rfl (Nat.le_of_ble_eq_true rfl) (Nat.le_of_ble_eq_true rfl) (⟨rfl, by rw [show (k : Int) = (a.2.1 : Int) by omega]⟩)
      · refine au_aload_n dJ0_fill_10 rfl ?_
        refine au_iload_n dJ0_fill_11 rfl ?_
        refine au_iload_n dJ0_fill_12 rfl ?_
        refine au_iast dJ0_fill_13 ha hnew (by omega) (by omega) (M' := (mi, (au_up (au_fil si a (k : Int) v) a (k : Int) v), hi, sl, r, nx)) (au_wv_s (hreg _)) ?_
        refine au_iinc dJ0_fill_14 rfl (show 2 < 4 by decide) (by omega) (by omega) (by decide) (by decide) ?_
        show au_Go G _ _ 17 [some (au_r a), some (au_i v), some (au_i ((k : Int) + 1)), some (au_i (a.2.1 : Int))] [] (mi, (au_up (au_fil si a (k : Int) v) a (k : Int) v), hi, sl, r, nx) 0 0
        refine au_goto (tgt := 5) dJ0_fill_17 (by decide) ?_
        rw [au_fil_s si a (by omega) v]
        exact ih (k + 1) (by omega) (by omega)
  have h0_ := hl 10001 0 (by omega) (by omega)
  rw [show ((0 : Nat) : Int) = 0 from rfl, au_fil_0] at h0_
  exact h0_
theorem kX0_laysPiles (G : au_G) (t : Int) (mi si hi sl : au_A → Int → Int) (r : au_A → Int → Option au_A) (nx : Nat) (hF : Fix r) (pn : Int) (hPn : mi XNn 4 = pn) (hpn : 0 ≤ pn ∧ pn ≤ 8) (Pi : Int → Int) (hPi : ∀ o, 0 ≤ o → o < 8 → mi XNpile o = Pi o) : au_Ctr G yX0_laysPiles cX0_laysPiles 5 none 1 0 0 [au_r XO, au_i t] (mi, si, hi, sl, r, nx) (fun rv M' => rv = none ∧ ∃ sj : au_A → Int → Int, M' = (mi, sj, hi, sl, r, nx) ∧ sj XO 14 = cntF Pi pn.toNat t (2 ^ pn.toNat) ∧ ∀ q : Nat, q < 8 → sj XWith (q : Int) = wcF Pi pn.toNat t (q : Int) (2 ^ pn.toNat)) := by
  refine au_of (by decide) (Nat.le_of_ble_eq_true rfl) ?_
  obtain ⟨N, hN2, hN0, hN1, hNe⟩ := au_shl_int hpn.1 (by omega : pn ≤ 10)
  have hN3 : N ≤ 256 := by rw [hN2]; exact Nat.pow_le_pow_right (n := 2) (i := pn.toNat) (j := 8) (by decide) (by omega)
  show au_Go G _ _ 0 [some (au_r XO), some (au_i t), none, none, none] [] (mi, si, hi, sl, r, nx) 0 0
  refine au_aload_n dX0_laysPiles_0 rfl ?_
  refine au_getf (C := RX0) (T := TX0) (N := 15) in_X0 (by decide) rfl 13 (by decide) rfl rfl q258 rfl dX0_laysPiles_1 (v := au_r XWith) (congrArg au_q (fx_XO_13 hF)) ?_
  refine au_iconst dX0_laysPiles_4 rfl rfl ?_
  refine au_callS (n := 2) (kJ0_fill G XWith 0 mi si hi sl r nx rfl (by decide) (fun _ => rfl) (by decide)) (lw_S q1232 q184 q132 q185) (by decide +kernel) rfl rfl rfl (Nat.le_of_ble_eq_true rfl) (Nat.le_of_ble_eq_true rfl) (Nat.le_of_ble_eq_true rfl) (Nat.le_of_ble_eq_true rfl) (Nat.le_of_ble_eq_true rfl) dX0_laysPiles_5 (fun rv_ M_ hp_ => ?_)
  obtain ⟨rfl, rfl⟩ := hp_
  show au_Go G _ _ 8 [some (au_r XO), some (au_i t), none, none, none] [] (mi, (au_fil si XWith 8 0), hi, sl, r, nx) 0 0
  refine au_aload_n dX0_laysPiles_8 rfl ?_
  refine au_iconst dX0_laysPiles_9 rfl rfl ?_
  refine au_putf (a := XO) (C := RX0) (T := TX0) (N := 15) in_X0 tyX0_ok nmX0 (by decide) rfl 14 (by decide) rfl (by decide) rfl q259 rfl rfl trivial (fun _ _ _ h => au_nf_i h) dX0_laysPiles_10 (M' := (mi, (au_up (au_fil si XWith 8 0) XO 14 0), hi, sl, r, nx)) (by rfl) ?_
  refine au_iconst dX0_laysPiles_13 rfl rfl ?_
  refine au_istore_n dX0_laysPiles_14 (show 2 < 5 by decide) ?_
  show au_Go G _ _ 15 [some (au_r XO), some (au_i t), some (au_i 0), none, none] [] (mi, (au_up (au_fil si XWith 8 0) XO 14 0), hi, sl, r, nx) 0 0
  have hS_ : ∀ (f : Nat) (S : Nat) (sj : au_A → Int → Int) (a3 a4 : Option au_V), (S ≤ N) → (sj XO 14 = cntF Pi pn.toNat t S) → (∀ q : Nat, q < 8 → sj XWith (q : Int) = wcF Pi pn.toNat t (q : Int) S) → (N : Int) - (S : Int) < (f : Int) → au_Go G (yX0_laysPiles.cls, cX0_laysPiles, 5, none, au_rm 1 0 0, yX0_laysPiles.name) (au_QM G (au_rm 1 0 0) (fun rv M' => rv = none ∧ ∃ sj : au_A → Int → Int, M' = (mi, sj, hi, sl, r, nx) ∧ sj XO 14 = cntF Pi pn.toNat t (2 ^ pn.toNat) ∧ ∀ q : Nat, q < 8 → sj XWith (q : Int) = wcF Pi pn.toNat t (q : Int) (2 ^ pn.toNat))) 15 [some (au_r XO), some (au_i t), some (au_i (S : Int)), a3, a4] [] (mi, sj, hi, sl, r, nx) 0 0 := by
    intro f
    induction f with
    | zero => intro S sj a3 a4 h2 hA hW hf; exfalso; omega
    | succ f ihS =>
      intro S sj a3 a4 h2 hA hW hf
      refine au_iload_n dX0_laysPiles_15 rfl ?_
      refine au_iconst dX0_laysPiles_16 rfl rfl ?_
      refine au_aload_n dX0_laysPiles_17 rfl ?_
      refine au_getf (C := RX0) (T := TX0) (N := 15) in_X0 (by decide) rfl 0 (by decide) rfl rfl q245 rfl dX0_laysPiles_18 (v := au_r XN) (congrArg au_q (fx_XO_0 hF)) ?_
      refine au_getN (C := RX1) (T := TX1) (N := 11) in_X1 (by decide) rfl 0 (by decide) rfl rfl q187 rfl dX0_laysPiles_21 (v := au_r XNn) (congrArg au_q (fx_XN_0 hF)) ?_
      refine au_iconst dX0_laysPiles_24 rfl rfl ?_
      refine au_iald dX0_laysPiles_25 rfl (by omega) (by show _ < ((6 : Nat) : Int); omega) (v := au_i (pn)) (congrArg au_i (hPn)) ?_
      refine au_ishl dX0_laysPiles_26 ?_
      refine au_icmp_ge (tgt := 144) dX0_laysPiles_27 (by decide) (fun c27 => ?_) (fun c27 => ?_)
      · rw [hNe] at c27
        exact au_vret dX0_laysPiles_144 rfl rfl (Nat.le_of_ble_eq_true rfl) (Nat.le_of_ble_eq_true rfl) (⟨rfl, sj, rfl, by rw [hA, show S = (2 ^ pn.toNat) by omega], fun q hq => by rw [hW q hq, show S = (2 ^ pn.toNat) by omega]⟩)
      · rw [hNe] at c27
        refine au_iconst dX0_laysPiles_30 rfl rfl ?_
        refine au_istore_n dX0_laysPiles_31 (show 3 < 5 by decide) ?_
        show au_Go G _ _ 32 [some (au_r XO), some (au_i t), some (au_i (S : Int)), some (au_i 0), a4] [] (mi, sj, hi, sl, r, nx) 0 0
        refine au_iconst dX0_laysPiles_32 rfl rfl ?_
        refine au_istore dX0_laysPiles_33 (show 4 < 5 by decide) ?_
        show au_Go G _ _ 35 [some (au_r XO), some (au_i t), some (au_i (S : Int)), some (au_i 0), some (au_i 0)] [] (mi, sj, hi, sl, r, nx) 0 0
        have h2_ : ∀ (f : Nat) (k : Nat), ((k : Int) ≤ pn) → (pn - (k : Int)) < (f : Int) → au_Go G (yX0_laysPiles.cls, cX0_laysPiles, 5, none, au_rm 1 0 0, yX0_laysPiles.name) (au_QM G (au_rm 1 0 0) (fun rv M' => rv = none ∧ ∃ sj : au_A → Int → Int, M' = (mi, sj, hi, sl, r, nx) ∧ sj XO 14 = cntF Pi pn.toNat t (2 ^ pn.toNat) ∧ ∀ q : Nat, q < 8 → sj XWith (q : Int) = wcF Pi pn.toNat t (q : Int) (2 ^ pn.toNat))) 35 [some (au_r XO), some (au_i t), some (au_i (S : Int)), some (au_i (wsum Pi S k)), some (au_i (k : Int))] [] (mi, sj, hi, sl, r, nx) 0 0 := by
          intro f
          induction f with
          | zero => intro k hk hf; exfalso; omega
          | succ f ih =>
            intro k hk hf
            refine au_iload dX0_laysPiles_35 rfl ?_
            refine au_aload_n dX0_laysPiles_37 rfl ?_
            refine au_getf (C := RX0) (T := TX0) (N := 15) in_X0 (by decide) rfl 0 (by decide) rfl rfl q245 rfl dX0_laysPiles_38 (v := au_r XN) (congrArg au_q (fx_XO_0 hF)) ?_
            refine au_getN (C := RX1) (T := TX1) (N := 11) in_X1 (by decide) rfl 0 (by decide) rfl rfl q187 rfl dX0_laysPiles_41 (v := au_r XNn) (congrArg au_q (fx_XN_0 hF)) ?_
            refine au_iconst dX0_laysPiles_44 rfl rfl ?_
            refine au_iald dX0_laysPiles_45 rfl (by omega) (by show _ < ((6 : Nat) : Int); omega) (v := au_i (pn)) (congrArg au_i (hPn)) ?_
            refine au_icmp_ge (tgt := 81) dX0_laysPiles_46 (by decide) (fun c46 => ?_) (fun c46 => ?_)
            · have hkn : pn.toNat = k := by omega
              refine au_iload_n dX0_laysPiles_81 rfl ?_
              refine au_iload_n dX0_laysPiles_82 rfl ?_
              refine au_icmp_eq (tgt := 89) dX0_laysPiles_83 (by decide) (fun c83 => ?_) (fun c83 => ?_)
              · have hcb := cntF_bd Pi pn.toNat t S
                have hsum : wsum Pi (S : Int) pn.toNat = t := by rw [hkn]; exact c83
                refine au_aload_n dX0_laysPiles_89 rfl ?_
                refine au_dup dX0_laysPiles_90 rfl ?_
                refine au_getf (C := RX0) (T := TX0) (N := 15) in_X0 (by decide) rfl 14 (by decide) rfl rfl q259 rfl dX0_laysPiles_91 (v := au_i (sj XO 14)) (by rfl) ?_
                refine au_iconst dX0_laysPiles_94 rfl rfl ?_
                refine au_iadd dX0_laysPiles_95 (by omega) (by omega) ?_
                refine au_putf (a := XO) (C := RX0) (T := TX0) (N := 15) in_X0 tyX0_ok nmX0 (by decide) rfl 14 (by decide) rfl (by decide) rfl q259 rfl rfl trivial (fun _ _ _ h => au_nf_i h) dX0_laysPiles_96 (M' := (mi, (au_up sj XO 14 ((sj XO 14) + 1)), hi, sl, r, nx)) (by rfl) ?_
                refine au_iconst dX0_laysPiles_99 rfl rfl ?_
                refine au_istore dX0_laysPiles_100 (show 4 < 5 by decide) ?_
                show au_Go G _ _ 102 [some (au_r XO), some (au_i t), some (au_i (S : Int)), some (au_i (wsum Pi S k)), some (au_i 0)] [] (mi, (au_up sj XO 14 ((sj XO 14) + 1)), hi, sl, r, nx) 0 0
                have hA1 : au_up sj XO 14 (sj XO 14 + 1) XO 14 = cntF Pi pn.toNat t (S + 1) := by
                  rw [au_up_self, hA]; simp only [cntF]; rw [if_pos hsum]
                have hW1 : ∀ q : Nat, q < 8 → au_up sj XO 14 (sj XO 14 + 1) XWith (q : Int) = if q < 0 then wcF Pi pn.toNat t (q : Int) (S + 1) else wcF Pi pn.toNat t (q : Int) S := by
                  intro q hq
                  rw [if_neg (by omega)]
                  exact hW q hq
                rw [← hkn]
                have h3_ : ∀ (f : Nat) (k : Nat) (sj : au_A → Int → Int), ((k : Int) ≤ pn) → (sj XO 14 = cntF Pi pn.toNat t (S + 1)) → (∀ q : Nat, q < 8 → sj XWith (q : Int) = if q < k then wcF Pi pn.toNat t (q : Int) (S + 1) else wcF Pi pn.toNat t (q : Int) S) → (pn - (k : Int)) < (f : Int) → au_Go G (yX0_laysPiles.cls, cX0_laysPiles, 5, none, au_rm 1 0 0, yX0_laysPiles.name) (au_QM G (au_rm 1 0 0) (fun rv M' => rv = none ∧ ∃ sj : au_A → Int → Int, M' = (mi, sj, hi, sl, r, nx) ∧ sj XO 14 = cntF Pi pn.toNat t (2 ^ pn.toNat) ∧ ∀ q : Nat, q < 8 → sj XWith (q : Int) = wcF Pi pn.toNat t (q : Int) (2 ^ pn.toNat))) 102 [some (au_r XO), some (au_i t), some (au_i (S : Int)), some (au_i (wsum Pi S pn.toNat)), some (au_i (k : Int))] [] (mi, sj, hi, sl, r, nx) 0 0 := by
                  intro f
                  induction f with
                  | zero => intro k sj hk hA hW hf; exfalso; omega
                  | succ f ih =>
                    intro k sj hk hA hW hf
                    refine au_iload dX0_laysPiles_102 rfl ?_
                    refine au_aload_n dX0_laysPiles_104 rfl ?_
                    refine au_getf (C := RX0) (T := TX0) (N := 15) in_X0 (by decide) rfl 0 (by decide) rfl rfl q245 rfl dX0_laysPiles_105 (v := au_r XN) (congrArg au_q (fx_XO_0 hF)) ?_
                    refine au_getN (C := RX1) (T := TX1) (N := 11) in_X1 (by decide) rfl 0 (by decide) rfl rfl q187 rfl dX0_laysPiles_108 (v := au_r XNn) (congrArg au_q (fx_XN_0 hF)) ?_
                    refine au_iconst dX0_laysPiles_111 rfl rfl ?_
                    refine au_iald dX0_laysPiles_112 rfl (by omega) (by show _ < ((6 : Nat) : Int); omega) (v := au_i (pn)) (congrArg au_i (hPn)) ?_
                    refine au_icmp_ge (tgt := 138) dX0_laysPiles_113 (by decide) (fun c113 => ?_) (fun c113 => ?_)
                    · have hWn : ∀ q : Nat, q < 8 → sj XWith (q : Int) = wcF Pi pn.toNat t (q : Int) (S + 1) := by
                        intro q hq
                        rw [hW q hq]
                        by_cases hz : q < k
                        · rw [if_pos hz]
                        · rw [if_neg hz]
                          simp only [wcF]
                          rw [if_neg (fun y => hs_big (S := S) (k := q) (pn := pn.toNat) (by omega) (by omega) (by omega) (by omega) y.2)]
                          omega
                      refine au_iinc dX0_laysPiles_138 rfl (show 2 < 5 by decide) (by omega) (by omega) (by decide) (by decide) ?_
                      show au_Go G _ _ 141 [some (au_r XO), some (au_i t), some (au_i ((S : Int) + 1)), some (au_i (wsum Pi S pn.toNat)), some (au_i (k : Int))] [] (mi, sj, hi, sl, r, nx) 0 0
                      refine au_goto (tgt := 15) dX0_laysPiles_141 (by decide) ?_
                      exact ihS (S + 1) _ _ _ (by omega) hA hWn (by omega)
                    · have hwk := hW k (by omega)
                      rw [if_neg (by omega)] at hwk
                      have hwb := wcF_bd Pi pn.toNat t (k : Int) S
                      have hcb := cntF_bd Pi pn.toNat t S
                      have hsv := hs_val (S := S) (k := k) (by omega) (by omega)
                      have hsb : 0 ≤ au_and (au_shr (S : Int) (k : Int)) 1 ∧ au_and (au_shr (S : Int) (k : Int)) 1 ≤ 1 := by rw [hsv]; split <;> omega
                      refine au_aload_n dX0_laysPiles_116 rfl ?_
                      refine au_getf (C := RX0) (T := TX0) (N := 15) in_X0 (by decide) rfl 13 (by decide) rfl rfl q258 rfl dX0_laysPiles_117 (v := au_r XWith) (congrArg au_q (fx_XO_13 hF)) ?_
                      refine au_iload dX0_laysPiles_120 rfl ?_
                      refine au_dup2 dX0_laysPiles_122 rfl rfl ?_
                      refine au_iald dX0_laysPiles_123 rfl (by omega) (by show _ < ((8 : Nat) : Int); omega) (v := au_i (sj XWith (k : Int))) (by rfl) ?_
                      refine au_iload_n dX0_laysPiles_124 rfl ?_
                      refine au_iload dX0_laysPiles_125 rfl ?_
                      refine au_ishr dX0_laysPiles_127 ?_
                      refine au_iconst dX0_laysPiles_128 rfl rfl ?_
                      refine au_iand dX0_laysPiles_129 ?_
                      refine au_iadd dX0_laysPiles_130 (by omega) (by omega) ?_
                      refine au_iast dX0_laysPiles_131 rfl (by decide) (by omega) (by show _ < ((8 : Nat) : Int); omega) (M' := (mi, (au_up sj XWith (k : Int) ((sj XWith (k : Int)) + (au_and (au_shr (S : Int) (k : Int)) 1))), hi, sl, r, nx)) (by rfl) ?_
                      refine au_iinc dX0_laysPiles_132 rfl (show 4 < 5 by decide) (by omega) (by omega) (by decide) (by decide) ?_
                      show au_Go G _ _ 135 [some (au_r XO), some (au_i t), some (au_i (S : Int)), some (au_i (wsum Pi S pn.toNat)), some (au_i ((k : Int) + 1))] [] (mi, (au_up sj XWith (k : Int) ((sj XWith (k : Int)) + (au_and (au_shr (S : Int) (k : Int)) 1))), hi, sl, r, nx) 0 0
                      refine au_goto (tgt := 102) dX0_laysPiles_135 (by decide) ?_
                      refine ih (k + 1) _ (by omega) hA (fun q hq => ?_) (by omega)
                      rw [au_up_at]
                      by_cases hqk : q = k
                      · subst hqk
                        rw [if_pos ⟨rfl, rfl⟩, if_pos (by omega), hwk, hs_val (by omega) (by omega)]
                        simp only [wcF]
                        by_cases hz : hs (S : Int) (q : Int)
                        · rw [if_pos hz, if_pos ⟨hsum, hz⟩]
                        · rw [if_neg hz, if_neg (fun y => hz y.2)]
                      · rw [if_neg (fun y => hqk (by omega)), hW q hq]
                        by_cases hz : q < k
                        · rw [if_pos hz, if_pos (by omega)]
                        · rw [if_neg hz, if_neg (by omega)]
                exact h3_ 11 0 _ (by omega) hA1 hW1 (by omega)
              · refine au_goto (tgt := 138) dX0_laysPiles_86 (by decide) ?_
                have hns : ¬ wsum Pi (S : Int) pn.toNat = t := by rw [hkn]; exact c83
                have hA2 : sj XO 14 = cntF Pi pn.toNat t (S + 1) := by rw [hA]; simp only [cntF]; rw [if_neg hns]; omega
                have hW2 : ∀ q : Nat, q < 8 → sj XWith (q : Int) = wcF Pi pn.toNat t (q : Int) (S + 1) := by
                  intro q hq
                  rw [hW q hq]
                  simp only [wcF]
                  rw [if_neg (fun y => hns y.1)]
                  omega
                refine au_iinc dX0_laysPiles_138 rfl (show 2 < 5 by decide) (by omega) (by omega) (by decide) (by decide) ?_
                show au_Go G _ _ 141 [some (au_r XO), some (au_i t), some (au_i ((S : Int) + 1)), some (au_i (wsum Pi S k)), some (au_i (k : Int))] [] (mi, sj, hi, sl, r, nx) 0 0
                refine au_goto (tgt := 15) dX0_laysPiles_141 (by decide) ?_
                exact ihS (S + 1) _ _ _ (by omega) hA2 hW2 (by omega)
            · refine au_iload_n dX0_laysPiles_49 rfl ?_
              refine au_iload_n dX0_laysPiles_50 rfl ?_
              refine au_iload dX0_laysPiles_51 rfl ?_
              refine au_callSp (n := 2) (kX0_has G (S : Int) (k : Int) (mi, sj, hi, sl, r, nx)) (lw_S q307 q308 q130 q309) (by decide +kernel) rfl rfl rfl (Nat.le_of_ble_eq_true rfl) (Nat.le_of_ble_eq_true rfl) (Nat.le_of_ble_eq_true rfl) (Nat.le_of_ble_eq_true rfl) (Nat.le_of_ble_eq_true rfl) dX0_laysPiles_53 ?_
              refine au_if_eq (tgt := 72) dX0_laysPiles_56 (by decide) (fun c56 => ?_) (fun c56 => ?_)
              · have c56 := au_b0 c56
                refine au_iconst dX0_laysPiles_72 rfl rfl ?_
                refine au_iaddW dX0_laysPiles_73 ?_
                refine au_istore_n dX0_laysPiles_74 (show 3 < 5 by decide) ?_
                show au_Go G _ _ 75 [some (au_r XO), some (au_i t), some (au_i (S : Int)), some (au_i (au_w ((wsum Pi S k) + 0))), some (au_i (k : Int))] [] (mi, sj, hi, sl, r, nx) 0 0
                refine au_iinc dX0_laysPiles_75 rfl (show 4 < 5 by decide) (by omega) (by omega) (by decide) (by decide) ?_
                show au_Go G _ _ 78 [some (au_r XO), some (au_i t), some (au_i (S : Int)), some (au_i (au_w ((wsum Pi S k) + 0))), some (au_i ((k : Int) + 1))] [] (mi, sj, hi, sl, r, nx) 0 0
                refine au_goto (tgt := 35) dX0_laysPiles_78 (by decide) ?_
                have e1 : ∀ z : Int, z = wsum Pi S (k + 1) → au_Go G (yX0_laysPiles.cls, cX0_laysPiles, 5, none, au_rm 1 0 0, yX0_laysPiles.name) (au_QM G (au_rm 1 0 0) (fun rv M' => rv = none ∧ ∃ sj : au_A → Int → Int, M' = (mi, sj, hi, sl, r, nx) ∧ sj XO 14 = cntF Pi pn.toNat t (2 ^ pn.toNat) ∧ ∀ q : Nat, q < 8 → sj XWith (q : Int) = wcF Pi pn.toNat t (q : Int) (2 ^ pn.toNat))) 35 [some (au_r XO), some (au_i t), some (au_i (S : Int)), some (au_i z), some (au_i ((k : Int) + 1))] [] (mi, sj, hi, sl, r, nx) 0 0 := fun z hz => by rw [hz]; exact ih (k + 1) (by omega) (by omega)
                exact e1 _ (by simp only [wsum]; first | rw [if_pos c56] | rw [if_neg c56])
              · have c56 := au_b1 c56
                refine au_aload_n dX0_laysPiles_59 rfl ?_
                refine au_getf (C := RX0) (T := TX0) (N := 15) in_X0 (by decide) rfl 0 (by decide) rfl rfl q245 rfl dX0_laysPiles_60 (v := au_r XN) (congrArg au_q (fx_XO_0 hF)) ?_
                refine au_getN (C := RX1) (T := TX1) (N := 11) in_X1 (by decide) rfl 6 (by decide) rfl rfl q199 rfl dX0_laysPiles_63 (v := au_r XNpile) (congrArg au_q (fx_XN_6 hF)) ?_
                refine au_iload dX0_laysPiles_66 rfl ?_
                refine au_iald dX0_laysPiles_68 rfl (by omega) (by show _ < ((8 : Nat) : Int); omega) (v := au_i (Pi (k : Int))) (congrArg au_i (hPi _ (by omega) (by omega))) ?_
                refine au_goto (tgt := 73) dX0_laysPiles_69 (by decide) ?_
                refine au_iaddW dX0_laysPiles_73 ?_
                refine au_istore_n dX0_laysPiles_74 (show 3 < 5 by decide) ?_
                show au_Go G _ _ 75 [some (au_r XO), some (au_i t), some (au_i (S : Int)), some (au_i (au_w ((wsum Pi S k) + (Pi (k : Int))))), some (au_i (k : Int))] [] (mi, sj, hi, sl, r, nx) 0 0
                refine au_iinc dX0_laysPiles_75 rfl (show 4 < 5 by decide) (by omega) (by omega) (by decide) (by decide) ?_
                show au_Go G _ _ 78 [some (au_r XO), some (au_i t), some (au_i (S : Int)), some (au_i (au_w ((wsum Pi S k) + (Pi (k : Int))))), some (au_i ((k : Int) + 1))] [] (mi, sj, hi, sl, r, nx) 0 0
                refine au_goto (tgt := 35) dX0_laysPiles_78 (by decide) ?_
                have e1 : ∀ z : Int, z = wsum Pi S (k + 1) → au_Go G (yX0_laysPiles.cls, cX0_laysPiles, 5, none, au_rm 1 0 0, yX0_laysPiles.name) (au_QM G (au_rm 1 0 0) (fun rv M' => rv = none ∧ ∃ sj : au_A → Int → Int, M' = (mi, sj, hi, sl, r, nx) ∧ sj XO 14 = cntF Pi pn.toNat t (2 ^ pn.toNat) ∧ ∀ q : Nat, q < 8 → sj XWith (q : Int) = wcF Pi pn.toNat t (q : Int) (2 ^ pn.toNat))) 35 [some (au_r XO), some (au_i t), some (au_i (S : Int)), some (au_i z), some (au_i ((k : Int) + 1))] [] (mi, sj, hi, sl, r, nx) 0 0 := fun z hz => by rw [hz]; exact ih (k + 1) (by omega) (by omega)
                exact e1 _ (by simp only [wsum]; first | rw [if_pos c56] | rw [if_neg c56])
        exact h2_ 11 0 (by omega) (by omega)
  exact hS_ 257 0 _ _ _ (by omega) rfl (fun q hq => by show au_fil si XWith 8 0 XWith (q : Int) = 0; unfold au_fil; rw [if_pos ⟨rfl, by omega, by omega⟩]) (by omega)
theorem kX2_laySets (G : au_G) (t : Int) (mi si hi sl : au_A → Int → Int) (r : au_A → Int → Option au_A) (nx : Nat) (hF : Fix r) (pn : Int) (hPn : mi MA 4 = pn) (hpn : 0 ≤ pn ∧ pn ≤ 8) (Pi : Int → Int) (hPi : ∀ o, 0 ≤ o → o < 8 → mi MA (120 + o) = Pi o) : au_Ctr G yX2_laySets cX2_laySets 5 none 1 0 0 [au_r MO, au_i t] (mi, si, hi, sl, r, nx) (fun rv M' => rv = none ∧ ∃ sj : au_A → Int → Int, M' = (mi, sj, hi, sl, r, nx) ∧ sj MO 34 = cntF Pi pn.toNat t (2 ^ pn.toNat) ∧ ∀ q : Nat, q < 8 → sj MWith (q : Int) = wcF Pi pn.toNat t (q : Int) (2 ^ pn.toNat)) := by
  refine au_of (by decide) (Nat.le_of_ble_eq_true rfl) ?_
  obtain ⟨N, hN2, hN0, hN1, hNe⟩ := au_shl_int hpn.1 (by omega : pn ≤ 10)
  have hN3 : N ≤ 256 := by rw [hN2]; exact Nat.pow_le_pow_right (n := 2) (i := pn.toNat) (j := 8) (by decide) (by omega)
  show au_Go G _ _ 0 [some (au_r MO), some (au_i t), none, none, none] [] (mi, si, hi, sl, r, nx) 0 0
  refine au_aload_n dX2_laySets_0 rfl ?_
  refine au_iconst dX2_laySets_1 rfl rfl ?_
  refine au_putf (a := MO) (C := RX2) (T := TX2) (N := 35) in_X2 tyX2_ok nmX2 (by decide) rfl 34 (by decide) rfl (by decide) rfl q1393 rfl rfl trivial (fun _ _ _ h => au_nf_i h) dX2_laySets_2 (M' := (mi, (au_up si MO 34 0), hi, sl, r, nx)) (by rfl) ?_
  refine au_iconst dX2_laySets_5 rfl rfl ?_
  refine au_istore_n dX2_laySets_6 (show 2 < 5 by decide) ?_
  show au_Go G _ _ 7 [some (au_r MO), some (au_i t), some (au_i 0), none, none] [] (mi, (au_up si MO 34 0), hi, sl, r, nx) 0 0
  have h7_ : ∀ (f : Nat) (k : Nat) (sj : au_A → Int → Int), (k ≤ 8) → (sj MO 34 = 0) → (∀ q : Nat, q < 8 → q < k → sj MWith (q : Int) = 0) → (8 - (k : Int)) < (f : Int) → au_Go G (yX2_laySets.cls, cX2_laySets, 5, none, au_rm 1 0 0, yX2_laySets.name) (au_QM G (au_rm 1 0 0) (fun rv M' => rv = none ∧ ∃ sj : au_A → Int → Int, M' = (mi, sj, hi, sl, r, nx) ∧ sj MO 34 = cntF Pi pn.toNat t (2 ^ pn.toNat) ∧ ∀ q : Nat, q < 8 → sj MWith (q : Int) = wcF Pi pn.toNat t (q : Int) (2 ^ pn.toNat))) 7 [some (au_r MO), some (au_i t), some (au_i (k : Int)), none, none] [] (mi, sj, hi, sl, r, nx) 0 0 := by
    intro f
    induction f with
    | zero => intro k sj hk hA hW hf; exfalso; omega
    | succ f ih =>
      intro k sj hk hA hW hf
      refine au_iload_n dX2_laySets_7 rfl ?_
      refine au_bipush dX2_laySets_8 rfl rfl ?_
      refine au_icmp_ge (tgt := 26) dX2_laySets_10 (by decide) (fun c10 => ?_) (fun c10 => ?_)
      · refine au_iconst dX2_laySets_26 rfl rfl ?_
        refine au_istore_n dX2_laySets_27 (show 2 < 5 by decide) ?_
        show au_Go G _ _ 28 [some (au_r MO), some (au_i t), some (au_i 0), none, none] [] (mi, sj, hi, sl, r, nx) 0 0
        have hS_ : ∀ (f : Nat) (S : Nat) (sj : au_A → Int → Int) (a3 a4 : Option au_V), (S ≤ N) → (sj MO 34 = cntF Pi pn.toNat t S) → (∀ q : Nat, q < 8 → sj MWith (q : Int) = wcF Pi pn.toNat t (q : Int) S) → (N : Int) - (S : Int) < (f : Int) → au_Go G (yX2_laySets.cls, cX2_laySets, 5, none, au_rm 1 0 0, yX2_laySets.name) (au_QM G (au_rm 1 0 0) (fun rv M' => rv = none ∧ ∃ sj : au_A → Int → Int, M' = (mi, sj, hi, sl, r, nx) ∧ sj MO 34 = cntF Pi pn.toNat t (2 ^ pn.toNat) ∧ ∀ q : Nat, q < 8 → sj MWith (q : Int) = wcF Pi pn.toNat t (q : Int) (2 ^ pn.toNat))) 28 [some (au_r MO), some (au_i t), some (au_i (S : Int)), a3, a4] [] (mi, sj, hi, sl, r, nx) 0 0 := by
          intro f
          induction f with
          | zero => intro S sj a3 a4 h2 hA hW hf; exfalso; omega
          | succ f ihS =>
            intro S sj a3 a4 h2 hA hW hf
            refine au_iload_n dX2_laySets_28 rfl ?_
            refine au_iconst dX2_laySets_29 rfl rfl ?_
            refine au_aload_n dX2_laySets_30 rfl ?_
            refine au_getf (C := RX2) (T := TX2) (N := 35) in_X2 (by decide) rfl 0 (by decide) rfl rfl q1359 rfl dX2_laySets_31 (v := au_r MA) (congrArg au_q (fx_MO_0 hF)) ?_
            refine au_iconst dX2_laySets_34 rfl rfl ?_
            refine au_iald dX2_laySets_35 rfl (by omega) (by show _ < ((4544 : Nat) : Int); omega) (v := au_i (pn)) (congrArg au_i (hPn)) ?_
            refine au_ishl dX2_laySets_36 ?_
            refine au_icmp_ge (tgt := 144) dX2_laySets_37 (by decide) (fun c37 => ?_) (fun c37 => ?_)
            · rw [hNe] at c37
              exact au_vret dX2_laySets_144 rfl rfl (Nat.le_of_ble_eq_true rfl) (Nat.le_of_ble_eq_true rfl) (⟨rfl, sj, rfl, by rw [hA, show S = (2 ^ pn.toNat) by omega], fun q hq => by rw [hW q hq, show S = (2 ^ pn.toNat) by omega]⟩)
            · rw [hNe] at c37
              refine au_iconst dX2_laySets_40 rfl rfl ?_
              refine au_istore_n dX2_laySets_41 (show 3 < 5 by decide) ?_
              show au_Go G _ _ 42 [some (au_r MO), some (au_i t), some (au_i (S : Int)), some (au_i 0), a4] [] (mi, sj, hi, sl, r, nx) 0 0
              refine au_iconst dX2_laySets_42 rfl rfl ?_
              refine au_istore dX2_laySets_43 (show 4 < 5 by decide) ?_
              show au_Go G _ _ 45 [some (au_r MO), some (au_i t), some (au_i (S : Int)), some (au_i 0), some (au_i 0)] [] (mi, sj, hi, sl, r, nx) 0 0
              have h2_ : ∀ (f : Nat) (k : Nat), ((k : Int) ≤ pn) → (pn - (k : Int)) < (f : Int) → au_Go G (yX2_laySets.cls, cX2_laySets, 5, none, au_rm 1 0 0, yX2_laySets.name) (au_QM G (au_rm 1 0 0) (fun rv M' => rv = none ∧ ∃ sj : au_A → Int → Int, M' = (mi, sj, hi, sl, r, nx) ∧ sj MO 34 = cntF Pi pn.toNat t (2 ^ pn.toNat) ∧ ∀ q : Nat, q < 8 → sj MWith (q : Int) = wcF Pi pn.toNat t (q : Int) (2 ^ pn.toNat))) 45 [some (au_r MO), some (au_i t), some (au_i (S : Int)), some (au_i (wsum Pi S k)), some (au_i (k : Int))] [] (mi, sj, hi, sl, r, nx) 0 0 := by
                intro f
                induction f with
                | zero => intro k hk hf; exfalso; omega
                | succ f ih =>
                  intro k hk hf
                  refine au_iload dX2_laySets_45 rfl ?_
                  refine au_aload_n dX2_laySets_47 rfl ?_
                  refine au_getf (C := RX2) (T := TX2) (N := 35) in_X2 (by decide) rfl 0 (by decide) rfl rfl q1359 rfl dX2_laySets_48 (v := au_r MA) (congrArg au_q (fx_MO_0 hF)) ?_
                  refine au_iconst dX2_laySets_51 rfl rfl ?_
                  refine au_iald dX2_laySets_52 rfl (by omega) (by show _ < ((4544 : Nat) : Int); omega) (v := au_i (pn)) (congrArg au_i (hPn)) ?_
                  refine au_icmp_ge (tgt := 88) dX2_laySets_53 (by decide) (fun c53 => ?_) (fun c53 => ?_)
                  · have hkn : pn.toNat = k := by omega
                    refine au_iload_n dX2_laySets_88 rfl ?_
                    refine au_iload_n dX2_laySets_89 rfl ?_
                    refine au_icmp_eq (tgt := 96) dX2_laySets_90 (by decide) (fun c90 => ?_) (fun c90 => ?_)
                    · have hcb := cntF_bd Pi pn.toNat t S
                      have hsum : wsum Pi (S : Int) pn.toNat = t := by rw [hkn]; exact c90
                      refine au_aload_n dX2_laySets_96 rfl ?_
                      refine au_dup dX2_laySets_97 rfl ?_
                      refine au_getf (C := RX2) (T := TX2) (N := 35) in_X2 (by decide) rfl 34 (by decide) rfl rfl q1393 rfl dX2_laySets_98 (v := au_i (sj MO 34)) (by rfl) ?_
                      refine au_iconst dX2_laySets_101 rfl rfl ?_
                      refine au_iadd dX2_laySets_102 (by omega) (by omega) ?_
                      refine au_putf (a := MO) (C := RX2) (T := TX2) (N := 35) in_X2 tyX2_ok nmX2 (by decide) rfl 34 (by decide) rfl (by decide) rfl q1393 rfl rfl trivial (fun _ _ _ h => au_nf_i h) dX2_laySets_103 (M' := (mi, (au_up sj MO 34 ((sj MO 34) + 1)), hi, sl, r, nx)) (by rfl) ?_
                      refine au_iconst dX2_laySets_106 rfl rfl ?_
                      refine au_istore dX2_laySets_107 (show 4 < 5 by decide) ?_
                      show au_Go G _ _ 109 [some (au_r MO), some (au_i t), some (au_i (S : Int)), some (au_i (wsum Pi S k)), some (au_i 0)] [] (mi, (au_up sj MO 34 ((sj MO 34) + 1)), hi, sl, r, nx) 0 0
                      have hA1 : au_up sj MO 34 (sj MO 34 + 1) MO 34 = cntF Pi pn.toNat t (S + 1) := by
                        rw [au_up_self, hA]; simp only [cntF]; rw [if_pos hsum]
                      have hW1 : ∀ q : Nat, q < 8 → au_up sj MO 34 (sj MO 34 + 1) MWith (q : Int) = if q < 0 then wcF Pi pn.toNat t (q : Int) (S + 1) else wcF Pi pn.toNat t (q : Int) S := by
                        intro q hq
                        rw [if_neg (by omega)]
                        exact hW q hq
                      rw [← hkn]
                      have h3_ : ∀ (f : Nat) (k : Nat) (sj : au_A → Int → Int), ((k : Int) ≤ 8) → (sj MO 34 = cntF Pi pn.toNat t (S + 1)) → (∀ q : Nat, q < 8 → sj MWith (q : Int) = if q < k then wcF Pi pn.toNat t (q : Int) (S + 1) else wcF Pi pn.toNat t (q : Int) S) → (8 - (k : Int)) < (f : Int) → au_Go G (yX2_laySets.cls, cX2_laySets, 5, none, au_rm 1 0 0, yX2_laySets.name) (au_QM G (au_rm 1 0 0) (fun rv M' => rv = none ∧ ∃ sj : au_A → Int → Int, M' = (mi, sj, hi, sl, r, nx) ∧ sj MO 34 = cntF Pi pn.toNat t (2 ^ pn.toNat) ∧ ∀ q : Nat, q < 8 → sj MWith (q : Int) = wcF Pi pn.toNat t (q : Int) (2 ^ pn.toNat))) 109 [some (au_r MO), some (au_i t), some (au_i (S : Int)), some (au_i (wsum Pi S pn.toNat)), some (au_i (k : Int))] [] (mi, sj, hi, sl, r, nx) 0 0 := by
                        intro f
                        induction f with
                        | zero => intro k sj hk hA hW hf; exfalso; omega
                        | succ f ih =>
                          intro k sj hk hA hW hf
                          refine au_iload dX2_laySets_109 rfl ?_
                          refine au_bipush dX2_laySets_111 rfl rfl ?_
                          refine au_icmp_ge (tgt := 138) dX2_laySets_113 (by decide) (fun c113 => ?_) (fun c113 => ?_)
                          · have hWn : ∀ q : Nat, q < 8 → sj MWith (q : Int) = wcF Pi pn.toNat t (q : Int) (S + 1) := by
                              intro q hq
                              rw [hW q hq]
                              by_cases hz : q < k
                              · rw [if_pos hz]
                              · rw [if_neg hz]
                                simp only [wcF]
                                rw [if_neg (fun y => hs_big (S := S) (k := q) (pn := pn.toNat) (by omega) (by omega) (by omega) (by omega) y.2)]
                                omega
                            refine au_iinc dX2_laySets_138 rfl (show 2 < 5 by decide) (by omega) (by omega) (by decide) (by decide) ?_
                            show au_Go G _ _ 141 [some (au_r MO), some (au_i t), some (au_i ((S : Int) + 1)), some (au_i (wsum Pi S pn.toNat)), some (au_i (k : Int))] [] (mi, sj, hi, sl, r, nx) 0 0
                            refine au_goto (tgt := 28) dX2_laySets_141 (by decide) ?_
                            exact ihS (S + 1) _ _ _ (by omega) hA hWn (by omega)
                          · have hwk := hW k (by omega)
                            rw [if_neg (by omega)] at hwk
                            have hwb := wcF_bd Pi pn.toNat t (k : Int) S
                            have hcb := cntF_bd Pi pn.toNat t S
                            have hsv := hs_val (S := S) (k := k) (by omega) (by omega)
                            have hsb : 0 ≤ au_and (au_shr (S : Int) (k : Int)) 1 ∧ au_and (au_shr (S : Int) (k : Int)) 1 ≤ 1 := by rw [hsv]; split <;> omega
                            refine au_aload_n dX2_laySets_116 rfl ?_
                            refine au_getf (C := RX2) (T := TX2) (N := 35) in_X2 (by decide) rfl 33 (by decide) rfl rfl q1392 rfl dX2_laySets_117 (v := au_r MWith) (congrArg au_q (fx_MO_33 hF)) ?_
                            refine au_iload dX2_laySets_120 rfl ?_
                            refine au_dup2 dX2_laySets_122 rfl rfl ?_
                            refine au_iald dX2_laySets_123 rfl (by omega) (by show _ < ((8 : Nat) : Int); omega) (v := au_i (sj MWith (k : Int))) (by rfl) ?_
                            refine au_iload_n dX2_laySets_124 rfl ?_
                            refine au_iload dX2_laySets_125 rfl ?_
                            refine au_ishr dX2_laySets_127 ?_
                            refine au_iconst dX2_laySets_128 rfl rfl ?_
                            refine au_iand dX2_laySets_129 ?_
                            refine au_iadd dX2_laySets_130 (by omega) (by omega) ?_
                            refine au_iast dX2_laySets_131 rfl (by decide) (by omega) (by show _ < ((8 : Nat) : Int); omega) (M' := (mi, (au_up sj MWith (k : Int) ((sj MWith (k : Int)) + (au_and (au_shr (S : Int) (k : Int)) 1))), hi, sl, r, nx)) (by rfl) ?_
                            refine au_iinc dX2_laySets_132 rfl (show 4 < 5 by decide) (by omega) (by omega) (by decide) (by decide) ?_
                            show au_Go G _ _ 135 [some (au_r MO), some (au_i t), some (au_i (S : Int)), some (au_i (wsum Pi S pn.toNat)), some (au_i ((k : Int) + 1))] [] (mi, (au_up sj MWith (k : Int) ((sj MWith (k : Int)) + (au_and (au_shr (S : Int) (k : Int)) 1))), hi, sl, r, nx) 0 0
                            refine au_goto (tgt := 109) dX2_laySets_135 (by decide) ?_
                            refine ih (k + 1) _ (by omega) hA (fun q hq => ?_) (by omega)
                            rw [au_up_at]
                            by_cases hqk : q = k
                            · subst hqk
                              rw [if_pos ⟨rfl, rfl⟩, if_pos (by omega), hwk, hs_val (by omega) (by omega)]
                              simp only [wcF]
                              by_cases hz : hs (S : Int) (q : Int)
                              · rw [if_pos hz, if_pos ⟨hsum, hz⟩]
                              · rw [if_neg hz, if_neg (fun y => hz y.2)]
                            · rw [if_neg (fun y => hqk (by omega)), hW q hq]
                              by_cases hz : q < k
                              · rw [if_pos hz, if_pos (by omega)]
                              · rw [if_neg hz, if_neg (by omega)]
                      exact h3_ 11 0 _ (by omega) hA1 hW1 (by omega)
                    · refine au_goto (tgt := 138) dX2_laySets_93 (by decide) ?_
                      have hns : ¬ wsum Pi (S : Int) pn.toNat = t := by rw [hkn]; exact c90
                      have hA2 : sj MO 34 = cntF Pi pn.toNat t (S + 1) := by rw [hA]; simp only [cntF]; rw [if_neg hns]; omega
                      have hW2 : ∀ q : Nat, q < 8 → sj MWith (q : Int) = wcF Pi pn.toNat t (q : Int) (S + 1) := by
                        intro q hq
                        rw [hW q hq]
                        simp only [wcF]
                        rw [if_neg (fun y => hns y.1)]
                        omega
                      refine au_iinc dX2_laySets_138 rfl (show 2 < 5 by decide) (by omega) (by omega) (by decide) (by decide) ?_
                      show au_Go G _ _ 141 [some (au_r MO), some (au_i t), some (au_i ((S : Int) + 1)), some (au_i (wsum Pi S k)), some (au_i (k : Int))] [] (mi, sj, hi, sl, r, nx) 0 0
                      refine au_goto (tgt := 28) dX2_laySets_141 (by decide) ?_
                      exact ihS (S + 1) _ _ _ (by omega) hA2 hW2 (by omega)
                  · refine au_iload_n dX2_laySets_56 rfl ?_
                    refine au_iload_n dX2_laySets_57 rfl ?_
                    refine au_iload dX2_laySets_58 rfl ?_
                    refine au_callSp (n := 2) (kX2_has G (S : Int) (k : Int) (mi, sj, hi, sl, r, nx)) (lw_S q1482 q1483 q134 q1484) (by decide +kernel) rfl rfl rfl (Nat.le_of_ble_eq_true rfl) (Nat.le_of_ble_eq_true rfl) (Nat.le_of_ble_eq_true rfl) (Nat.le_of_ble_eq_true rfl) (Nat.le_of_ble_eq_true rfl) dX2_laySets_60 ?_
                    refine au_if_eq (tgt := 79) dX2_laySets_63 (by decide) (fun c63 => ?_) (fun c63 => ?_)
                    · have c63 := au_b0 c63
                      refine au_iconst dX2_laySets_79 rfl rfl ?_
                      refine au_iaddW dX2_laySets_80 ?_
                      refine au_istore_n dX2_laySets_81 (show 3 < 5 by decide) ?_
                      show au_Go G _ _ 82 [some (au_r MO), some (au_i t), some (au_i (S : Int)), some (au_i (au_w ((wsum Pi S k) + 0))), some (au_i (k : Int))] [] (mi, sj, hi, sl, r, nx) 0 0
                      refine au_iinc dX2_laySets_82 rfl (show 4 < 5 by decide) (by omega) (by omega) (by decide) (by decide) ?_
                      show au_Go G _ _ 85 [some (au_r MO), some (au_i t), some (au_i (S : Int)), some (au_i (au_w ((wsum Pi S k) + 0))), some (au_i ((k : Int) + 1))] [] (mi, sj, hi, sl, r, nx) 0 0
                      refine au_goto (tgt := 45) dX2_laySets_85 (by decide) ?_
                      have e1 : ∀ z : Int, z = wsum Pi S (k + 1) → au_Go G (yX2_laySets.cls, cX2_laySets, 5, none, au_rm 1 0 0, yX2_laySets.name) (au_QM G (au_rm 1 0 0) (fun rv M' => rv = none ∧ ∃ sj : au_A → Int → Int, M' = (mi, sj, hi, sl, r, nx) ∧ sj MO 34 = cntF Pi pn.toNat t (2 ^ pn.toNat) ∧ ∀ q : Nat, q < 8 → sj MWith (q : Int) = wcF Pi pn.toNat t (q : Int) (2 ^ pn.toNat))) 45 [some (au_r MO), some (au_i t), some (au_i (S : Int)), some (au_i z), some (au_i ((k : Int) + 1))] [] (mi, sj, hi, sl, r, nx) 0 0 := fun z hz => by rw [hz]; exact ih (k + 1) (by omega) (by omega)
                      exact e1 _ (by simp only [wsum]; first | rw [if_pos c63] | rw [if_neg c63])
                    · have c63 := au_b1 c63
                      refine au_aload_n dX2_laySets_66 rfl ?_
                      refine au_getf (C := RX2) (T := TX2) (N := 35) in_X2 (by decide) rfl 0 (by decide) rfl rfl q1359 rfl dX2_laySets_67 (v := au_r MA) (congrArg au_q (fx_MO_0 hF)) ?_
                      refine au_bipush dX2_laySets_70 rfl rfl ?_
                      refine au_iload dX2_laySets_72 rfl ?_
                      refine au_iadd dX2_laySets_74 (by omega) (by omega) ?_
                      refine au_iald dX2_laySets_75 rfl (by omega) (by show _ < ((4544 : Nat) : Int); omega) (v := au_i (Pi (k : Int))) (congrArg au_i (hPi _ (by omega) (by omega))) ?_
                      refine au_goto (tgt := 80) dX2_laySets_76 (by decide) ?_
                      refine au_iaddW dX2_laySets_80 ?_
                      refine au_istore_n dX2_laySets_81 (show 3 < 5 by decide) ?_
                      show au_Go G _ _ 82 [some (au_r MO), some (au_i t), some (au_i (S : Int)), some (au_i (au_w ((wsum Pi S k) + (Pi (k : Int))))), some (au_i (k : Int))] [] (mi, sj, hi, sl, r, nx) 0 0
                      refine au_iinc dX2_laySets_82 rfl (show 4 < 5 by decide) (by omega) (by omega) (by decide) (by decide) ?_
                      show au_Go G _ _ 85 [some (au_r MO), some (au_i t), some (au_i (S : Int)), some (au_i (au_w ((wsum Pi S k) + (Pi (k : Int))))), some (au_i ((k : Int) + 1))] [] (mi, sj, hi, sl, r, nx) 0 0
                      refine au_goto (tgt := 45) dX2_laySets_85 (by decide) ?_
                      have e1 : ∀ z : Int, z = wsum Pi S (k + 1) → au_Go G (yX2_laySets.cls, cX2_laySets, 5, none, au_rm 1 0 0, yX2_laySets.name) (au_QM G (au_rm 1 0 0) (fun rv M' => rv = none ∧ ∃ sj : au_A → Int → Int, M' = (mi, sj, hi, sl, r, nx) ∧ sj MO 34 = cntF Pi pn.toNat t (2 ^ pn.toNat) ∧ ∀ q : Nat, q < 8 → sj MWith (q : Int) = wcF Pi pn.toNat t (q : Int) (2 ^ pn.toNat))) 45 [some (au_r MO), some (au_i t), some (au_i (S : Int)), some (au_i z), some (au_i ((k : Int) + 1))] [] (mi, sj, hi, sl, r, nx) 0 0 := fun z hz => by rw [hz]; exact ih (k + 1) (by omega) (by omega)
                      exact e1 _ (by simp only [wsum]; first | rw [if_pos c63] | rw [if_neg c63])
              exact h2_ 11 0 (by omega) (by omega)
        exact hS_ 257 0 _ _ _ (by omega) hA (fun q hq => hW q hq (by omega)) (by omega)
      · refine au_aload_n dX2_laySets_13 rfl ?_
        refine au_getf (C := RX2) (T := TX2) (N := 35) in_X2 (by decide) rfl 33 (by decide) rfl rfl q1392 rfl dX2_laySets_14 (v := au_r MWith) (congrArg au_q (fx_MO_33 hF)) ?_
        refine au_iload_n dX2_laySets_17 rfl ?_
        refine au_iconst dX2_laySets_18 rfl rfl ?_
        refine au_iast dX2_laySets_19 rfl (by decide) (by omega) (by show _ < ((8 : Nat) : Int); omega) (M' := (mi, (au_up sj MWith (k : Int) 0), hi, sl, r, nx)) (by rfl) ?_
        refine au_iinc dX2_laySets_20 rfl (show 2 < 5 by decide) (by omega) (by omega) (by decide) (by decide) ?_
        show au_Go G _ _ 23 [some (au_r MO), some (au_i t), some (au_i ((k : Int) + 1)), none, none] [] (mi, (au_up sj MWith (k : Int) 0), hi, sl, r, nx) 0 0
        refine au_goto (tgt := 7) dX2_laySets_23 (by decide) ?_
        refine ih (k + 1) _ (by omega) hA (fun q hq hz => ?_) (by omega)
        rw [au_up_at]
        by_cases hqk : q = k
        · rw [if_pos ⟨rfl, by omega⟩]
        · rw [if_neg (fun y => hqk (by omega))]
          exact hW q hq (by omega)
  exact h7_ 9 0 _ (by omega) rfl (fun q _ h => by omega) (by omega)
