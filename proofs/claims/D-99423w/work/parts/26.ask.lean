/-! PILES: what is asked of them, of both systems (printed by tools/m26.py) -/
set_option maxRecDepth 100000
set_option maxHeartbeats 4000000

noncomputable def plP (Pi : Int → Int) (pn : Nat) (t w : Int) (k : Nat) : Prop := 0 < cntF Pi pn t (2 ^ pn) ∧ wcF Pi pn t (k : Int) (2 ^ pn) = (if w = 1 then cntF Pi pn t (2 ^ pn) else 0)
/-- what piles answers -/
noncomputable def plR (Pi : Int → Int) (pn : Nat) (t w : Int) : Int := if 0 ≤ t ∧ t ≤ 9999 ∧ 0 ≤ w ∧ w ≤ 2 then (if w = 0 then cntF Pi pn t (2 ^ pn) else ((bsN (plP Pi pn t w) pn : Nat) : Int)) else -1
theorem plP_none {Pi : Int → Int} {pn : Nat} {t w : Int} (h : cntF Pi pn t (2 ^ pn) ≤ 0) (n : Nat) : bsN (plP Pi pn t w) n = 0 := by
  symm
  refine bsN_eq (fun i => ?_)
  simp only [Nat.zero_testBit, Bool.false_eq_true, false_iff]
  rintro ⟨_, h2, _⟩
  omega
/-- the best to ask, and how far off: as the one counts, as the other does -/
def axF (wc : Nat → Int) (a : Int) : Nat → Int × Int
  | 0 => (-1, a)
  | k + 1 => if max (2 * wc k - a) (-(2 * wc k - a)) < (axF wc a k).2 then ((k : Int), max (2 * wc k - a) (-(2 * wc k - a))) else axF wc a k
def amF (wc : Nat → Int) (a : Int) : Nat → Int × Int
  | 0 => (-1, 1000000000)
  | k + 1 => if wc k ≠ 0 ∧ wc k ≠ a ∧ (if a < 2 * wc k then 2 * wc k - a else a - 2 * wc k) < (amF wc a k).2 then ((k : Int), if a < 2 * wc k then 2 * wc k - a else a - 2 * wc k) else amF wc a k
theorem ask_same (wc : Nat → Int) (a : Int) (ha : 0 ≤ a) (ha2 : a < 1000000) (h : ∀ k, 0 ≤ wc k ∧ wc k ≤ a) : ∀ k, (axF wc a k).1 = (amF wc a k).1 ∧ ((amF wc a k).1 = -1 → (axF wc a k).2 = a ∧ (amF wc a k).2 = 1000000000) ∧ ((amF wc a k).1 ≠ -1 → (axF wc a k).2 = (amF wc a k).2 ∧ (amF wc a k).2 < a) ∧ -1 ≤ (amF wc a k).1 := by
  intro k
  induction k with
  | zero => simp [axF, amF]
  | succ k ih =>
    have hk := h k
    simp only [axF, amF]
    generalize amF wc a k = m at ih ⊢
    generalize axF wc a k = x at ih ⊢
    obtain ⟨m1, m2⟩ := m
    obtain ⟨x1, x2⟩ := x
    simp only at ih ⊢
    generalize wc k = w at hk ⊢
    grind

theorem kX0_piles (G : au_G) (t w : Int) (mi si hi sl : au_A → Int → Int) (r : au_A → Int → Option au_A) (nx : Nat) (hF : Fix r) (pn : Int) (hPn : mi XNn 4 = pn) (hpn : 0 ≤ pn ∧ pn ≤ 8) (Pi : Int → Int) (hPi : ∀ o, 0 ≤ o → o < 8 → mi XNpile o = Pi o) : au_Ctr G yX0_piles cX0_piles 5 (some .int) 2 0 0 [au_r XO, au_i t, au_i w] (mi, si, hi, sl, r, nx) (fun rv M' => rv = some (au_i (plR Pi pn.toNat t w)) ∧ ∃ sj : au_A → Int → Int, M' = (mi, sj, hi, sl, r, nx)) := by
  refine au_of (by decide) (Nat.le_of_ble_eq_true rfl) ?_
  show au_Go G _ _ 0 [some (au_r XO), some (au_i t), some (au_i w), none, none] [] (mi, si, hi, sl, r, nx) 0 0
  refine au_iload_n dX0_piles_0 rfl ?_
  refine au_iconst dX0_piles_1 rfl rfl ?_
  refine au_sipush dX0_piles_2 rfl rfl ?_
  refine au_callSp (n := 3) (kX0_in G t 0 9999 (mi, si, hi, sl, r, nx)) (lw_S q300 q301 q130 q302) (by decide +kernel) rfl rfl rfl (Nat.le_of_ble_eq_true rfl) (Nat.le_of_ble_eq_true rfl) (Nat.le_of_ble_eq_true rfl) (Nat.le_of_ble_eq_true rfl) (Nat.le_of_ble_eq_true rfl) dX0_piles_5 ?_
  refine au_if_eq (tgt := 20) dX0_piles_8 (by decide) (fun c8 => ?_) (fun c8 => ?_)
  · have c8 := au_b0 c8
    refine au_iconst dX0_piles_20 rfl rfl ?_
    exact au_iret dX0_piles_21 rfl rfl (Nat.le_of_ble_eq_true rfl) (Nat.le_of_ble_eq_true rfl) (⟨by unfold plR; rw [if_neg (by omega)], si, rfl⟩)
  · have c8 := au_b1 c8
    refine au_iload_n dX0_piles_11 rfl ?_
    refine au_iconst dX0_piles_12 rfl rfl ?_
    refine au_iconst dX0_piles_13 rfl rfl ?_
    refine au_callSp (n := 3) (kX0_in G w 0 2 (mi, si, hi, sl, r, nx)) (lw_S q300 q301 q130 q302) (by decide +kernel) rfl rfl rfl (Nat.le_of_ble_eq_true rfl) (Nat.le_of_ble_eq_true rfl) (Nat.le_of_ble_eq_true rfl) (Nat.le_of_ble_eq_true rfl) (Nat.le_of_ble_eq_true rfl) dX0_piles_14 ?_
    refine au_if_ne (tgt := 22) dX0_piles_17 (by decide) (fun c17 => ?_) (fun c17 => ?_)
    · have c17 := au_b1 c17
      refine au_aload_n dX0_piles_22 rfl ?_
      refine au_iload_n dX0_piles_23 rfl ?_
      refine au_callV (n := 1) (kX0_laysPiles G t mi si hi sl r nx hF pn hPn hpn Pi hPi) (lw_V q1228 q1230 qs49 q130 q1231) rfl (by decide +kernel) (by decide) (T := TX0) (N := 15) rfl rfl rfl rfl (Nat.le_of_ble_eq_true rfl) (Nat.le_of_ble_eq_true rfl) (Nat.le_of_ble_eq_true rfl) (Nat.le_of_ble_eq_true rfl) (Nat.le_of_ble_eq_true rfl) dX0_piles_24 (fun rv_ M_ hp_ => ?_)
      obtain ⟨rfl, sj, rfl, hA, hW⟩ := hp_
      show au_Go G _ _ 27 [some (au_r XO), some (au_i t), some (au_i w), none, none] [] (mi, sj, hi, sl, r, nx) 0 0
      refine au_iload_n dX0_piles_27 rfl ?_
      refine au_if_ne (tgt := 36) dX0_piles_28 (by decide) (fun c28 => ?_) (fun c28 => ?_)
      · refine au_iconst dX0_piles_36 rfl rfl ?_
        refine au_istore_n dX0_piles_37 (show 3 < 5 by decide) ?_
        show au_Go G _ _ 38 [some (au_r XO), some (au_i t), some (au_i w), some (au_i 0), none] [] (mi, sj, hi, sl, r, nx) 0 0
        refine au_iconst dX0_piles_38 rfl rfl ?_
        refine au_istore dX0_piles_39 (show 4 < 5 by decide) ?_
        show au_Go G _ _ 41 [some (au_r XO), some (au_i t), some (au_i w), some (au_i 0), some (au_i 0)] [] (mi, sj, hi, sl, r, nx) 0 0
        have hl : ∀ (f : Nat) (k : Nat), ((k : Int) ≤ pn) → (pn - (k : Int)) < (f : Int) → au_Go G (yX0_piles.cls, cX0_piles, 5, (some .int), au_rm 2 0 0, yX0_piles.name) (au_QM G (au_rm 2 0 0) (fun rv M' => rv = some (au_i (plR Pi pn.toNat t w)) ∧ ∃ sj : au_A → Int → Int, M' = (mi, sj, hi, sl, r, nx))) 41 [some (au_r XO), some (au_i t), some (au_i w), some (au_i ((bsN (plP Pi pn.toNat t w) k : Nat) : Int)), some (au_i (k : Int))] [] (mi, sj, hi, sl, r, nx) 0 0 := by
          intro f
          induction f with
          | zero => intro k h1 hf; exfalso; omega
          | succ f ih =>
            intro k h1 hf
            refine au_iload dX0_piles_41 rfl ?_
            refine au_aload_n dX0_piles_43 rfl ?_
            refine au_getf (C := RX0) (T := TX0) (N := 15) in_X0 (by decide) rfl 0 (by decide) rfl rfl q245 rfl dX0_piles_44 (v := au_r XN) (congrArg au_q (fx_XO_0 hF)) ?_
            refine au_getN (C := RX1) (T := TX1) (N := 11) in_X1 (by decide) rfl 0 (by decide) rfl rfl q187 rfl dX0_piles_47 (v := au_r XNn) (congrArg au_q (fx_XN_0 hF)) ?_
            refine au_iconst dX0_piles_50 rfl rfl ?_
            refine au_iald dX0_piles_51 rfl (by omega) (by show _ < ((6 : Nat) : Int); omega) (v := au_i (pn)) (congrArg au_i (hPn)) ?_
            refine au_icmp_ge (tgt := 102) dX0_piles_52 (by decide) (fun c52 => ?_) (fun c52 => ?_)
            · refine au_iload_n dX0_piles_102 rfl ?_
              exact au_iret dX0_piles_103 rfl rfl (Nat.le_of_ble_eq_true rfl) (Nat.le_of_ble_eq_true rfl) (⟨by unfold plR; rw [if_pos (by omega), if_neg c28, show pn.toNat = k by omega], sj, rfl⟩)
            · refine au_iload_n dX0_piles_55 rfl ?_
              refine au_aload_n dX0_piles_56 rfl ?_
              refine au_getf (C := RX0) (T := TX0) (N := 15) in_X0 (by decide) rfl 14 (by decide) rfl rfl q259 rfl dX0_piles_57 (v := au_i (sj XO 14)) (by rfl) ?_
              refine au_if_le (tgt := 93) dX0_piles_60 (by decide) (fun c60 => ?_) (fun c60 => ?_)
              · refine au_iconst dX0_piles_93 rfl rfl ?_
                refine au_ior dX0_piles_94 ?_
                refine au_istore_n dX0_piles_95 (show 3 < 5 by decide) ?_
                show au_Go G _ _ 96 [some (au_r XO), some (au_i t), some (au_i w), some (au_i (au_or ((bsN (plP Pi pn.toNat t w) k : Nat) : Int) 0)), some (au_i (k : Int))] [] (mi, sj, hi, sl, r, nx) 0 0
                refine au_iinc dX0_piles_96 rfl (show 4 < 5 by decide) (by omega) (by omega) (by decide) (by decide) ?_
                show au_Go G _ _ 99 [some (au_r XO), some (au_i t), some (au_i w), some (au_i (au_or ((bsN (plP Pi pn.toNat t w) k : Nat) : Int) 0)), some (au_i ((k : Int) + 1))] [] (mi, sj, hi, sl, r, nx) 0 0
                refine au_goto (tgt := 41) dX0_piles_99 (by decide) ?_
                first
                | (have hq : (plP Pi pn.toNat t w) k := by
                     refine ⟨by omega, ?_⟩
                     rw [← hA, ← hW k (by omega)]
                     first
                     | (rw [if_pos (by assumption)]; omega)
                     | (rw [if_neg (by assumption)]; omega)
                   rw [bsN_step (plP Pi pn.toNat t w) k (by omega) _ ⟨fun _ => rfl, fun q => absurd hq q⟩])
                | (have hq : ¬ (plP Pi pn.toNat t w) k := by
                     rintro ⟨q1, q2⟩
                     rw [← hA, ← hW k (by omega)] at q2
                     first
                     | omega
                     | (rw [if_pos (by assumption)] at q2; omega)
                     | (rw [if_neg (by assumption)] at q2; omega)
                   rw [bsN_step (plP Pi pn.toNat t w) k (by omega) _ ⟨fun q => absurd q hq, fun _ => rfl⟩])
                exact ih (k + 1) (by omega) (by omega)
              · refine au_aload_n dX0_piles_63 rfl ?_
                refine au_getf (C := RX0) (T := TX0) (N := 15) in_X0 (by decide) rfl 13 (by decide) rfl rfl q258 rfl dX0_piles_64 (v := au_r XWith) (congrArg au_q (fx_XO_13 hF)) ?_
                refine au_iload dX0_piles_67 rfl ?_
                refine au_iald dX0_piles_69 rfl (by omega) (by show _ < ((8 : Nat) : Int); omega) (v := au_i (sj XWith (k : Int))) (by rfl) ?_
                refine au_iload_n dX0_piles_70 rfl ?_
                refine au_iconst dX0_piles_71 rfl rfl ?_
                refine au_icmp_ne (tgt := 82) dX0_piles_72 (by decide) (fun c72 => ?_) (fun c72 => ?_)
                · refine au_iconst dX0_piles_82 rfl rfl ?_
                  refine au_icmp_ne (tgt := 93) dX0_piles_83 (by decide) (fun c83 => ?_) (fun c83 => ?_)
                  · refine au_iconst dX0_piles_93 rfl rfl ?_
                    refine au_ior dX0_piles_94 ?_
                    refine au_istore_n dX0_piles_95 (show 3 < 5 by decide) ?_
                    show au_Go G _ _ 96 [some (au_r XO), some (au_i t), some (au_i w), some (au_i (au_or ((bsN (plP Pi pn.toNat t w) k : Nat) : Int) 0)), some (au_i (k : Int))] [] (mi, sj, hi, sl, r, nx) 0 0
                    refine au_iinc dX0_piles_96 rfl (show 4 < 5 by decide) (by omega) (by omega) (by decide) (by decide) ?_
                    show au_Go G _ _ 99 [some (au_r XO), some (au_i t), some (au_i w), some (au_i (au_or ((bsN (plP Pi pn.toNat t w) k : Nat) : Int) 0)), some (au_i ((k : Int) + 1))] [] (mi, sj, hi, sl, r, nx) 0 0
                    refine au_goto (tgt := 41) dX0_piles_99 (by decide) ?_
                    first
                    | (have hq : (plP Pi pn.toNat t w) k := by
                         refine ⟨by omega, ?_⟩
                         rw [← hA, ← hW k (by omega)]
                         first
                         | (rw [if_pos (by assumption)]; omega)
                         | (rw [if_neg (by assumption)]; omega)
                       rw [bsN_step (plP Pi pn.toNat t w) k (by omega) _ ⟨fun _ => rfl, fun q => absurd hq q⟩])
                    | (have hq : ¬ (plP Pi pn.toNat t w) k := by
                         rintro ⟨q1, q2⟩
                         rw [← hA, ← hW k (by omega)] at q2
                         first
                         | omega
                         | (rw [if_pos (by assumption)] at q2; omega)
                         | (rw [if_neg (by assumption)] at q2; omega)
                       rw [bsN_step (plP Pi pn.toNat t w) k (by omega) _ ⟨fun q => absurd q hq, fun _ => rfl⟩])
                    exact ih (k + 1) (by omega) (by omega)
                  · refine au_iconst dX0_piles_86 rfl rfl ?_
                    refine au_iload dX0_piles_87 rfl ?_
                    refine au_ishl dX0_piles_89 ?_
                    refine au_goto (tgt := 94) dX0_piles_90 (by decide) ?_
                    refine au_ior dX0_piles_94 ?_
                    refine au_istore_n dX0_piles_95 (show 3 < 5 by decide) ?_
                    show au_Go G _ _ 96 [some (au_r XO), some (au_i t), some (au_i w), some (au_i (au_or ((bsN (plP Pi pn.toNat t w) k : Nat) : Int) (au_shl 1 (k : Int)))), some (au_i (k : Int))] [] (mi, sj, hi, sl, r, nx) 0 0
                    refine au_iinc dX0_piles_96 rfl (show 4 < 5 by decide) (by omega) (by omega) (by decide) (by decide) ?_
                    show au_Go G _ _ 99 [some (au_r XO), some (au_i t), some (au_i w), some (au_i (au_or ((bsN (plP Pi pn.toNat t w) k : Nat) : Int) (au_shl 1 (k : Int)))), some (au_i ((k : Int) + 1))] [] (mi, sj, hi, sl, r, nx) 0 0
                    refine au_goto (tgt := 41) dX0_piles_99 (by decide) ?_
                    first
                    | (have hq : (plP Pi pn.toNat t w) k := by
                         refine ⟨by omega, ?_⟩
                         rw [← hA, ← hW k (by omega)]
                         first
                         | (rw [if_pos (by assumption)]; omega)
                         | (rw [if_neg (by assumption)]; omega)
                       rw [bsN_step (plP Pi pn.toNat t w) k (by omega) _ ⟨fun _ => rfl, fun q => absurd hq q⟩])
                    | (have hq : ¬ (plP Pi pn.toNat t w) k := by
                         rintro ⟨q1, q2⟩
                         rw [← hA, ← hW k (by omega)] at q2
                         first
                         | omega
                         | (rw [if_pos (by assumption)] at q2; omega)
                         | (rw [if_neg (by assumption)] at q2; omega)
                       rw [bsN_step (plP Pi pn.toNat t w) k (by omega) _ ⟨fun q => absurd q hq, fun _ => rfl⟩])
                    exact ih (k + 1) (by omega) (by omega)
                · refine au_aload_n dX0_piles_75 rfl ?_
                  refine au_getf (C := RX0) (T := TX0) (N := 15) in_X0 (by decide) rfl 14 (by decide) rfl rfl q259 rfl dX0_piles_76 (v := au_i (sj XO 14)) (by rfl) ?_
                  refine au_goto (tgt := 83) dX0_piles_79 (by decide) ?_
                  refine au_icmp_ne (tgt := 93) dX0_piles_83 (by decide) (fun c83 => ?_) (fun c83 => ?_)
                  · refine au_iconst dX0_piles_93 rfl rfl ?_
                    refine au_ior dX0_piles_94 ?_
                    refine au_istore_n dX0_piles_95 (show 3 < 5 by decide) ?_
                    show au_Go G _ _ 96 [some (au_r XO), some (au_i t), some (au_i w), some (au_i (au_or ((bsN (plP Pi pn.toNat t w) k : Nat) : Int) 0)), some (au_i (k : Int))] [] (mi, sj, hi, sl, r, nx) 0 0
                    refine au_iinc dX0_piles_96 rfl (show 4 < 5 by decide) (by omega) (by omega) (by decide) (by decide) ?_
                    show au_Go G _ _ 99 [some (au_r XO), some (au_i t), some (au_i w), some (au_i (au_or ((bsN (plP Pi pn.toNat t w) k : Nat) : Int) 0)), some (au_i ((k : Int) + 1))] [] (mi, sj, hi, sl, r, nx) 0 0
                    refine au_goto (tgt := 41) dX0_piles_99 (by decide) ?_
                    first
                    | (have hq : (plP Pi pn.toNat t w) k := by
                         refine ⟨by omega, ?_⟩
                         rw [← hA, ← hW k (by omega)]
                         first
                         | (rw [if_pos (by assumption)]; omega)
                         | (rw [if_neg (by assumption)]; omega)
                       rw [bsN_step (plP Pi pn.toNat t w) k (by omega) _ ⟨fun _ => rfl, fun q => absurd hq q⟩])
                    | (have hq : ¬ (plP Pi pn.toNat t w) k := by
                         rintro ⟨q1, q2⟩
                         rw [← hA, ← hW k (by omega)] at q2
                         first
                         | omega
                         | (rw [if_pos (by assumption)] at q2; omega)
                         | (rw [if_neg (by assumption)] at q2; omega)
                       rw [bsN_step (plP Pi pn.toNat t w) k (by omega) _ ⟨fun q => absurd q hq, fun _ => rfl⟩])
                    exact ih (k + 1) (by omega) (by omega)
                  · refine au_iconst dX0_piles_86 rfl rfl ?_
                    refine au_iload dX0_piles_87 rfl ?_
                    refine au_ishl dX0_piles_89 ?_
                    refine au_goto (tgt := 94) dX0_piles_90 (by decide) ?_
                    refine au_ior dX0_piles_94 ?_
                    refine au_istore_n dX0_piles_95 (show 3 < 5 by decide) ?_
                    show au_Go G _ _ 96 [some (au_r XO), some (au_i t), some (au_i w), some (au_i (au_or ((bsN (plP Pi pn.toNat t w) k : Nat) : Int) (au_shl 1 (k : Int)))), some (au_i (k : Int))] [] (mi, sj, hi, sl, r, nx) 0 0
                    refine au_iinc dX0_piles_96 rfl (show 4 < 5 by decide) (by omega) (by omega) (by decide) (by decide) ?_
                    show au_Go G _ _ 99 [some (au_r XO), some (au_i t), some (au_i w), some (au_i (au_or ((bsN (plP Pi pn.toNat t w) k : Nat) : Int) (au_shl 1 (k : Int)))), some (au_i ((k : Int) + 1))] [] (mi, sj, hi, sl, r, nx) 0 0
                    refine au_goto (tgt := 41) dX0_piles_99 (by decide) ?_
                    first
                    | (have hq : (plP Pi pn.toNat t w) k := by
                         refine ⟨by omega, ?_⟩
                         rw [← hA, ← hW k (by omega)]
                         first
                         | (rw [if_pos (by assumption)]; omega)
                         | (rw [if_neg (by assumption)]; omega)
                       rw [bsN_step (plP Pi pn.toNat t w) k (by omega) _ ⟨fun _ => rfl, fun q => absurd hq q⟩])
                    | (have hq : ¬ (plP Pi pn.toNat t w) k := by
                         rintro ⟨q1, q2⟩
                         rw [← hA, ← hW k (by omega)] at q2
                         first
                         | omega
                         | (rw [if_pos (by assumption)] at q2; omega)
                         | (rw [if_neg (by assumption)] at q2; omega)
                       rw [bsN_step (plP Pi pn.toNat t w) k (by omega) _ ⟨fun q => absurd q hq, fun _ => rfl⟩])
                    exact ih (k + 1) (by omega) (by omega)
        exact hl 9 0 (by omega) (by omega)
      · refine au_aload_n dX0_piles_31 rfl ?_
        refine au_getf (C := RX0) (T := TX0) (N := 15) in_X0 (by decide) rfl 14 (by decide) rfl rfl q259 rfl dX0_piles_32 (v := au_i (sj XO 14)) (by rfl) ?_
        exact au_iret dX0_piles_35 rfl rfl (Nat.le_of_ble_eq_true rfl) (Nat.le_of_ble_eq_true rfl) (⟨by unfold plR; rw [if_pos (by omega), if_pos c28, hA], sj, rfl⟩)
    · have c17 := au_b0 c17
      refine au_iconst dX0_piles_20 rfl rfl ?_
      exact au_iret dX0_piles_21 rfl rfl (Nat.le_of_ble_eq_true rfl) (Nat.le_of_ble_eq_true rfl) (⟨by unfold plR; rw [if_neg (by omega)], si, rfl⟩)
theorem kX0_ask (G : au_G) (t : Int) (mi si hi sl : au_A → Int → Int) (r : au_A → Int → Option au_A) (nx : Nat) (hF : Fix r) (pn : Int) (hPn : mi XNn 4 = pn) (hpn : 0 ≤ pn ∧ pn ≤ 8) (Pi : Int → Int) (hPi : ∀ o, 0 ≤ o → o < 8 → mi XNpile o = Pi o) : au_Ctr G yX0_ask cX0_ask 5 (some .int) 2 0 0 [au_r XO, au_i t] (mi, si, hi, sl, r, nx) (fun rv M' => rv = some (au_i (if 0 ≤ t ∧ t ≤ 9999 then (axF (fun j : Nat => wcF Pi pn.toNat t (j : Int) (2 ^ pn.toNat)) (cntF Pi pn.toNat t (2 ^ pn.toNat)) pn.toNat).1 else -1)) ∧ ∃ sj : au_A → Int → Int, M' = (mi, sj, hi, sl, r, nx)) := by
  refine au_of (by decide) (Nat.le_of_ble_eq_true rfl) ?_
  show au_Go G _ _ 0 [some (au_r XO), some (au_i t), none, none, none] [] (mi, si, hi, sl, r, nx) 0 0
  refine au_iload_n dX0_ask_0 rfl ?_
  refine au_iconst dX0_ask_1 rfl rfl ?_
  refine au_sipush dX0_ask_2 rfl rfl ?_
  refine au_callSp (n := 3) (kX0_in G t 0 9999 (mi, si, hi, sl, r, nx)) (lw_S q300 q301 q130 q302) (by decide +kernel) rfl rfl rfl (Nat.le_of_ble_eq_true rfl) (Nat.le_of_ble_eq_true rfl) (Nat.le_of_ble_eq_true rfl) (Nat.le_of_ble_eq_true rfl) (Nat.le_of_ble_eq_true rfl) dX0_ask_5 ?_
  refine au_if_ne (tgt := 13) dX0_ask_8 (by decide) (fun c8 => ?_) (fun c8 => ?_)
  · have c8 := au_b1 c8
    refine au_aload_n dX0_ask_13 rfl ?_
    refine au_iload_n dX0_ask_14 rfl ?_
    refine au_callV (n := 1) (kX0_laysPiles G t mi si hi sl r nx hF pn hPn hpn Pi hPi) (lw_V q1228 q1230 qs49 q130 q1231) rfl (by decide +kernel) (by decide) (T := TX0) (N := 15) rfl rfl rfl rfl (Nat.le_of_ble_eq_true rfl) (Nat.le_of_ble_eq_true rfl) (Nat.le_of_ble_eq_true rfl) (Nat.le_of_ble_eq_true rfl) (Nat.le_of_ble_eq_true rfl) dX0_ask_15 (fun rv_ M_ hp_ => ?_)
    obtain ⟨rfl, sj, rfl, hA, hW⟩ := hp_
    show au_Go G _ _ 18 [some (au_r XO), some (au_i t), none, none, none] [] (mi, sj, hi, sl, r, nx) 0 0
    refine au_iconst dX0_ask_18 rfl rfl ?_
    refine au_istore_n dX0_ask_19 (show 2 < 5 by decide) ?_
    show au_Go G _ _ 20 [some (au_r XO), some (au_i t), some (au_i (-1)), none, none] [] (mi, sj, hi, sl, r, nx) 0 0
    refine au_aload_n dX0_ask_20 rfl ?_
    refine au_getf (C := RX0) (T := TX0) (N := 15) in_X0 (by decide) rfl 14 (by decide) rfl rfl q259 rfl dX0_ask_21 (v := au_i (sj XO 14)) (by rfl) ?_
    refine au_istore_n dX0_ask_24 (show 3 < 5 by decide) ?_
    show au_Go G _ _ 25 [some (au_r XO), some (au_i t), some (au_i (-1)), some (au_i (sj XO 14)), none] [] (mi, sj, hi, sl, r, nx) 0 0
    refine au_iconst dX0_ask_25 rfl rfl ?_
    refine au_istore dX0_ask_26 (show 4 < 5 by decide) ?_
    show au_Go G _ _ 28 [some (au_r XO), some (au_i t), some (au_i (-1)), some (au_i (sj XO 14)), some (au_i 0)] [] (mi, sj, hi, sl, r, nx) 0 0
    rw [hA]
    have hl : ∀ (f : Nat) (k : Nat), ((k : Int) ≤ pn) → (pn - (k : Int)) < (f : Int) → au_Go G (yX0_ask.cls, cX0_ask, 5, (some .int), au_rm 2 0 0, yX0_ask.name) (au_QM G (au_rm 2 0 0) (fun rv M' => rv = some (au_i (if 0 ≤ t ∧ t ≤ 9999 then (axF (fun j : Nat => wcF Pi pn.toNat t (j : Int) (2 ^ pn.toNat)) (cntF Pi pn.toNat t (2 ^ pn.toNat)) pn.toNat).1 else -1)) ∧ ∃ sj : au_A → Int → Int, M' = (mi, sj, hi, sl, r, nx))) 28 [some (au_r XO), some (au_i t), some (au_i ((axF (fun j : Nat => wcF Pi pn.toNat t (j : Int) (2 ^ pn.toNat)) (cntF Pi pn.toNat t (2 ^ pn.toNat)) k).1)), some (au_i ((axF (fun j : Nat => wcF Pi pn.toNat t (j : Int) (2 ^ pn.toNat)) (cntF Pi pn.toNat t (2 ^ pn.toNat)) k).2)), some (au_i (k : Int))] [] (mi, sj, hi, sl, r, nx) 0 0 := by
      intro f
      induction f with
      | zero => intro k h1 hf; exfalso; omega
      | succ f ih =>
        intro k h1 hf
        refine au_iload dX0_ask_28 rfl ?_
        refine au_aload_n dX0_ask_30 rfl ?_
        refine au_getf (C := RX0) (T := TX0) (N := 15) in_X0 (by decide) rfl 0 (by decide) rfl rfl q245 rfl dX0_ask_31 (v := au_r XN) (congrArg au_q (fx_XO_0 hF)) ?_
        refine au_getN (C := RX1) (T := TX1) (N := 11) in_X1 (by decide) rfl 0 (by decide) rfl rfl q187 rfl dX0_ask_34 (v := au_r XNn) (congrArg au_q (fx_XN_0 hF)) ?_
        refine au_iconst dX0_ask_37 rfl rfl ?_
        refine au_iald dX0_ask_38 rfl (by omega) (by show _ < ((6 : Nat) : Int); omega) (v := au_i (pn)) (congrArg au_i (hPn)) ?_
        refine au_icmp_ge (tgt := 93) dX0_ask_39 (by decide) (fun c39 => ?_) (fun c39 => ?_)
        · refine au_iload_n dX0_ask_93 rfl ?_
          exact au_iret dX0_ask_94 rfl rfl (Nat.le_of_ble_eq_true rfl) (Nat.le_of_ble_eq_true rfl) (⟨by rw [if_pos (by omega), show pn.toNat = k by omega], sj, rfl⟩)
        · have hcb := cntF_bd Pi pn.toNat t (2 ^ pn.toNat)
          have hp8 : 2 ^ pn.toNat ≤ 2 ^ 8 := Nat.pow_le_pow_right (by decide) (by omega)
          have hwb := wcF_bd Pi pn.toNat t (k : Int) (2 ^ pn.toNat)
          have hWk := hW k (by omega)
          refine au_iconst dX0_ask_42 rfl rfl ?_
          refine au_aload_n dX0_ask_43 rfl ?_
          refine au_getf (C := RX0) (T := TX0) (N := 15) in_X0 (by decide) rfl 13 (by decide) rfl rfl q258 rfl dX0_ask_44 (v := au_r XWith) (congrArg au_q (fx_XO_13 hF)) ?_
          refine au_iload dX0_ask_47 rfl ?_
          refine au_iald dX0_ask_49 rfl (by omega) (by show _ < ((8 : Nat) : Int); omega) (v := au_i (sj XWith (k : Int))) (by rfl) ?_
          refine au_imul dX0_ask_50 (by omega) (by omega) ?_
          refine au_aload_n dX0_ask_51 rfl ?_
          refine au_getf (C := RX0) (T := TX0) (N := 15) in_X0 (by decide) rfl 14 (by decide) rfl rfl q259 rfl dX0_ask_52 (v := au_i (sj XO 14)) (by rfl) ?_
          refine au_isub dX0_ask_55 (by omega) (by omega) ?_
          refine au_mabs q1237 q1238 q144 q1239 rfl rfl (Nat.le_of_ble_eq_true rfl) (Nat.le_of_ble_eq_true rfl) (Nat.le_of_ble_eq_true rfl) (Nat.le_of_ble_eq_true rfl) (Nat.le_of_ble_eq_true rfl) dX0_ask_56 (by omega) ?_
          show au_Go G _ _ 59 [some (au_r XO), some (au_i t), some (au_i ((axF (fun j : Nat => wcF Pi pn.toNat t (j : Int) (2 ^ pn.toNat)) (cntF Pi pn.toNat t (2 ^ pn.toNat)) k).1)), some (au_i ((axF (fun j : Nat => wcF Pi pn.toNat t (j : Int) (2 ^ pn.toNat)) (cntF Pi pn.toNat t (2 ^ pn.toNat)) k).2)), some (au_i (k : Int))] [au_i (max ((2 * (sj XWith (k : Int))) - (sj XO 14)) (-((2 * (sj XWith (k : Int))) - (sj XO 14))))] (mi, sj, hi, sl, r, nx) 0 0
          refine au_iload_n dX0_ask_59 rfl ?_
          refine au_icmp_lt (tgt := 66) dX0_ask_60 (by decide) (fun c60 => ?_) (fun c60 => ?_)
          · refine au_iload dX0_ask_66 rfl ?_
            refine au_istore_n dX0_ask_68 (show 2 < 5 by decide) ?_
            show au_Go G _ _ 69 [some (au_r XO), some (au_i t), some (au_i (k : Int)), some (au_i ((axF (fun j : Nat => wcF Pi pn.toNat t (j : Int) (2 ^ pn.toNat)) (cntF Pi pn.toNat t (2 ^ pn.toNat)) k).2)), some (au_i (k : Int))] [] (mi, sj, hi, sl, r, nx) 0 0
            refine au_iconst dX0_ask_69 rfl rfl ?_
            refine au_aload_n dX0_ask_70 rfl ?_
            refine au_getf (C := RX0) (T := TX0) (N := 15) in_X0 (by decide) rfl 13 (by decide) rfl rfl q258 rfl dX0_ask_71 (v := au_r XWith) (congrArg au_q (fx_XO_13 hF)) ?_
            refine au_iload dX0_ask_74 rfl ?_
            refine au_iald dX0_ask_76 rfl (by omega) (by show _ < ((8 : Nat) : Int); omega) (v := au_i (sj XWith (k : Int))) (by rfl) ?_
            refine au_imul dX0_ask_77 (by omega) (by omega) ?_
            refine au_aload_n dX0_ask_78 rfl ?_
            refine au_getf (C := RX0) (T := TX0) (N := 15) in_X0 (by decide) rfl 14 (by decide) rfl rfl q259 rfl dX0_ask_79 (v := au_i (sj XO 14)) (by rfl) ?_
            refine au_isub dX0_ask_82 (by omega) (by omega) ?_
            refine au_mabs q1237 q1238 q144 q1239 rfl rfl (Nat.le_of_ble_eq_true rfl) (Nat.le_of_ble_eq_true rfl) (Nat.le_of_ble_eq_true rfl) (Nat.le_of_ble_eq_true rfl) (Nat.le_of_ble_eq_true rfl) dX0_ask_83 (by omega) ?_
            show au_Go G _ _ 86 [some (au_r XO), some (au_i t), some (au_i (k : Int)), some (au_i ((axF (fun j : Nat => wcF Pi pn.toNat t (j : Int) (2 ^ pn.toNat)) (cntF Pi pn.toNat t (2 ^ pn.toNat)) k).2)), some (au_i (k : Int))] [au_i (max ((2 * (sj XWith (k : Int))) - (sj XO 14)) (-((2 * (sj XWith (k : Int))) - (sj XO 14))))] (mi, sj, hi, sl, r, nx) 0 0
            refine au_istore_n dX0_ask_86 (show 3 < 5 by decide) ?_
            show au_Go G _ _ 87 [some (au_r XO), some (au_i t), some (au_i (k : Int)), some (au_i (max ((2 * (sj XWith (k : Int))) - (sj XO 14)) (-((2 * (sj XWith (k : Int))) - (sj XO 14))))), some (au_i (k : Int))] [] (mi, sj, hi, sl, r, nx) 0 0
            refine au_iinc dX0_ask_87 rfl (show 4 < 5 by decide) (by omega) (by omega) (by decide) (by decide) ?_
            show au_Go G _ _ 90 [some (au_r XO), some (au_i t), some (au_i (k : Int)), some (au_i (max ((2 * (sj XWith (k : Int))) - (sj XO 14)) (-((2 * (sj XWith (k : Int))) - (sj XO 14))))), some (au_i ((k : Int) + 1))] [] (mi, sj, hi, sl, r, nx) 0 0
            refine au_goto (tgt := 28) dX0_ask_90 (by decide) ?_
            have e1 : ∀ z : Int × Int, z = axF (fun j : Nat => wcF Pi pn.toNat t (j : Int) (2 ^ pn.toNat)) (cntF Pi pn.toNat t (2 ^ pn.toNat)) (k + 1) → au_Go G (yX0_ask.cls, cX0_ask, 5, (some .int), au_rm 2 0 0, yX0_ask.name) (au_QM G (au_rm 2 0 0) (fun rv M' => rv = some (au_i (if 0 ≤ t ∧ t ≤ 9999 then (axF (fun j : Nat => wcF Pi pn.toNat t (j : Int) (2 ^ pn.toNat)) (cntF Pi pn.toNat t (2 ^ pn.toNat)) pn.toNat).1 else -1)) ∧ ∃ sj : au_A → Int → Int, M' = (mi, sj, hi, sl, r, nx))) 28 [some (au_r XO), some (au_i t), some (au_i z.1), some (au_i z.2), some (au_i ((k : Int) + 1))] [] (mi, sj, hi, sl, r, nx) 0 0 := fun z hz => by rw [hz]; exact ih (k + 1) (by omega) (by omega)
            by_cases hx : max (2 * (fun j : Nat => wcF Pi pn.toNat t (j : Int) (2 ^ pn.toNat)) k - (cntF Pi pn.toNat t (2 ^ pn.toNat))) (-(2 * (fun j : Nat => wcF Pi pn.toNat t (j : Int) (2 ^ pn.toNat)) k - (cntF Pi pn.toNat t (2 ^ pn.toNat)))) < (axF (fun j : Nat => wcF Pi pn.toNat t (j : Int) (2 ^ pn.toNat)) (cntF Pi pn.toNat t (2 ^ pn.toNat)) k).2
            · first
              | (exfalso; simp only at hx; omega)
              | (have e2 := e1 _ rfl
                 simp only [axF] at e2
                 rw [if_pos hx] at e2
                 simp only at e2
                 rw [hA, hWk]
                 exact e2)
            · first
              | (exfalso; simp only at hx; omega)
              | exact e1 _ (by simp only [axF]; exact (if_neg hx).symm)
          · refine au_goto (tgt := 87) dX0_ask_63 (by decide) ?_
            refine au_iinc dX0_ask_87 rfl (show 4 < 5 by decide) (by omega) (by omega) (by decide) (by decide) ?_
            show au_Go G _ _ 90 [some (au_r XO), some (au_i t), some (au_i ((axF (fun j : Nat => wcF Pi pn.toNat t (j : Int) (2 ^ pn.toNat)) (cntF Pi pn.toNat t (2 ^ pn.toNat)) k).1)), some (au_i ((axF (fun j : Nat => wcF Pi pn.toNat t (j : Int) (2 ^ pn.toNat)) (cntF Pi pn.toNat t (2 ^ pn.toNat)) k).2)), some (au_i ((k : Int) + 1))] [] (mi, sj, hi, sl, r, nx) 0 0
            refine au_goto (tgt := 28) dX0_ask_90 (by decide) ?_
            have e1 : ∀ z : Int × Int, z = axF (fun j : Nat => wcF Pi pn.toNat t (j : Int) (2 ^ pn.toNat)) (cntF Pi pn.toNat t (2 ^ pn.toNat)) (k + 1) → au_Go G (yX0_ask.cls, cX0_ask, 5, (some .int), au_rm 2 0 0, yX0_ask.name) (au_QM G (au_rm 2 0 0) (fun rv M' => rv = some (au_i (if 0 ≤ t ∧ t ≤ 9999 then (axF (fun j : Nat => wcF Pi pn.toNat t (j : Int) (2 ^ pn.toNat)) (cntF Pi pn.toNat t (2 ^ pn.toNat)) pn.toNat).1 else -1)) ∧ ∃ sj : au_A → Int → Int, M' = (mi, sj, hi, sl, r, nx))) 28 [some (au_r XO), some (au_i t), some (au_i z.1), some (au_i z.2), some (au_i ((k : Int) + 1))] [] (mi, sj, hi, sl, r, nx) 0 0 := fun z hz => by rw [hz]; exact ih (k + 1) (by omega) (by omega)
            by_cases hx : max (2 * (fun j : Nat => wcF Pi pn.toNat t (j : Int) (2 ^ pn.toNat)) k - (cntF Pi pn.toNat t (2 ^ pn.toNat))) (-(2 * (fun j : Nat => wcF Pi pn.toNat t (j : Int) (2 ^ pn.toNat)) k - (cntF Pi pn.toNat t (2 ^ pn.toNat)))) < (axF (fun j : Nat => wcF Pi pn.toNat t (j : Int) (2 ^ pn.toNat)) (cntF Pi pn.toNat t (2 ^ pn.toNat)) k).2
            · first
              | (exfalso; simp only at hx; omega)
              | (have e2 := e1 _ rfl
                 simp only [axF] at e2
                 rw [if_pos hx] at e2
                 simp only at e2
                 rw [hA, hWk]
                 exact e2)
            · first
              | (exfalso; simp only at hx; omega)
              | exact e1 _ (by simp only [axF]; exact (if_neg hx).symm)
    exact hl 9 0 (by omega) (by omega)
  · have c8 := au_b0 c8
    refine au_iconst dX0_ask_11 rfl rfl ?_
    exact au_iret dX0_ask_12 rfl rfl (Nat.le_of_ble_eq_true rfl) (Nat.le_of_ble_eq_true rfl) (⟨by rw [if_neg (by omega)], si, rfl⟩)
theorem kX2_piles (G : au_G) (t w : Int) (mi si hi sl : au_A → Int → Int) (r : au_A → Int → Option au_A) (nx : Nat) (hF : Fix r) (pn : Int) (hPn : mi MA 4 = pn) (hpn : 0 ≤ pn ∧ pn ≤ 8) (Pi : Int → Int) (hPi : ∀ o, 0 ≤ o → o < 8 → mi MA (120 + o) = Pi o) : au_Ctr G yX2_piles cX2_piles 5 (some .int) 2 0 0 [au_r MO, au_i t, au_i w] (mi, si, hi, sl, r, nx) (fun rv M' => rv = some (au_i (plR Pi pn.toNat t w)) ∧ ∃ sj : au_A → Int → Int, M' = (mi, sj, hi, sl, r, nx)) := by
  refine au_of (by decide) (Nat.le_of_ble_eq_true rfl) ?_
  show au_Go G _ _ 0 [some (au_r MO), some (au_i t), some (au_i w), none, none] [] (mi, si, hi, sl, r, nx) 0 0
  refine au_iload_n dX2_piles_0 rfl ?_
  refine au_iconst dX2_piles_1 rfl rfl ?_
  refine au_sipush dX2_piles_2 rfl rfl ?_
  refine au_callSp (n := 3) (kX2_isIn G t 0 9999 (mi, si, hi, sl, r, nx)) (lw_S q1475 q1476 q134 q1477) (by decide +kernel) rfl rfl rfl (Nat.le_of_ble_eq_true rfl) (Nat.le_of_ble_eq_true rfl) (Nat.le_of_ble_eq_true rfl) (Nat.le_of_ble_eq_true rfl) (Nat.le_of_ble_eq_true rfl) dX2_piles_5 ?_
  refine au_if_eq (tgt := 20) dX2_piles_8 (by decide) (fun c8 => ?_) (fun c8 => ?_)
  · have c8 := au_b0 c8
    refine au_iconst dX2_piles_20 rfl rfl ?_
    exact au_iret dX2_piles_21 rfl rfl (Nat.le_of_ble_eq_true rfl) (Nat.le_of_ble_eq_true rfl) (⟨by unfold plR; rw [if_neg (by omega)], si, rfl⟩)
  · have c8 := au_b1 c8
    refine au_iload_n dX2_piles_11 rfl ?_
    refine au_iconst dX2_piles_12 rfl rfl ?_
    refine au_iconst dX2_piles_13 rfl rfl ?_
    refine au_callSp (n := 3) (kX2_isIn G w 0 2 (mi, si, hi, sl, r, nx)) (lw_S q1475 q1476 q134 q1477) (by decide +kernel) rfl rfl rfl (Nat.le_of_ble_eq_true rfl) (Nat.le_of_ble_eq_true rfl) (Nat.le_of_ble_eq_true rfl) (Nat.le_of_ble_eq_true rfl) (Nat.le_of_ble_eq_true rfl) dX2_piles_14 ?_
    refine au_if_ne (tgt := 22) dX2_piles_17 (by decide) (fun c17 => ?_) (fun c17 => ?_)
    · have c17 := au_b1 c17
      refine au_aload_n dX2_piles_22 rfl ?_
      refine au_iload_n dX2_piles_23 rfl ?_
      refine au_callV (n := 1) (kX2_laySets G t mi si hi sl r nx hF pn hPn hpn Pi hPi) (lw_V q1930 q1932 qs125 q134 q1933) rfl (by decide +kernel) (by decide) (T := TX2) (N := 35) rfl rfl rfl rfl (Nat.le_of_ble_eq_true rfl) (Nat.le_of_ble_eq_true rfl) (Nat.le_of_ble_eq_true rfl) (Nat.le_of_ble_eq_true rfl) (Nat.le_of_ble_eq_true rfl) dX2_piles_24 (fun rv_ M_ hp_ => ?_)
      obtain ⟨rfl, sj, rfl, hA, hW⟩ := hp_
      show au_Go G _ _ 27 [some (au_r MO), some (au_i t), some (au_i w), none, none] [] (mi, sj, hi, sl, r, nx) 0 0
      refine au_iconst dX2_piles_27 rfl rfl ?_
      refine au_istore_n dX2_piles_28 (show 3 < 5 by decide) ?_
      show au_Go G _ _ 29 [some (au_r MO), some (au_i t), some (au_i w), some (au_i 0), none] [] (mi, sj, hi, sl, r, nx) 0 0
      refine au_iconst dX2_piles_29 rfl rfl ?_
      refine au_istore dX2_piles_30 (show 4 < 5 by decide) ?_
      show au_Go G _ _ 32 [some (au_r MO), some (au_i t), some (au_i w), some (au_i 0), some (au_i 0)] [] (mi, sj, hi, sl, r, nx) 0 0
      have hl : ∀ (f : Nat) (k : Nat), ((k : Int) ≤ pn) → (pn - (k : Int)) < (f : Int) → au_Go G (yX2_piles.cls, cX2_piles, 5, (some .int), au_rm 2 0 0, yX2_piles.name) (au_QM G (au_rm 2 0 0) (fun rv M' => rv = some (au_i (plR Pi pn.toNat t w)) ∧ ∃ sj : au_A → Int → Int, M' = (mi, sj, hi, sl, r, nx))) 32 [some (au_r MO), some (au_i t), some (au_i w), some (au_i ((bsN (plP Pi pn.toNat t w) k : Nat) : Int)), some (au_i (k : Int))] [] (mi, sj, hi, sl, r, nx) 0 0 := by
        intro f
        induction f with
        | zero => intro k h1 hf; exfalso; omega
        | succ f ih =>
          intro k h1 hf
          refine au_iload dX2_piles_32 rfl ?_
          refine au_aload_n dX2_piles_34 rfl ?_
          refine au_getf (C := RX2) (T := TX2) (N := 35) in_X2 (by decide) rfl 0 (by decide) rfl rfl q1359 rfl dX2_piles_35 (v := au_r MA) (congrArg au_q (fx_MO_0 hF)) ?_
          refine au_iconst dX2_piles_38 rfl rfl ?_
          refine au_iald dX2_piles_39 rfl (by omega) (by show _ < ((4544 : Nat) : Int); omega) (v := au_i (pn)) (congrArg au_i (hPn)) ?_
          refine au_icmp_ge (tgt := 90) dX2_piles_40 (by decide) (fun c40 => ?_) (fun c40 => ?_)
          · refine au_iload_n dX2_piles_90 rfl ?_
            refine au_if_ne (tgt := 101) dX2_piles_91 (by decide) (fun c91 => ?_) (fun c91 => ?_)
            · refine au_iload_n dX2_piles_101 rfl ?_
              refine au_iret dX2_piles_102 rfl rfl (Nat.le_of_ble_eq_true rfl) (Nat.le_of_ble_eq_true rfl) ?_
              first
              | exact ⟨by unfold plR; rw [if_pos (by omega), if_pos c91, hA], sj, rfl⟩
              | exact ⟨by unfold plR; rw [if_pos (by omega), if_neg c91, show pn.toNat = k by omega], sj, rfl⟩
              | exact ⟨by unfold plR; rw [if_pos (by omega), if_neg c91, plP_none (by omega), plP_none (by omega)], sj, rfl⟩
            · refine au_aload_n dX2_piles_94 rfl ?_
              refine au_getf (C := RX2) (T := TX2) (N := 35) in_X2 (by decide) rfl 34 (by decide) rfl rfl q1393 rfl dX2_piles_95 (v := au_i (sj MO 34)) (by rfl) ?_
              refine au_goto (tgt := 102) dX2_piles_98 (by decide) ?_
              refine au_iret dX2_piles_102 rfl rfl (Nat.le_of_ble_eq_true rfl) (Nat.le_of_ble_eq_true rfl) ?_
              first
              | exact ⟨by unfold plR; rw [if_pos (by omega), if_pos c91, hA], sj, rfl⟩
              | exact ⟨by unfold plR; rw [if_pos (by omega), if_neg c91, show pn.toNat = k by omega], sj, rfl⟩
              | exact ⟨by unfold plR; rw [if_pos (by omega), if_neg c91, plP_none (by omega), plP_none (by omega)], sj, rfl⟩
          · refine au_aload_n dX2_piles_43 rfl ?_
            refine au_getf (C := RX2) (T := TX2) (N := 35) in_X2 (by decide) rfl 34 (by decide) rfl rfl q1393 rfl dX2_piles_44 (v := au_i (sj MO 34)) (by rfl) ?_
            refine au_if_le (tgt := 90) dX2_piles_47 (by decide) (fun c47 => ?_) (fun c47 => ?_)
            · refine au_iload_n dX2_piles_90 rfl ?_
              refine au_if_ne (tgt := 101) dX2_piles_91 (by decide) (fun c91 => ?_) (fun c91 => ?_)
              · refine au_iload_n dX2_piles_101 rfl ?_
                refine au_iret dX2_piles_102 rfl rfl (Nat.le_of_ble_eq_true rfl) (Nat.le_of_ble_eq_true rfl) ?_
                first
                | exact ⟨by unfold plR; rw [if_pos (by omega), if_pos c91, hA], sj, rfl⟩
                | exact ⟨by unfold plR; rw [if_pos (by omega), if_neg c91, show pn.toNat = k by omega], sj, rfl⟩
                | exact ⟨by unfold plR; rw [if_pos (by omega), if_neg c91, plP_none (by omega), plP_none (by omega)], sj, rfl⟩
              · refine au_aload_n dX2_piles_94 rfl ?_
                refine au_getf (C := RX2) (T := TX2) (N := 35) in_X2 (by decide) rfl 34 (by decide) rfl rfl q1393 rfl dX2_piles_95 (v := au_i (sj MO 34)) (by rfl) ?_
                refine au_goto (tgt := 102) dX2_piles_98 (by decide) ?_
                refine au_iret dX2_piles_102 rfl rfl (Nat.le_of_ble_eq_true rfl) (Nat.le_of_ble_eq_true rfl) ?_
                first
                | exact ⟨by unfold plR; rw [if_pos (by omega), if_pos c91, hA], sj, rfl⟩
                | exact ⟨by unfold plR; rw [if_pos (by omega), if_neg c91, show pn.toNat = k by omega], sj, rfl⟩
                | exact ⟨by unfold plR; rw [if_pos (by omega), if_neg c91, plP_none (by omega), plP_none (by omega)], sj, rfl⟩
            · refine au_iload_n dX2_piles_50 rfl ?_
              refine au_aload_n dX2_piles_51 rfl ?_
              refine au_getf (C := RX2) (T := TX2) (N := 35) in_X2 (by decide) rfl 33 (by decide) rfl rfl q1392 rfl dX2_piles_52 (v := au_r MWith) (congrArg au_q (fx_MO_33 hF)) ?_
              refine au_iload dX2_piles_55 rfl ?_
              refine au_iald dX2_piles_57 rfl (by omega) (by show _ < ((8 : Nat) : Int); omega) (v := au_i (sj MWith (k : Int))) (by rfl) ?_
              refine au_iload_n dX2_piles_58 rfl ?_
              refine au_iconst dX2_piles_59 rfl rfl ?_
              refine au_icmp_ne (tgt := 70) dX2_piles_60 (by decide) (fun c60 => ?_) (fun c60 => ?_)
              · refine au_iconst dX2_piles_70 rfl rfl ?_
                refine au_icmp_ne (tgt := 81) dX2_piles_71 (by decide) (fun c71 => ?_) (fun c71 => ?_)
                · refine au_iconst dX2_piles_81 rfl rfl ?_
                  refine au_ior dX2_piles_82 ?_
                  refine au_istore_n dX2_piles_83 (show 3 < 5 by decide) ?_
                  show au_Go G _ _ 84 [some (au_r MO), some (au_i t), some (au_i w), some (au_i (au_or ((bsN (plP Pi pn.toNat t w) k : Nat) : Int) 0)), some (au_i (k : Int))] [] (mi, sj, hi, sl, r, nx) 0 0
                  refine au_iinc dX2_piles_84 rfl (show 4 < 5 by decide) (by omega) (by omega) (by decide) (by decide) ?_
                  show au_Go G _ _ 87 [some (au_r MO), some (au_i t), some (au_i w), some (au_i (au_or ((bsN (plP Pi pn.toNat t w) k : Nat) : Int) 0)), some (au_i ((k : Int) + 1))] [] (mi, sj, hi, sl, r, nx) 0 0
                  refine au_goto (tgt := 32) dX2_piles_87 (by decide) ?_
                  first
                  | (have hq : (plP Pi pn.toNat t w) k := by
                       refine ⟨by omega, ?_⟩
                       rw [← hA, ← hW k (by omega)]
                       first
                       | (rw [if_pos (by assumption)]; omega)
                       | (rw [if_neg (by assumption)]; omega)
                     rw [bsN_step (plP Pi pn.toNat t w) k (by omega) _ ⟨fun _ => rfl, fun q => absurd hq q⟩])
                  | (have hq : ¬ (plP Pi pn.toNat t w) k := by
                       rintro ⟨q1, q2⟩
                       rw [← hA, ← hW k (by omega)] at q2
                       first
                       | omega
                       | (rw [if_pos (by assumption)] at q2; omega)
                       | (rw [if_neg (by assumption)] at q2; omega)
                     rw [bsN_step (plP Pi pn.toNat t w) k (by omega) _ ⟨fun q => absurd q hq, fun _ => rfl⟩])
                  exact ih (k + 1) (by omega) (by omega)
                · refine au_iconst dX2_piles_74 rfl rfl ?_
                  refine au_iload dX2_piles_75 rfl ?_
                  refine au_ishl dX2_piles_77 ?_
                  refine au_goto (tgt := 82) dX2_piles_78 (by decide) ?_
                  refine au_ior dX2_piles_82 ?_
                  refine au_istore_n dX2_piles_83 (show 3 < 5 by decide) ?_
                  show au_Go G _ _ 84 [some (au_r MO), some (au_i t), some (au_i w), some (au_i (au_or ((bsN (plP Pi pn.toNat t w) k : Nat) : Int) (au_shl 1 (k : Int)))), some (au_i (k : Int))] [] (mi, sj, hi, sl, r, nx) 0 0
                  refine au_iinc dX2_piles_84 rfl (show 4 < 5 by decide) (by omega) (by omega) (by decide) (by decide) ?_
                  show au_Go G _ _ 87 [some (au_r MO), some (au_i t), some (au_i w), some (au_i (au_or ((bsN (plP Pi pn.toNat t w) k : Nat) : Int) (au_shl 1 (k : Int)))), some (au_i ((k : Int) + 1))] [] (mi, sj, hi, sl, r, nx) 0 0
                  refine au_goto (tgt := 32) dX2_piles_87 (by decide) ?_
                  first
                  | (have hq : (plP Pi pn.toNat t w) k := by
                       refine ⟨by omega, ?_⟩
                       rw [← hA, ← hW k (by omega)]
                       first
                       | (rw [if_pos (by assumption)]; omega)
                       | (rw [if_neg (by assumption)]; omega)
                     rw [bsN_step (plP Pi pn.toNat t w) k (by omega) _ ⟨fun _ => rfl, fun q => absurd hq q⟩])
                  | (have hq : ¬ (plP Pi pn.toNat t w) k := by
                       rintro ⟨q1, q2⟩
                       rw [← hA, ← hW k (by omega)] at q2
                       first
                       | omega
                       | (rw [if_pos (by assumption)] at q2; omega)
                       | (rw [if_neg (by assumption)] at q2; omega)
                     rw [bsN_step (plP Pi pn.toNat t w) k (by omega) _ ⟨fun q => absurd q hq, fun _ => rfl⟩])
                  exact ih (k + 1) (by omega) (by omega)
              · refine au_aload_n dX2_piles_63 rfl ?_
                refine au_getf (C := RX2) (T := TX2) (N := 35) in_X2 (by decide) rfl 34 (by decide) rfl rfl q1393 rfl dX2_piles_64 (v := au_i (sj MO 34)) (by rfl) ?_
                refine au_goto (tgt := 71) dX2_piles_67 (by decide) ?_
                refine au_icmp_ne (tgt := 81) dX2_piles_71 (by decide) (fun c71 => ?_) (fun c71 => ?_)
                · refine au_iconst dX2_piles_81 rfl rfl ?_
                  refine au_ior dX2_piles_82 ?_
                  refine au_istore_n dX2_piles_83 (show 3 < 5 by decide) ?_
                  show au_Go G _ _ 84 [some (au_r MO), some (au_i t), some (au_i w), some (au_i (au_or ((bsN (plP Pi pn.toNat t w) k : Nat) : Int) 0)), some (au_i (k : Int))] [] (mi, sj, hi, sl, r, nx) 0 0
                  refine au_iinc dX2_piles_84 rfl (show 4 < 5 by decide) (by omega) (by omega) (by decide) (by decide) ?_
                  show au_Go G _ _ 87 [some (au_r MO), some (au_i t), some (au_i w), some (au_i (au_or ((bsN (plP Pi pn.toNat t w) k : Nat) : Int) 0)), some (au_i ((k : Int) + 1))] [] (mi, sj, hi, sl, r, nx) 0 0
                  refine au_goto (tgt := 32) dX2_piles_87 (by decide) ?_
                  first
                  | (have hq : (plP Pi pn.toNat t w) k := by
                       refine ⟨by omega, ?_⟩
                       rw [← hA, ← hW k (by omega)]
                       first
                       | (rw [if_pos (by assumption)]; omega)
                       | (rw [if_neg (by assumption)]; omega)
                     rw [bsN_step (plP Pi pn.toNat t w) k (by omega) _ ⟨fun _ => rfl, fun q => absurd hq q⟩])
                  | (have hq : ¬ (plP Pi pn.toNat t w) k := by
                       rintro ⟨q1, q2⟩
                       rw [← hA, ← hW k (by omega)] at q2
                       first
                       | omega
                       | (rw [if_pos (by assumption)] at q2; omega)
                       | (rw [if_neg (by assumption)] at q2; omega)
                     rw [bsN_step (plP Pi pn.toNat t w) k (by omega) _ ⟨fun q => absurd q hq, fun _ => rfl⟩])
                  exact ih (k + 1) (by omega) (by omega)
                · refine au_iconst dX2_piles_74 rfl rfl ?_
                  refine au_iload dX2_piles_75 rfl ?_
                  refine au_ishl dX2_piles_77 ?_
                  refine au_goto (tgt := 82) dX2_piles_78 (by decide) ?_
                  refine au_ior dX2_piles_82 ?_
                  refine au_istore_n dX2_piles_83 (show 3 < 5 by decide) ?_
                  show au_Go G _ _ 84 [some (au_r MO), some (au_i t), some (au_i w), some (au_i (au_or ((bsN (plP Pi pn.toNat t w) k : Nat) : Int) (au_shl 1 (k : Int)))), some (au_i (k : Int))] [] (mi, sj, hi, sl, r, nx) 0 0
                  refine au_iinc dX2_piles_84 rfl (show 4 < 5 by decide) (by omega) (by omega) (by decide) (by decide) ?_
                  show au_Go G _ _ 87 [some (au_r MO), some (au_i t), some (au_i w), some (au_i (au_or ((bsN (plP Pi pn.toNat t w) k : Nat) : Int) (au_shl 1 (k : Int)))), some (au_i ((k : Int) + 1))] [] (mi, sj, hi, sl, r, nx) 0 0
                  refine au_goto (tgt := 32) dX2_piles_87 (by decide) ?_
                  first
                  | (have hq : (plP Pi pn.toNat t w) k := by
                       refine ⟨by omega, ?_⟩
                       rw [← hA, ← hW k (by omega)]
                       first
                       | (rw [if_pos (by assumption)]; omega)
                       | (rw [if_neg (by assumption)]; omega)
                     rw [bsN_step (plP Pi pn.toNat t w) k (by omega) _ ⟨fun _ => rfl, fun q => absurd hq q⟩])
                  | (have hq : ¬ (plP Pi pn.toNat t w) k := by
                       rintro ⟨q1, q2⟩
                       rw [← hA, ← hW k (by omega)] at q2
                       first
                       | omega
                       | (rw [if_pos (by assumption)] at q2; omega)
                       | (rw [if_neg (by assumption)] at q2; omega)
                     rw [bsN_step (plP Pi pn.toNat t w) k (by omega) _ ⟨fun q => absurd q hq, fun _ => rfl⟩])
                  exact ih (k + 1) (by omega) (by omega)
      exact hl 9 0 (by omega) (by omega)
    · have c17 := au_b0 c17
      refine au_iconst dX2_piles_20 rfl rfl ?_
      exact au_iret dX2_piles_21 rfl rfl (Nat.le_of_ble_eq_true rfl) (Nat.le_of_ble_eq_true rfl) (⟨by unfold plR; rw [if_neg (by omega)], si, rfl⟩)
theorem kX2_ask (G : au_G) (t : Int) (mi si hi sl : au_A → Int → Int) (r : au_A → Int → Option au_A) (nx : Nat) (hF : Fix r) (pn : Int) (hPn : mi MA 4 = pn) (hpn : 0 ≤ pn ∧ pn ≤ 8) (Pi : Int → Int) (hPi : ∀ o, 0 ≤ o → o < 8 → mi MA (120 + o) = Pi o) : au_Ctr G yX2_ask cX2_ask 6 (some .int) 2 0 0 [au_r MO, au_i t] (mi, si, hi, sl, r, nx) (fun rv M' => rv = some (au_i (if 0 ≤ t ∧ t ≤ 9999 then (amF (fun j : Nat => wcF Pi pn.toNat t (j : Int) (2 ^ pn.toNat)) (cntF Pi pn.toNat t (2 ^ pn.toNat)) pn.toNat).1 else -1)) ∧ ∃ sj : au_A → Int → Int, M' = (mi, sj, hi, sl, r, nx)) := by
  refine au_of (by decide) (Nat.le_of_ble_eq_true rfl) ?_
  show au_Go G _ _ 0 [some (au_r MO), some (au_i t), none, none, none, none] [] (mi, si, hi, sl, r, nx) 0 0
  refine au_iload_n dX2_ask_0 rfl ?_
  refine au_iconst dX2_ask_1 rfl rfl ?_
  refine au_sipush dX2_ask_2 rfl rfl ?_
  refine au_callSp (n := 3) (kX2_isIn G t 0 9999 (mi, si, hi, sl, r, nx)) (lw_S q1475 q1476 q134 q1477) (by decide +kernel) rfl rfl rfl (Nat.le_of_ble_eq_true rfl) (Nat.le_of_ble_eq_true rfl) (Nat.le_of_ble_eq_true rfl) (Nat.le_of_ble_eq_true rfl) (Nat.le_of_ble_eq_true rfl) dX2_ask_5 ?_
  refine au_if_ne (tgt := 13) dX2_ask_8 (by decide) (fun c8 => ?_) (fun c8 => ?_)
  · have c8 := au_b1 c8
    refine au_aload_n dX2_ask_13 rfl ?_
    refine au_iload_n dX2_ask_14 rfl ?_
    refine au_callV (n := 1) (kX2_laySets G t mi si hi sl r nx hF pn hPn hpn Pi hPi) (lw_V q1930 q1932 qs125 q134 q1933) rfl (by decide +kernel) (by decide) (T := TX2) (N := 35) rfl rfl rfl rfl (Nat.le_of_ble_eq_true rfl) (Nat.le_of_ble_eq_true rfl) (Nat.le_of_ble_eq_true rfl) (Nat.le_of_ble_eq_true rfl) (Nat.le_of_ble_eq_true rfl) dX2_ask_15 (fun rv_ M_ hp_ => ?_)
    obtain ⟨rfl, sj, rfl, hA, hW⟩ := hp_
    show au_Go G _ _ 18 [some (au_r MO), some (au_i t), none, none, none, none] [] (mi, sj, hi, sl, r, nx) 0 0
    refine au_iconst dX2_ask_18 rfl rfl ?_
    refine au_istore_n dX2_ask_19 (show 2 < 6 by decide) ?_
    show au_Go G _ _ 20 [some (au_r MO), some (au_i t), some (au_i (-1)), none, none, none] [] (mi, sj, hi, sl, r, nx) 0 0
    refine au_ldcw q1905 rfl dX2_ask_20 ?_
    show au_Go G _ _ 23 [some (au_r MO), some (au_i t), some (au_i (-1)), none, none, none] [au_i 1000000000] (mi, sj, hi, sl, r, nx) 0 0
    refine au_istore_n dX2_ask_23 (show 3 < 6 by decide) ?_
    show au_Go G _ _ 24 [some (au_r MO), some (au_i t), some (au_i (-1)), some (au_i 1000000000), none, none] [] (mi, sj, hi, sl, r, nx) 0 0
    refine au_iconst dX2_ask_24 rfl rfl ?_
    refine au_istore dX2_ask_25 (show 4 < 6 by decide) ?_
    show au_Go G _ _ 27 [some (au_r MO), some (au_i t), some (au_i (-1)), some (au_i 1000000000), some (au_i 0), none] [] (mi, sj, hi, sl, r, nx) 0 0
    have hl : ∀ (f : Nat) (k : Nat) (a5 : Option au_V), ((k : Int) ≤ pn) → pn - (k : Int) < (f : Int) → au_Go G (yX2_ask.cls, cX2_ask, 6, (some .int), au_rm 2 0 0, yX2_ask.name) (au_QM G (au_rm 2 0 0) (fun rv M' => rv = some (au_i (if 0 ≤ t ∧ t ≤ 9999 then (amF (fun j : Nat => wcF Pi pn.toNat t (j : Int) (2 ^ pn.toNat)) (cntF Pi pn.toNat t (2 ^ pn.toNat)) pn.toNat).1 else -1)) ∧ ∃ sj : au_A → Int → Int, M' = (mi, sj, hi, sl, r, nx))) 27 [some (au_r MO), some (au_i t), some (au_i ((amF (fun j : Nat => wcF Pi pn.toNat t (j : Int) (2 ^ pn.toNat)) (cntF Pi pn.toNat t (2 ^ pn.toNat)) k).1)), some (au_i ((amF (fun j : Nat => wcF Pi pn.toNat t (j : Int) (2 ^ pn.toNat)) (cntF Pi pn.toNat t (2 ^ pn.toNat)) k).2)), some (au_i (k : Int)), a5] [] (mi, sj, hi, sl, r, nx) 0 0 := by
      intro f
      induction f with
      | zero => intro k a5 h2 hf; exfalso; omega
      | succ f ih =>
        intro k a5 h1 hf
        refine au_iload dX2_ask_27 rfl ?_
        refine au_aload_n dX2_ask_29 rfl ?_
        refine au_getf (C := RX2) (T := TX2) (N := 35) in_X2 (by decide) rfl 0 (by decide) rfl rfl q1359 rfl dX2_ask_30 (v := au_r MA) (congrArg au_q (fx_MO_0 hF)) ?_
        refine au_iconst dX2_ask_33 rfl rfl ?_
        refine au_iald dX2_ask_34 rfl (by omega) (by show _ < ((4544 : Nat) : Int); omega) (v := au_i (pn)) (congrArg au_i (hPn)) ?_
        refine au_icmp_ge (tgt := 132) dX2_ask_35 (by decide) (fun c35 => ?_) (fun c35 => ?_)
        · refine au_iload_n dX2_ask_132 rfl ?_
          exact au_iret dX2_ask_133 rfl rfl (Nat.le_of_ble_eq_true rfl) (Nat.le_of_ble_eq_true rfl) (⟨by rw [if_pos (by omega), show pn.toNat = k by omega], sj, rfl⟩)
        · have hcb := cntF_bd Pi pn.toNat t (2 ^ pn.toNat)
          have hp8 : 2 ^ pn.toNat ≤ 2 ^ 8 := Nat.pow_le_pow_right (by decide) (by omega)
          have hwb := wcF_bd Pi pn.toNat t (k : Int) (2 ^ pn.toNat)
          have hWk := hW k (by omega)
          refine au_iconst dX2_ask_38 rfl rfl ?_
          refine au_aload_n dX2_ask_39 rfl ?_
          refine au_getf (C := RX2) (T := TX2) (N := 35) in_X2 (by decide) rfl 33 (by decide) rfl rfl q1392 rfl dX2_ask_40 (v := au_r MWith) (congrArg au_q (fx_MO_33 hF)) ?_
          refine au_iload dX2_ask_43 rfl ?_
          refine au_iald dX2_ask_45 rfl (by omega) (by show _ < ((8 : Nat) : Int); omega) (v := au_i (sj MWith (k : Int))) (by rfl) ?_
          refine au_imul dX2_ask_46 (by omega) (by omega) ?_
          refine au_aload_n dX2_ask_47 rfl ?_
          refine au_getf (C := RX2) (T := TX2) (N := 35) in_X2 (by decide) rfl 34 (by decide) rfl rfl q1393 rfl dX2_ask_48 (v := au_i (sj MO 34)) (by rfl) ?_
          refine au_icmp_le (tgt := 71) dX2_ask_51 (by decide) (fun c51 => ?_) (fun c51 => ?_)
          · refine au_aload_n dX2_ask_71 rfl ?_
            refine au_getf (C := RX2) (T := TX2) (N := 35) in_X2 (by decide) rfl 34 (by decide) rfl rfl q1393 rfl dX2_ask_72 (v := au_i (sj MO 34)) (by rfl) ?_
            refine au_iconst dX2_ask_75 rfl rfl ?_
            refine au_aload_n dX2_ask_76 rfl ?_
            refine au_getf (C := RX2) (T := TX2) (N := 35) in_X2 (by decide) rfl 33 (by decide) rfl rfl q1392 rfl dX2_ask_77 (v := au_r MWith) (congrArg au_q (fx_MO_33 hF)) ?_
            refine au_iload dX2_ask_80 rfl ?_
            refine au_iald dX2_ask_82 rfl (by omega) (by show _ < ((8 : Nat) : Int); omega) (v := au_i (sj MWith (k : Int))) (by rfl) ?_
            refine au_imul dX2_ask_83 (by omega) (by omega) ?_
            refine au_isub dX2_ask_84 (by omega) (by omega) ?_
            refine au_istore dX2_ask_85 (show 5 < 6 by decide) ?_
            show au_Go G _ _ 87 [some (au_r MO), some (au_i t), some (au_i ((amF (fun j : Nat => wcF Pi pn.toNat t (j : Int) (2 ^ pn.toNat)) (cntF Pi pn.toNat t (2 ^ pn.toNat)) k).1)), some (au_i ((amF (fun j : Nat => wcF Pi pn.toNat t (j : Int) (2 ^ pn.toNat)) (cntF Pi pn.toNat t (2 ^ pn.toNat)) k).2)), some (au_i (k : Int)), some (au_i ((sj MO 34) - (2 * (sj MWith (k : Int)))))] [] (mi, sj, hi, sl, r, nx) 0 0
            refine au_aload_n dX2_ask_87 rfl ?_
            refine au_getf (C := RX2) (T := TX2) (N := 35) in_X2 (by decide) rfl 33 (by decide) rfl rfl q1392 rfl dX2_ask_88 (v := au_r MWith) (congrArg au_q (fx_MO_33 hF)) ?_
            refine au_iload dX2_ask_91 rfl ?_
            refine au_iald dX2_ask_93 rfl (by omega) (by show _ < ((8 : Nat) : Int); omega) (v := au_i (sj MWith (k : Int))) (by rfl) ?_
            refine au_if_eq (tgt := 126) dX2_ask_94 (by decide) (fun c94 => ?_) (fun c94 => ?_)
            · refine au_iinc dX2_ask_126 rfl (show 4 < 6 by decide) (by omega) (by omega) (by decide) (by decide) ?_
              show au_Go G _ _ 129 [some (au_r MO), some (au_i t), some (au_i ((amF (fun j : Nat => wcF Pi pn.toNat t (j : Int) (2 ^ pn.toNat)) (cntF Pi pn.toNat t (2 ^ pn.toNat)) k).1)), some (au_i ((amF (fun j : Nat => wcF Pi pn.toNat t (j : Int) (2 ^ pn.toNat)) (cntF Pi pn.toNat t (2 ^ pn.toNat)) k).2)), some (au_i ((k : Int) + 1)), some (au_i ((sj MO 34) - (2 * (sj MWith (k : Int)))))] [] (mi, sj, hi, sl, r, nx) 0 0
              refine au_goto (tgt := 27) dX2_ask_129 (by decide) ?_
              have e1 : ∀ (z : Int × Int) (a : Option au_V), z = amF (fun j : Nat => wcF Pi pn.toNat t (j : Int) (2 ^ pn.toNat)) (cntF Pi pn.toNat t (2 ^ pn.toNat)) (k + 1) → au_Go G (yX2_ask.cls, cX2_ask, 6, (some .int), au_rm 2 0 0, yX2_ask.name) (au_QM G (au_rm 2 0 0) (fun rv M' => rv = some (au_i (if 0 ≤ t ∧ t ≤ 9999 then (amF (fun j : Nat => wcF Pi pn.toNat t (j : Int) (2 ^ pn.toNat)) (cntF Pi pn.toNat t (2 ^ pn.toNat)) pn.toNat).1 else -1)) ∧ ∃ sj : au_A → Int → Int, M' = (mi, sj, hi, sl, r, nx))) 27 [some (au_r MO), some (au_i t), some (au_i z.1), some (au_i z.2), some (au_i ((k : Int) + 1)), a] [] (mi, sj, hi, sl, r, nx) 0 0 := fun z a hz => by rw [hz]; exact ih (k + 1) a (by omega) (by omega)
              by_cases hx : (fun j : Nat => wcF Pi pn.toNat t (j : Int) (2 ^ pn.toNat)) k ≠ 0 ∧ (fun j : Nat => wcF Pi pn.toNat t (j : Int) (2 ^ pn.toNat)) k ≠ (cntF Pi pn.toNat t (2 ^ pn.toNat)) ∧ (if (cntF Pi pn.toNat t (2 ^ pn.toNat)) < 2 * (fun j : Nat => wcF Pi pn.toNat t (j : Int) (2 ^ pn.toNat)) k then 2 * (fun j : Nat => wcF Pi pn.toNat t (j : Int) (2 ^ pn.toNat)) k - (cntF Pi pn.toNat t (2 ^ pn.toNat)) else (cntF Pi pn.toNat t (2 ^ pn.toNat)) - 2 * (fun j : Nat => wcF Pi pn.toNat t (j : Int) (2 ^ pn.toNat)) k) < (amF (fun j : Nat => wcF Pi pn.toNat t (j : Int) (2 ^ pn.toNat)) (cntF Pi pn.toNat t (2 ^ pn.toNat)) k).2
              · first
                | (exfalso; obtain ⟨x1, x2, x3⟩ := hx; simp only at x1 x2 x3; split at x3 <;> omega)
                | (have e2 := e1 _ (some (au_i (if (cntF Pi pn.toNat t (2 ^ pn.toNat)) < 2 * (fun j : Nat => wcF Pi pn.toNat t (j : Int) (2 ^ pn.toNat)) k then 2 * (fun j : Nat => wcF Pi pn.toNat t (j : Int) (2 ^ pn.toNat)) k - (cntF Pi pn.toNat t (2 ^ pn.toNat)) else (cntF Pi pn.toNat t (2 ^ pn.toNat)) - 2 * (fun j : Nat => wcF Pi pn.toNat t (j : Int) (2 ^ pn.toNat)) k))) rfl
                   simp only [amF] at e2
                   rw [if_pos hx] at e2
                   simp only at e2
                   rw [hA, hWk]
                   by_cases hy : (cntF Pi pn.toNat t (2 ^ pn.toNat)) < 2 * wcF Pi pn.toNat t (k : Int) (2 ^ pn.toNat)
                   · first
                     | (exfalso; omega)
                     | (rw [if_pos hy] at e2; exact e2)
                   · first
                     | (exfalso; omega)
                     | (rw [if_neg hy] at e2; exact e2))
              · first
                | (exfalso; apply hx; refine ⟨by simp only; omega, by simp only; omega, ?_⟩; simp only; split <;> omega)
                | exact e1 _ _ (by simp only [amF]; exact (if_neg hx).symm)
            · refine au_aload_n dX2_ask_97 rfl ?_
              refine au_getf (C := RX2) (T := TX2) (N := 35) in_X2 (by decide) rfl 33 (by decide) rfl rfl q1392 rfl dX2_ask_98 (v := au_r MWith) (congrArg au_q (fx_MO_33 hF)) ?_
              refine au_iload dX2_ask_101 rfl ?_
              refine au_iald dX2_ask_103 rfl (by omega) (by show _ < ((8 : Nat) : Int); omega) (v := au_i (sj MWith (k : Int))) (by rfl) ?_
              refine au_aload_n dX2_ask_104 rfl ?_
              refine au_getf (C := RX2) (T := TX2) (N := 35) in_X2 (by decide) rfl 34 (by decide) rfl rfl q1393 rfl dX2_ask_105 (v := au_i (sj MO 34)) (by rfl) ?_
              refine au_icmp_eq (tgt := 126) dX2_ask_108 (by decide) (fun c108 => ?_) (fun c108 => ?_)
              · refine au_iinc dX2_ask_126 rfl (show 4 < 6 by decide) (by omega) (by omega) (by decide) (by decide) ?_
                show au_Go G _ _ 129 [some (au_r MO), some (au_i t), some (au_i ((amF (fun j : Nat => wcF Pi pn.toNat t (j : Int) (2 ^ pn.toNat)) (cntF Pi pn.toNat t (2 ^ pn.toNat)) k).1)), some (au_i ((amF (fun j : Nat => wcF Pi pn.toNat t (j : Int) (2 ^ pn.toNat)) (cntF Pi pn.toNat t (2 ^ pn.toNat)) k).2)), some (au_i ((k : Int) + 1)), some (au_i ((sj MO 34) - (2 * (sj MWith (k : Int)))))] [] (mi, sj, hi, sl, r, nx) 0 0
                refine au_goto (tgt := 27) dX2_ask_129 (by decide) ?_
                have e1 : ∀ (z : Int × Int) (a : Option au_V), z = amF (fun j : Nat => wcF Pi pn.toNat t (j : Int) (2 ^ pn.toNat)) (cntF Pi pn.toNat t (2 ^ pn.toNat)) (k + 1) → au_Go G (yX2_ask.cls, cX2_ask, 6, (some .int), au_rm 2 0 0, yX2_ask.name) (au_QM G (au_rm 2 0 0) (fun rv M' => rv = some (au_i (if 0 ≤ t ∧ t ≤ 9999 then (amF (fun j : Nat => wcF Pi pn.toNat t (j : Int) (2 ^ pn.toNat)) (cntF Pi pn.toNat t (2 ^ pn.toNat)) pn.toNat).1 else -1)) ∧ ∃ sj : au_A → Int → Int, M' = (mi, sj, hi, sl, r, nx))) 27 [some (au_r MO), some (au_i t), some (au_i z.1), some (au_i z.2), some (au_i ((k : Int) + 1)), a] [] (mi, sj, hi, sl, r, nx) 0 0 := fun z a hz => by rw [hz]; exact ih (k + 1) a (by omega) (by omega)
                by_cases hx : (fun j : Nat => wcF Pi pn.toNat t (j : Int) (2 ^ pn.toNat)) k ≠ 0 ∧ (fun j : Nat => wcF Pi pn.toNat t (j : Int) (2 ^ pn.toNat)) k ≠ (cntF Pi pn.toNat t (2 ^ pn.toNat)) ∧ (if (cntF Pi pn.toNat t (2 ^ pn.toNat)) < 2 * (fun j : Nat => wcF Pi pn.toNat t (j : Int) (2 ^ pn.toNat)) k then 2 * (fun j : Nat => wcF Pi pn.toNat t (j : Int) (2 ^ pn.toNat)) k - (cntF Pi pn.toNat t (2 ^ pn.toNat)) else (cntF Pi pn.toNat t (2 ^ pn.toNat)) - 2 * (fun j : Nat => wcF Pi pn.toNat t (j : Int) (2 ^ pn.toNat)) k) < (amF (fun j : Nat => wcF Pi pn.toNat t (j : Int) (2 ^ pn.toNat)) (cntF Pi pn.toNat t (2 ^ pn.toNat)) k).2
                · first
                  | (exfalso; obtain ⟨x1, x2, x3⟩ := hx; simp only at x1 x2 x3; split at x3 <;> omega)
                  | (have e2 := e1 _ (some (au_i (if (cntF Pi pn.toNat t (2 ^ pn.toNat)) < 2 * (fun j : Nat => wcF Pi pn.toNat t (j : Int) (2 ^ pn.toNat)) k then 2 * (fun j : Nat => wcF Pi pn.toNat t (j : Int) (2 ^ pn.toNat)) k - (cntF Pi pn.toNat t (2 ^ pn.toNat)) else (cntF Pi pn.toNat t (2 ^ pn.toNat)) - 2 * (fun j : Nat => wcF Pi pn.toNat t (j : Int) (2 ^ pn.toNat)) k))) rfl
                     simp only [amF] at e2
                     rw [if_pos hx] at e2
                     simp only at e2
                     rw [hA, hWk]
                     by_cases hy : (cntF Pi pn.toNat t (2 ^ pn.toNat)) < 2 * wcF Pi pn.toNat t (k : Int) (2 ^ pn.toNat)
                     · first
                       | (exfalso; omega)
                       | (rw [if_pos hy] at e2; exact e2)
                     · first
                       | (exfalso; omega)
                       | (rw [if_neg hy] at e2; exact e2))
                · first
                  | (exfalso; apply hx; refine ⟨by simp only; omega, by simp only; omega, ?_⟩; simp only; split <;> omega)
                  | exact e1 _ _ (by simp only [amF]; exact (if_neg hx).symm)
              · refine au_iload dX2_ask_111 rfl ?_
                refine au_iload_n dX2_ask_113 rfl ?_
                refine au_icmp_lt (tgt := 120) dX2_ask_114 (by decide) (fun c114 => ?_) (fun c114 => ?_)
                · refine au_iload dX2_ask_120 rfl ?_
                  refine au_istore_n dX2_ask_122 (show 3 < 6 by decide) ?_
                  show au_Go G _ _ 123 [some (au_r MO), some (au_i t), some (au_i ((amF (fun j : Nat => wcF Pi pn.toNat t (j : Int) (2 ^ pn.toNat)) (cntF Pi pn.toNat t (2 ^ pn.toNat)) k).1)), some (au_i ((sj MO 34) - (2 * (sj MWith (k : Int))))), some (au_i (k : Int)), some (au_i ((sj MO 34) - (2 * (sj MWith (k : Int)))))] [] (mi, sj, hi, sl, r, nx) 0 0
                  refine au_iload dX2_ask_123 rfl ?_
                  refine au_istore_n dX2_ask_125 (show 2 < 6 by decide) ?_
                  show au_Go G _ _ 126 [some (au_r MO), some (au_i t), some (au_i (k : Int)), some (au_i ((sj MO 34) - (2 * (sj MWith (k : Int))))), some (au_i (k : Int)), some (au_i ((sj MO 34) - (2 * (sj MWith (k : Int)))))] [] (mi, sj, hi, sl, r, nx) 0 0
                  refine au_iinc dX2_ask_126 rfl (show 4 < 6 by decide) (by omega) (by omega) (by decide) (by decide) ?_
                  show au_Go G _ _ 129 [some (au_r MO), some (au_i t), some (au_i (k : Int)), some (au_i ((sj MO 34) - (2 * (sj MWith (k : Int))))), some (au_i ((k : Int) + 1)), some (au_i ((sj MO 34) - (2 * (sj MWith (k : Int)))))] [] (mi, sj, hi, sl, r, nx) 0 0
                  refine au_goto (tgt := 27) dX2_ask_129 (by decide) ?_
                  have e1 : ∀ (z : Int × Int) (a : Option au_V), z = amF (fun j : Nat => wcF Pi pn.toNat t (j : Int) (2 ^ pn.toNat)) (cntF Pi pn.toNat t (2 ^ pn.toNat)) (k + 1) → au_Go G (yX2_ask.cls, cX2_ask, 6, (some .int), au_rm 2 0 0, yX2_ask.name) (au_QM G (au_rm 2 0 0) (fun rv M' => rv = some (au_i (if 0 ≤ t ∧ t ≤ 9999 then (amF (fun j : Nat => wcF Pi pn.toNat t (j : Int) (2 ^ pn.toNat)) (cntF Pi pn.toNat t (2 ^ pn.toNat)) pn.toNat).1 else -1)) ∧ ∃ sj : au_A → Int → Int, M' = (mi, sj, hi, sl, r, nx))) 27 [some (au_r MO), some (au_i t), some (au_i z.1), some (au_i z.2), some (au_i ((k : Int) + 1)), a] [] (mi, sj, hi, sl, r, nx) 0 0 := fun z a hz => by rw [hz]; exact ih (k + 1) a (by omega) (by omega)
                  by_cases hx : (fun j : Nat => wcF Pi pn.toNat t (j : Int) (2 ^ pn.toNat)) k ≠ 0 ∧ (fun j : Nat => wcF Pi pn.toNat t (j : Int) (2 ^ pn.toNat)) k ≠ (cntF Pi pn.toNat t (2 ^ pn.toNat)) ∧ (if (cntF Pi pn.toNat t (2 ^ pn.toNat)) < 2 * (fun j : Nat => wcF Pi pn.toNat t (j : Int) (2 ^ pn.toNat)) k then 2 * (fun j : Nat => wcF Pi pn.toNat t (j : Int) (2 ^ pn.toNat)) k - (cntF Pi pn.toNat t (2 ^ pn.toNat)) else (cntF Pi pn.toNat t (2 ^ pn.toNat)) - 2 * (fun j : Nat => wcF Pi pn.toNat t (j : Int) (2 ^ pn.toNat)) k) < (amF (fun j : Nat => wcF Pi pn.toNat t (j : Int) (2 ^ pn.toNat)) (cntF Pi pn.toNat t (2 ^ pn.toNat)) k).2
                  · first
                    | (exfalso; obtain ⟨x1, x2, x3⟩ := hx; simp only at x1 x2 x3; split at x3 <;> omega)
                    | (have e2 := e1 _ (some (au_i (if (cntF Pi pn.toNat t (2 ^ pn.toNat)) < 2 * (fun j : Nat => wcF Pi pn.toNat t (j : Int) (2 ^ pn.toNat)) k then 2 * (fun j : Nat => wcF Pi pn.toNat t (j : Int) (2 ^ pn.toNat)) k - (cntF Pi pn.toNat t (2 ^ pn.toNat)) else (cntF Pi pn.toNat t (2 ^ pn.toNat)) - 2 * (fun j : Nat => wcF Pi pn.toNat t (j : Int) (2 ^ pn.toNat)) k))) rfl
                       simp only [amF] at e2
                       rw [if_pos hx] at e2
                       simp only at e2
                       rw [hA, hWk]
                       by_cases hy : (cntF Pi pn.toNat t (2 ^ pn.toNat)) < 2 * wcF Pi pn.toNat t (k : Int) (2 ^ pn.toNat)
                       · first
                         | (exfalso; omega)
                         | (rw [if_pos hy] at e2; exact e2)
                       · first
                         | (exfalso; omega)
                         | (rw [if_neg hy] at e2; exact e2))
                  · first
                    | (exfalso; apply hx; refine ⟨by simp only; omega, by simp only; omega, ?_⟩; simp only; split <;> omega)
                    | exact e1 _ _ (by simp only [amF]; exact (if_neg hx).symm)
                · refine au_goto (tgt := 126) dX2_ask_117 (by decide) ?_
                  refine au_iinc dX2_ask_126 rfl (show 4 < 6 by decide) (by omega) (by omega) (by decide) (by decide) ?_
                  show au_Go G _ _ 129 [some (au_r MO), some (au_i t), some (au_i ((amF (fun j : Nat => wcF Pi pn.toNat t (j : Int) (2 ^ pn.toNat)) (cntF Pi pn.toNat t (2 ^ pn.toNat)) k).1)), some (au_i ((amF (fun j : Nat => wcF Pi pn.toNat t (j : Int) (2 ^ pn.toNat)) (cntF Pi pn.toNat t (2 ^ pn.toNat)) k).2)), some (au_i ((k : Int) + 1)), some (au_i ((sj MO 34) - (2 * (sj MWith (k : Int)))))] [] (mi, sj, hi, sl, r, nx) 0 0
                  refine au_goto (tgt := 27) dX2_ask_129 (by decide) ?_
                  have e1 : ∀ (z : Int × Int) (a : Option au_V), z = amF (fun j : Nat => wcF Pi pn.toNat t (j : Int) (2 ^ pn.toNat)) (cntF Pi pn.toNat t (2 ^ pn.toNat)) (k + 1) → au_Go G (yX2_ask.cls, cX2_ask, 6, (some .int), au_rm 2 0 0, yX2_ask.name) (au_QM G (au_rm 2 0 0) (fun rv M' => rv = some (au_i (if 0 ≤ t ∧ t ≤ 9999 then (amF (fun j : Nat => wcF Pi pn.toNat t (j : Int) (2 ^ pn.toNat)) (cntF Pi pn.toNat t (2 ^ pn.toNat)) pn.toNat).1 else -1)) ∧ ∃ sj : au_A → Int → Int, M' = (mi, sj, hi, sl, r, nx))) 27 [some (au_r MO), some (au_i t), some (au_i z.1), some (au_i z.2), some (au_i ((k : Int) + 1)), a] [] (mi, sj, hi, sl, r, nx) 0 0 := fun z a hz => by rw [hz]; exact ih (k + 1) a (by omega) (by omega)
                  by_cases hx : (fun j : Nat => wcF Pi pn.toNat t (j : Int) (2 ^ pn.toNat)) k ≠ 0 ∧ (fun j : Nat => wcF Pi pn.toNat t (j : Int) (2 ^ pn.toNat)) k ≠ (cntF Pi pn.toNat t (2 ^ pn.toNat)) ∧ (if (cntF Pi pn.toNat t (2 ^ pn.toNat)) < 2 * (fun j : Nat => wcF Pi pn.toNat t (j : Int) (2 ^ pn.toNat)) k then 2 * (fun j : Nat => wcF Pi pn.toNat t (j : Int) (2 ^ pn.toNat)) k - (cntF Pi pn.toNat t (2 ^ pn.toNat)) else (cntF Pi pn.toNat t (2 ^ pn.toNat)) - 2 * (fun j : Nat => wcF Pi pn.toNat t (j : Int) (2 ^ pn.toNat)) k) < (amF (fun j : Nat => wcF Pi pn.toNat t (j : Int) (2 ^ pn.toNat)) (cntF Pi pn.toNat t (2 ^ pn.toNat)) k).2
                  · first
                    | (exfalso; obtain ⟨x1, x2, x3⟩ := hx; simp only at x1 x2 x3; split at x3 <;> omega)
                    | (have e2 := e1 _ (some (au_i (if (cntF Pi pn.toNat t (2 ^ pn.toNat)) < 2 * (fun j : Nat => wcF Pi pn.toNat t (j : Int) (2 ^ pn.toNat)) k then 2 * (fun j : Nat => wcF Pi pn.toNat t (j : Int) (2 ^ pn.toNat)) k - (cntF Pi pn.toNat t (2 ^ pn.toNat)) else (cntF Pi pn.toNat t (2 ^ pn.toNat)) - 2 * (fun j : Nat => wcF Pi pn.toNat t (j : Int) (2 ^ pn.toNat)) k))) rfl
                       simp only [amF] at e2
                       rw [if_pos hx] at e2
                       simp only at e2
                       rw [hA, hWk]
                       by_cases hy : (cntF Pi pn.toNat t (2 ^ pn.toNat)) < 2 * wcF Pi pn.toNat t (k : Int) (2 ^ pn.toNat)
                       · first
                         | (exfalso; omega)
                         | (rw [if_pos hy] at e2; exact e2)
                       · first
                         | (exfalso; omega)
                         | (rw [if_neg hy] at e2; exact e2))
                  · first
                    | (exfalso; apply hx; refine ⟨by simp only; omega, by simp only; omega, ?_⟩; simp only; split <;> omega)
                    | exact e1 _ _ (by simp only [amF]; exact (if_neg hx).symm)
          · refine au_iconst dX2_ask_54 rfl rfl ?_
            refine au_aload_n dX2_ask_55 rfl ?_
            refine au_getf (C := RX2) (T := TX2) (N := 35) in_X2 (by decide) rfl 33 (by decide) rfl rfl q1392 rfl dX2_ask_56 (v := au_r MWith) (congrArg au_q (fx_MO_33 hF)) ?_
            refine au_iload dX2_ask_59 rfl ?_
            refine au_iald dX2_ask_61 rfl (by omega) (by show _ < ((8 : Nat) : Int); omega) (v := au_i (sj MWith (k : Int))) (by rfl) ?_
            refine au_imul dX2_ask_62 (by omega) (by omega) ?_
            refine au_aload_n dX2_ask_63 rfl ?_
            refine au_getf (C := RX2) (T := TX2) (N := 35) in_X2 (by decide) rfl 34 (by decide) rfl rfl q1393 rfl dX2_ask_64 (v := au_i (sj MO 34)) (by rfl) ?_
            refine au_isub dX2_ask_67 (by omega) (by omega) ?_
            refine au_goto (tgt := 85) dX2_ask_68 (by decide) ?_
            refine au_istore dX2_ask_85 (show 5 < 6 by decide) ?_
            show au_Go G _ _ 87 [some (au_r MO), some (au_i t), some (au_i ((amF (fun j : Nat => wcF Pi pn.toNat t (j : Int) (2 ^ pn.toNat)) (cntF Pi pn.toNat t (2 ^ pn.toNat)) k).1)), some (au_i ((amF (fun j : Nat => wcF Pi pn.toNat t (j : Int) (2 ^ pn.toNat)) (cntF Pi pn.toNat t (2 ^ pn.toNat)) k).2)), some (au_i (k : Int)), some (au_i ((2 * (sj MWith (k : Int))) - (sj MO 34)))] [] (mi, sj, hi, sl, r, nx) 0 0
            refine au_aload_n dX2_ask_87 rfl ?_
            refine au_getf (C := RX2) (T := TX2) (N := 35) in_X2 (by decide) rfl 33 (by decide) rfl rfl q1392 rfl dX2_ask_88 (v := au_r MWith) (congrArg au_q (fx_MO_33 hF)) ?_
            refine au_iload dX2_ask_91 rfl ?_
            refine au_iald dX2_ask_93 rfl (by omega) (by show _ < ((8 : Nat) : Int); omega) (v := au_i (sj MWith (k : Int))) (by rfl) ?_
            refine au_if_eq (tgt := 126) dX2_ask_94 (by decide) (fun c94 => ?_) (fun c94 => ?_)
            · refine au_iinc dX2_ask_126 rfl (show 4 < 6 by decide) (by omega) (by omega) (by decide) (by decide) ?_
              show au_Go G _ _ 129 [some (au_r MO), some (au_i t), some (au_i ((amF (fun j : Nat => wcF Pi pn.toNat t (j : Int) (2 ^ pn.toNat)) (cntF Pi pn.toNat t (2 ^ pn.toNat)) k).1)), some (au_i ((amF (fun j : Nat => wcF Pi pn.toNat t (j : Int) (2 ^ pn.toNat)) (cntF Pi pn.toNat t (2 ^ pn.toNat)) k).2)), some (au_i ((k : Int) + 1)), some (au_i ((2 * (sj MWith (k : Int))) - (sj MO 34)))] [] (mi, sj, hi, sl, r, nx) 0 0
              refine au_goto (tgt := 27) dX2_ask_129 (by decide) ?_
              have e1 : ∀ (z : Int × Int) (a : Option au_V), z = amF (fun j : Nat => wcF Pi pn.toNat t (j : Int) (2 ^ pn.toNat)) (cntF Pi pn.toNat t (2 ^ pn.toNat)) (k + 1) → au_Go G (yX2_ask.cls, cX2_ask, 6, (some .int), au_rm 2 0 0, yX2_ask.name) (au_QM G (au_rm 2 0 0) (fun rv M' => rv = some (au_i (if 0 ≤ t ∧ t ≤ 9999 then (amF (fun j : Nat => wcF Pi pn.toNat t (j : Int) (2 ^ pn.toNat)) (cntF Pi pn.toNat t (2 ^ pn.toNat)) pn.toNat).1 else -1)) ∧ ∃ sj : au_A → Int → Int, M' = (mi, sj, hi, sl, r, nx))) 27 [some (au_r MO), some (au_i t), some (au_i z.1), some (au_i z.2), some (au_i ((k : Int) + 1)), a] [] (mi, sj, hi, sl, r, nx) 0 0 := fun z a hz => by rw [hz]; exact ih (k + 1) a (by omega) (by omega)
              by_cases hx : (fun j : Nat => wcF Pi pn.toNat t (j : Int) (2 ^ pn.toNat)) k ≠ 0 ∧ (fun j : Nat => wcF Pi pn.toNat t (j : Int) (2 ^ pn.toNat)) k ≠ (cntF Pi pn.toNat t (2 ^ pn.toNat)) ∧ (if (cntF Pi pn.toNat t (2 ^ pn.toNat)) < 2 * (fun j : Nat => wcF Pi pn.toNat t (j : Int) (2 ^ pn.toNat)) k then 2 * (fun j : Nat => wcF Pi pn.toNat t (j : Int) (2 ^ pn.toNat)) k - (cntF Pi pn.toNat t (2 ^ pn.toNat)) else (cntF Pi pn.toNat t (2 ^ pn.toNat)) - 2 * (fun j : Nat => wcF Pi pn.toNat t (j : Int) (2 ^ pn.toNat)) k) < (amF (fun j : Nat => wcF Pi pn.toNat t (j : Int) (2 ^ pn.toNat)) (cntF Pi pn.toNat t (2 ^ pn.toNat)) k).2
              · first
                | (exfalso; obtain ⟨x1, x2, x3⟩ := hx; simp only at x1 x2 x3; split at x3 <;> omega)
                | (have e2 := e1 _ (some (au_i (if (cntF Pi pn.toNat t (2 ^ pn.toNat)) < 2 * (fun j : Nat => wcF Pi pn.toNat t (j : Int) (2 ^ pn.toNat)) k then 2 * (fun j : Nat => wcF Pi pn.toNat t (j : Int) (2 ^ pn.toNat)) k - (cntF Pi pn.toNat t (2 ^ pn.toNat)) else (cntF Pi pn.toNat t (2 ^ pn.toNat)) - 2 * (fun j : Nat => wcF Pi pn.toNat t (j : Int) (2 ^ pn.toNat)) k))) rfl
                   simp only [amF] at e2
                   rw [if_pos hx] at e2
                   simp only at e2
                   rw [hA, hWk]
                   by_cases hy : (cntF Pi pn.toNat t (2 ^ pn.toNat)) < 2 * wcF Pi pn.toNat t (k : Int) (2 ^ pn.toNat)
                   · first
                     | (exfalso; omega)
                     | (rw [if_pos hy] at e2; exact e2)
                   · first
                     | (exfalso; omega)
                     | (rw [if_neg hy] at e2; exact e2))
              · first
                | (exfalso; apply hx; refine ⟨by simp only; omega, by simp only; omega, ?_⟩; simp only; split <;> omega)
                | exact e1 _ _ (by simp only [amF]; exact (if_neg hx).symm)
            · refine au_aload_n dX2_ask_97 rfl ?_
              refine au_getf (C := RX2) (T := TX2) (N := 35) in_X2 (by decide) rfl 33 (by decide) rfl rfl q1392 rfl dX2_ask_98 (v := au_r MWith) (congrArg au_q (fx_MO_33 hF)) ?_
              refine au_iload dX2_ask_101 rfl ?_
              refine au_iald dX2_ask_103 rfl (by omega) (by show _ < ((8 : Nat) : Int); omega) (v := au_i (sj MWith (k : Int))) (by rfl) ?_
              refine au_aload_n dX2_ask_104 rfl ?_
              refine au_getf (C := RX2) (T := TX2) (N := 35) in_X2 (by decide) rfl 34 (by decide) rfl rfl q1393 rfl dX2_ask_105 (v := au_i (sj MO 34)) (by rfl) ?_
              refine au_icmp_eq (tgt := 126) dX2_ask_108 (by decide) (fun c108 => ?_) (fun c108 => ?_)
              · refine au_iinc dX2_ask_126 rfl (show 4 < 6 by decide) (by omega) (by omega) (by decide) (by decide) ?_
                show au_Go G _ _ 129 [some (au_r MO), some (au_i t), some (au_i ((amF (fun j : Nat => wcF Pi pn.toNat t (j : Int) (2 ^ pn.toNat)) (cntF Pi pn.toNat t (2 ^ pn.toNat)) k).1)), some (au_i ((amF (fun j : Nat => wcF Pi pn.toNat t (j : Int) (2 ^ pn.toNat)) (cntF Pi pn.toNat t (2 ^ pn.toNat)) k).2)), some (au_i ((k : Int) + 1)), some (au_i ((2 * (sj MWith (k : Int))) - (sj MO 34)))] [] (mi, sj, hi, sl, r, nx) 0 0
                refine au_goto (tgt := 27) dX2_ask_129 (by decide) ?_
                have e1 : ∀ (z : Int × Int) (a : Option au_V), z = amF (fun j : Nat => wcF Pi pn.toNat t (j : Int) (2 ^ pn.toNat)) (cntF Pi pn.toNat t (2 ^ pn.toNat)) (k + 1) → au_Go G (yX2_ask.cls, cX2_ask, 6, (some .int), au_rm 2 0 0, yX2_ask.name) (au_QM G (au_rm 2 0 0) (fun rv M' => rv = some (au_i (if 0 ≤ t ∧ t ≤ 9999 then (amF (fun j : Nat => wcF Pi pn.toNat t (j : Int) (2 ^ pn.toNat)) (cntF Pi pn.toNat t (2 ^ pn.toNat)) pn.toNat).1 else -1)) ∧ ∃ sj : au_A → Int → Int, M' = (mi, sj, hi, sl, r, nx))) 27 [some (au_r MO), some (au_i t), some (au_i z.1), some (au_i z.2), some (au_i ((k : Int) + 1)), a] [] (mi, sj, hi, sl, r, nx) 0 0 := fun z a hz => by rw [hz]; exact ih (k + 1) a (by omega) (by omega)
                by_cases hx : (fun j : Nat => wcF Pi pn.toNat t (j : Int) (2 ^ pn.toNat)) k ≠ 0 ∧ (fun j : Nat => wcF Pi pn.toNat t (j : Int) (2 ^ pn.toNat)) k ≠ (cntF Pi pn.toNat t (2 ^ pn.toNat)) ∧ (if (cntF Pi pn.toNat t (2 ^ pn.toNat)) < 2 * (fun j : Nat => wcF Pi pn.toNat t (j : Int) (2 ^ pn.toNat)) k then 2 * (fun j : Nat => wcF Pi pn.toNat t (j : Int) (2 ^ pn.toNat)) k - (cntF Pi pn.toNat t (2 ^ pn.toNat)) else (cntF Pi pn.toNat t (2 ^ pn.toNat)) - 2 * (fun j : Nat => wcF Pi pn.toNat t (j : Int) (2 ^ pn.toNat)) k) < (amF (fun j : Nat => wcF Pi pn.toNat t (j : Int) (2 ^ pn.toNat)) (cntF Pi pn.toNat t (2 ^ pn.toNat)) k).2
                · first
                  | (exfalso; obtain ⟨x1, x2, x3⟩ := hx; simp only at x1 x2 x3; split at x3 <;> omega)
                  | (have e2 := e1 _ (some (au_i (if (cntF Pi pn.toNat t (2 ^ pn.toNat)) < 2 * (fun j : Nat => wcF Pi pn.toNat t (j : Int) (2 ^ pn.toNat)) k then 2 * (fun j : Nat => wcF Pi pn.toNat t (j : Int) (2 ^ pn.toNat)) k - (cntF Pi pn.toNat t (2 ^ pn.toNat)) else (cntF Pi pn.toNat t (2 ^ pn.toNat)) - 2 * (fun j : Nat => wcF Pi pn.toNat t (j : Int) (2 ^ pn.toNat)) k))) rfl
                     simp only [amF] at e2
                     rw [if_pos hx] at e2
                     simp only at e2
                     rw [hA, hWk]
                     by_cases hy : (cntF Pi pn.toNat t (2 ^ pn.toNat)) < 2 * wcF Pi pn.toNat t (k : Int) (2 ^ pn.toNat)
                     · first
                       | (exfalso; omega)
                       | (rw [if_pos hy] at e2; exact e2)
                     · first
                       | (exfalso; omega)
                       | (rw [if_neg hy] at e2; exact e2))
                · first
                  | (exfalso; apply hx; refine ⟨by simp only; omega, by simp only; omega, ?_⟩; simp only; split <;> omega)
                  | exact e1 _ _ (by simp only [amF]; exact (if_neg hx).symm)
              · refine au_iload dX2_ask_111 rfl ?_
                refine au_iload_n dX2_ask_113 rfl ?_
                refine au_icmp_lt (tgt := 120) dX2_ask_114 (by decide) (fun c114 => ?_) (fun c114 => ?_)
                · refine au_iload dX2_ask_120 rfl ?_
                  refine au_istore_n dX2_ask_122 (show 3 < 6 by decide) ?_
                  show au_Go G _ _ 123 [some (au_r MO), some (au_i t), some (au_i ((amF (fun j : Nat => wcF Pi pn.toNat t (j : Int) (2 ^ pn.toNat)) (cntF Pi pn.toNat t (2 ^ pn.toNat)) k).1)), some (au_i ((2 * (sj MWith (k : Int))) - (sj MO 34))), some (au_i (k : Int)), some (au_i ((2 * (sj MWith (k : Int))) - (sj MO 34)))] [] (mi, sj, hi, sl, r, nx) 0 0
                  refine au_iload dX2_ask_123 rfl ?_
                  refine au_istore_n dX2_ask_125 (show 2 < 6 by decide) ?_
                  show au_Go G _ _ 126 [some (au_r MO), some (au_i t), some (au_i (k : Int)), some (au_i ((2 * (sj MWith (k : Int))) - (sj MO 34))), some (au_i (k : Int)), some (au_i ((2 * (sj MWith (k : Int))) - (sj MO 34)))] [] (mi, sj, hi, sl, r, nx) 0 0
                  refine au_iinc dX2_ask_126 rfl (show 4 < 6 by decide) (by omega) (by omega) (by decide) (by decide) ?_
                  show au_Go G _ _ 129 [some (au_r MO), some (au_i t), some (au_i (k : Int)), some (au_i ((2 * (sj MWith (k : Int))) - (sj MO 34))), some (au_i ((k : Int) + 1)), some (au_i ((2 * (sj MWith (k : Int))) - (sj MO 34)))] [] (mi, sj, hi, sl, r, nx) 0 0
                  refine au_goto (tgt := 27) dX2_ask_129 (by decide) ?_
                  have e1 : ∀ (z : Int × Int) (a : Option au_V), z = amF (fun j : Nat => wcF Pi pn.toNat t (j : Int) (2 ^ pn.toNat)) (cntF Pi pn.toNat t (2 ^ pn.toNat)) (k + 1) → au_Go G (yX2_ask.cls, cX2_ask, 6, (some .int), au_rm 2 0 0, yX2_ask.name) (au_QM G (au_rm 2 0 0) (fun rv M' => rv = some (au_i (if 0 ≤ t ∧ t ≤ 9999 then (amF (fun j : Nat => wcF Pi pn.toNat t (j : Int) (2 ^ pn.toNat)) (cntF Pi pn.toNat t (2 ^ pn.toNat)) pn.toNat).1 else -1)) ∧ ∃ sj : au_A → Int → Int, M' = (mi, sj, hi, sl, r, nx))) 27 [some (au_r MO), some (au_i t), some (au_i z.1), some (au_i z.2), some (au_i ((k : Int) + 1)), a] [] (mi, sj, hi, sl, r, nx) 0 0 := fun z a hz => by rw [hz]; exact ih (k + 1) a (by omega) (by omega)
                  by_cases hx : (fun j : Nat => wcF Pi pn.toNat t (j : Int) (2 ^ pn.toNat)) k ≠ 0 ∧ (fun j : Nat => wcF Pi pn.toNat t (j : Int) (2 ^ pn.toNat)) k ≠ (cntF Pi pn.toNat t (2 ^ pn.toNat)) ∧ (if (cntF Pi pn.toNat t (2 ^ pn.toNat)) < 2 * (fun j : Nat => wcF Pi pn.toNat t (j : Int) (2 ^ pn.toNat)) k then 2 * (fun j : Nat => wcF Pi pn.toNat t (j : Int) (2 ^ pn.toNat)) k - (cntF Pi pn.toNat t (2 ^ pn.toNat)) else (cntF Pi pn.toNat t (2 ^ pn.toNat)) - 2 * (fun j : Nat => wcF Pi pn.toNat t (j : Int) (2 ^ pn.toNat)) k) < (amF (fun j : Nat => wcF Pi pn.toNat t (j : Int) (2 ^ pn.toNat)) (cntF Pi pn.toNat t (2 ^ pn.toNat)) k).2
                  · first
                    | (exfalso; obtain ⟨x1, x2, x3⟩ := hx; simp only at x1 x2 x3; split at x3 <;> omega)
                    | (have e2 := e1 _ (some (au_i (if (cntF Pi pn.toNat t (2 ^ pn.toNat)) < 2 * (fun j : Nat => wcF Pi pn.toNat t (j : Int) (2 ^ pn.toNat)) k then 2 * (fun j : Nat => wcF Pi pn.toNat t (j : Int) (2 ^ pn.toNat)) k - (cntF Pi pn.toNat t (2 ^ pn.toNat)) else (cntF Pi pn.toNat t (2 ^ pn.toNat)) - 2 * (fun j : Nat => wcF Pi pn.toNat t (j : Int) (2 ^ pn.toNat)) k))) rfl
                       simp only [amF] at e2
                       rw [if_pos hx] at e2
                       simp only at e2
                       rw [hA, hWk]
                       by_cases hy : (cntF Pi pn.toNat t (2 ^ pn.toNat)) < 2 * wcF Pi pn.toNat t (k : Int) (2 ^ pn.toNat)
                       · first
                         | (exfalso; omega)
                         | (rw [if_pos hy] at e2; exact e2)
                       · first
                         | (exfalso; omega)
                         | (rw [if_neg hy] at e2; exact e2))
                  · first
                    | (exfalso; apply hx; refine ⟨by simp only; omega, by simp only; omega, ?_⟩; simp only; split <;> omega)
                    | exact e1 _ _ (by simp only [amF]; exact (if_neg hx).symm)
                · refine au_goto (tgt := 126) dX2_ask_117 (by decide) ?_
                  refine au_iinc dX2_ask_126 rfl (show 4 < 6 by decide) (by omega) (by omega) (by decide) (by decide) ?_
                  show au_Go G _ _ 129 [some (au_r MO), some (au_i t), some (au_i ((amF (fun j : Nat => wcF Pi pn.toNat t (j : Int) (2 ^ pn.toNat)) (cntF Pi pn.toNat t (2 ^ pn.toNat)) k).1)), some (au_i ((amF (fun j : Nat => wcF Pi pn.toNat t (j : Int) (2 ^ pn.toNat)) (cntF Pi pn.toNat t (2 ^ pn.toNat)) k).2)), some (au_i ((k : Int) + 1)), some (au_i ((2 * (sj MWith (k : Int))) - (sj MO 34)))] [] (mi, sj, hi, sl, r, nx) 0 0
                  refine au_goto (tgt := 27) dX2_ask_129 (by decide) ?_
                  have e1 : ∀ (z : Int × Int) (a : Option au_V), z = amF (fun j : Nat => wcF Pi pn.toNat t (j : Int) (2 ^ pn.toNat)) (cntF Pi pn.toNat t (2 ^ pn.toNat)) (k + 1) → au_Go G (yX2_ask.cls, cX2_ask, 6, (some .int), au_rm 2 0 0, yX2_ask.name) (au_QM G (au_rm 2 0 0) (fun rv M' => rv = some (au_i (if 0 ≤ t ∧ t ≤ 9999 then (amF (fun j : Nat => wcF Pi pn.toNat t (j : Int) (2 ^ pn.toNat)) (cntF Pi pn.toNat t (2 ^ pn.toNat)) pn.toNat).1 else -1)) ∧ ∃ sj : au_A → Int → Int, M' = (mi, sj, hi, sl, r, nx))) 27 [some (au_r MO), some (au_i t), some (au_i z.1), some (au_i z.2), some (au_i ((k : Int) + 1)), a] [] (mi, sj, hi, sl, r, nx) 0 0 := fun z a hz => by rw [hz]; exact ih (k + 1) a (by omega) (by omega)
                  by_cases hx : (fun j : Nat => wcF Pi pn.toNat t (j : Int) (2 ^ pn.toNat)) k ≠ 0 ∧ (fun j : Nat => wcF Pi pn.toNat t (j : Int) (2 ^ pn.toNat)) k ≠ (cntF Pi pn.toNat t (2 ^ pn.toNat)) ∧ (if (cntF Pi pn.toNat t (2 ^ pn.toNat)) < 2 * (fun j : Nat => wcF Pi pn.toNat t (j : Int) (2 ^ pn.toNat)) k then 2 * (fun j : Nat => wcF Pi pn.toNat t (j : Int) (2 ^ pn.toNat)) k - (cntF Pi pn.toNat t (2 ^ pn.toNat)) else (cntF Pi pn.toNat t (2 ^ pn.toNat)) - 2 * (fun j : Nat => wcF Pi pn.toNat t (j : Int) (2 ^ pn.toNat)) k) < (amF (fun j : Nat => wcF Pi pn.toNat t (j : Int) (2 ^ pn.toNat)) (cntF Pi pn.toNat t (2 ^ pn.toNat)) k).2
                  · first
                    | (exfalso; obtain ⟨x1, x2, x3⟩ := hx; simp only at x1 x2 x3; split at x3 <;> omega)
                    | (have e2 := e1 _ (some (au_i (if (cntF Pi pn.toNat t (2 ^ pn.toNat)) < 2 * (fun j : Nat => wcF Pi pn.toNat t (j : Int) (2 ^ pn.toNat)) k then 2 * (fun j : Nat => wcF Pi pn.toNat t (j : Int) (2 ^ pn.toNat)) k - (cntF Pi pn.toNat t (2 ^ pn.toNat)) else (cntF Pi pn.toNat t (2 ^ pn.toNat)) - 2 * (fun j : Nat => wcF Pi pn.toNat t (j : Int) (2 ^ pn.toNat)) k))) rfl
                       simp only [amF] at e2
                       rw [if_pos hx] at e2
                       simp only at e2
                       rw [hA, hWk]
                       by_cases hy : (cntF Pi pn.toNat t (2 ^ pn.toNat)) < 2 * wcF Pi pn.toNat t (k : Int) (2 ^ pn.toNat)
                       · first
                         | (exfalso; omega)
                         | (rw [if_pos hy] at e2; exact e2)
                       · first
                         | (exfalso; omega)
                         | (rw [if_neg hy] at e2; exact e2))
                  · first
                    | (exfalso; apply hx; refine ⟨by simp only; omega, by simp only; omega, ?_⟩; simp only; split <;> omega)
                    | exact e1 _ _ (by simp only [amF]; exact (if_neg hx).symm)
    exact hl 9 0 _ (by omega) (by omega)
  · have c8 := au_b0 c8
    refine au_iconst dX2_ask_11 rfl rfl ?_
    exact au_iret dX2_ask_12 rfl rfl (Nat.le_of_ble_eq_true rfl) (Nat.le_of_ble_eq_true rfl) (⟨by rw [if_neg (by omega)], si, rfl⟩)
