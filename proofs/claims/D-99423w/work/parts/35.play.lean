/-! A PLAY, all in all, of both systems (printed by tools/m35.py) -/
set_option maxRecDepth 100000
set_option maxHeartbeats 4000000

/-- a play from its end: what the one pays, what the other, who bows -/
def pwF (Tc : Int → Int → Int) (o f s : Int) : Nat → Int × Int × Int
  | 0 => (f, s, -1)
  | j + 1 =>
    if (8 - (j : Int)) % 2 = 0 then (if (pwF Tc o f s j).1 < Tc o ((8 - (j : Int)) / 2) then pwF Tc o f s j else (Tc o ((8 - (j : Int)) / 2), 0, o))
    else (if (pwF Tc o f s j).2.1 < Tc (1 - o) ((8 - (j : Int)) / 2) then pwF Tc o f s j else (0, Tc (1 - o) ((8 - (j : Int)) / 2), 1 - o))
def plyR (Tc : Int → Int → Int) (o q : Int) : Int := (pwF Tc o (if q = 0 then 0 else 99) (if q = 0 then 99 else 0) 9).2.2
theorem up_at (m : au_A → Int → Int) (a : au_A) {j k : Int} (v : Int) (h : k = j) : au_up m a j v a k = v := if_pos ⟨rfl, h⟩

theorem kX0_about (G : au_G) (w : Int) (mi si hi sl : au_A → Int → Int) (r : au_A → Int → Option au_A) (nx : Nat) (hF : Fix r) : au_Ctr G yX0_about cX0_about 2 (some .int) 1 0 0 [au_r XO, au_i w] (mi, si, hi, sl, r, nx) (au_pure (au_i (if 0 ≤ w ∧ w ≤ 5 then mi XNn w else if w = 6 then mi XO 3 else -2)) (mi, si, hi, sl, r, nx)) := by
  refine au_of (by decide) (Nat.le_of_ble_eq_true rfl) ?_
  show au_Go G _ _ 0 [some (au_r XO), some (au_i w)] [] (mi, si, hi, sl, r, nx) 0 0
  refine au_iload_n dX0_about_0 rfl ?_
  by_cases c1 : w < 0 ∨ 6 < w
  · refine au_tableOut (tgt := 109) dX0_about_1 c1 (by decide) ?_
    refine au_bipush dX0_about_109 rfl rfl ?_
    exact au_iret dX0_about_111 rfl rfl (Nat.le_of_ble_eq_true rfl) (Nat.le_of_ble_eq_true rfl) (by first | (rw [e1]; exact au_pe rfl rfl) | exact au_pe (by rw [if_pos (by omega)]) rfl | exact au_pe (by rw [if_neg (by omega), if_pos (by omega)]) rfl | exact au_pe (by rw [if_neg (by omega), if_neg (by omega)]) rfl)
  · have c1 : w = 0 ∨ w = 1 ∨ w = 2 ∨ w = 3 ∨ w = 4 ∨ w = 5 ∨ w = 6 := by omega
    rcases c1 with e1 | e1 | e1 | e1 | e1 | e1 | e1
    · refine au_tableIn (off := 43) (tgt := 44) dX0_about_1 (by omega) (by omega) (by rw [e1]; rfl) (by decide) ?_
      refine au_aload_n dX0_about_44 rfl ?_
      refine au_getf (C := RX0) (T := TX0) (N := 15) in_X0 (by decide) rfl 0 (by decide) rfl rfl q245 rfl dX0_about_45 (v := au_r XN) (congrArg au_q (fx_XO_0 hF)) ?_
      refine au_getN (C := RX1) (T := TX1) (N := 11) in_X1 (by decide) rfl 0 (by decide) rfl rfl q187 rfl dX0_about_48 (v := au_r XNn) (congrArg au_q (fx_XN_0 hF)) ?_
      refine au_iconst dX0_about_51 rfl rfl ?_
      refine au_iald dX0_about_52 rfl (by omega) (by show _ < ((6 : Nat) : Int); omega) (v := au_i (mi XNn 0)) (by rfl) ?_
      exact au_iret dX0_about_53 rfl rfl (Nat.le_of_ble_eq_true rfl) (Nat.le_of_ble_eq_true rfl) (by first | (rw [e1]; exact au_pe rfl rfl) | exact au_pe (by rw [if_pos (by omega)]) rfl | exact au_pe (by rw [if_neg (by omega), if_pos (by omega)]) rfl | exact au_pe (by rw [if_neg (by omega), if_neg (by omega)]) rfl)
    · refine au_tableIn (off := 53) (tgt := 54) dX0_about_1 (by omega) (by omega) (by rw [e1]; rfl) (by decide) ?_
      refine au_aload_n dX0_about_54 rfl ?_
      refine au_getf (C := RX0) (T := TX0) (N := 15) in_X0 (by decide) rfl 0 (by decide) rfl rfl q245 rfl dX0_about_55 (v := au_r XN) (congrArg au_q (fx_XO_0 hF)) ?_
      refine au_getN (C := RX1) (T := TX1) (N := 11) in_X1 (by decide) rfl 0 (by decide) rfl rfl q187 rfl dX0_about_58 (v := au_r XNn) (congrArg au_q (fx_XN_0 hF)) ?_
      refine au_iconst dX0_about_61 rfl rfl ?_
      refine au_iald dX0_about_62 rfl (by omega) (by show _ < ((6 : Nat) : Int); omega) (v := au_i (mi XNn 1)) (by rfl) ?_
      exact au_iret dX0_about_63 rfl rfl (Nat.le_of_ble_eq_true rfl) (Nat.le_of_ble_eq_true rfl) (by first | (rw [e1]; exact au_pe rfl rfl) | exact au_pe (by rw [if_pos (by omega)]) rfl | exact au_pe (by rw [if_neg (by omega), if_pos (by omega)]) rfl | exact au_pe (by rw [if_neg (by omega), if_neg (by omega)]) rfl)
    · refine au_tableIn (off := 63) (tgt := 64) dX0_about_1 (by omega) (by omega) (by rw [e1]; rfl) (by decide) ?_
      refine au_aload_n dX0_about_64 rfl ?_
      refine au_getf (C := RX0) (T := TX0) (N := 15) in_X0 (by decide) rfl 0 (by decide) rfl rfl q245 rfl dX0_about_65 (v := au_r XN) (congrArg au_q (fx_XO_0 hF)) ?_
      refine au_getN (C := RX1) (T := TX1) (N := 11) in_X1 (by decide) rfl 0 (by decide) rfl rfl q187 rfl dX0_about_68 (v := au_r XNn) (congrArg au_q (fx_XN_0 hF)) ?_
      refine au_iconst dX0_about_71 rfl rfl ?_
      refine au_iald dX0_about_72 rfl (by omega) (by show _ < ((6 : Nat) : Int); omega) (v := au_i (mi XNn 2)) (by rfl) ?_
      exact au_iret dX0_about_73 rfl rfl (Nat.le_of_ble_eq_true rfl) (Nat.le_of_ble_eq_true rfl) (by first | (rw [e1]; exact au_pe rfl rfl) | exact au_pe (by rw [if_pos (by omega)]) rfl | exact au_pe (by rw [if_neg (by omega), if_pos (by omega)]) rfl | exact au_pe (by rw [if_neg (by omega), if_neg (by omega)]) rfl)
    · refine au_tableIn (off := 73) (tgt := 74) dX0_about_1 (by omega) (by omega) (by rw [e1]; rfl) (by decide) ?_
      refine au_aload_n dX0_about_74 rfl ?_
      refine au_getf (C := RX0) (T := TX0) (N := 15) in_X0 (by decide) rfl 0 (by decide) rfl rfl q245 rfl dX0_about_75 (v := au_r XN) (congrArg au_q (fx_XO_0 hF)) ?_
      refine au_getN (C := RX1) (T := TX1) (N := 11) in_X1 (by decide) rfl 0 (by decide) rfl rfl q187 rfl dX0_about_78 (v := au_r XNn) (congrArg au_q (fx_XN_0 hF)) ?_
      refine au_iconst dX0_about_81 rfl rfl ?_
      refine au_iald dX0_about_82 rfl (by omega) (by show _ < ((6 : Nat) : Int); omega) (v := au_i (mi XNn 3)) (by rfl) ?_
      exact au_iret dX0_about_83 rfl rfl (Nat.le_of_ble_eq_true rfl) (Nat.le_of_ble_eq_true rfl) (by first | (rw [e1]; exact au_pe rfl rfl) | exact au_pe (by rw [if_pos (by omega)]) rfl | exact au_pe (by rw [if_neg (by omega), if_pos (by omega)]) rfl | exact au_pe (by rw [if_neg (by omega), if_neg (by omega)]) rfl)
    · refine au_tableIn (off := 83) (tgt := 84) dX0_about_1 (by omega) (by omega) (by rw [e1]; rfl) (by decide) ?_
      refine au_aload_n dX0_about_84 rfl ?_
      refine au_getf (C := RX0) (T := TX0) (N := 15) in_X0 (by decide) rfl 0 (by decide) rfl rfl q245 rfl dX0_about_85 (v := au_r XN) (congrArg au_q (fx_XO_0 hF)) ?_
      refine au_getN (C := RX1) (T := TX1) (N := 11) in_X1 (by decide) rfl 0 (by decide) rfl rfl q187 rfl dX0_about_88 (v := au_r XNn) (congrArg au_q (fx_XN_0 hF)) ?_
      refine au_iconst dX0_about_91 rfl rfl ?_
      refine au_iald dX0_about_92 rfl (by omega) (by show _ < ((6 : Nat) : Int); omega) (v := au_i (mi XNn 4)) (by rfl) ?_
      exact au_iret dX0_about_93 rfl rfl (Nat.le_of_ble_eq_true rfl) (Nat.le_of_ble_eq_true rfl) (by first | (rw [e1]; exact au_pe rfl rfl) | exact au_pe (by rw [if_pos (by omega)]) rfl | exact au_pe (by rw [if_neg (by omega), if_pos (by omega)]) rfl | exact au_pe (by rw [if_neg (by omega), if_neg (by omega)]) rfl)
    · refine au_tableIn (off := 93) (tgt := 94) dX0_about_1 (by omega) (by omega) (by rw [e1]; rfl) (by decide) ?_
      refine au_aload_n dX0_about_94 rfl ?_
      refine au_getf (C := RX0) (T := TX0) (N := 15) in_X0 (by decide) rfl 0 (by decide) rfl rfl q245 rfl dX0_about_95 (v := au_r XN) (congrArg au_q (fx_XO_0 hF)) ?_
      refine au_getN (C := RX1) (T := TX1) (N := 11) in_X1 (by decide) rfl 0 (by decide) rfl rfl q187 rfl dX0_about_98 (v := au_r XNn) (congrArg au_q (fx_XN_0 hF)) ?_
      refine au_iconst dX0_about_101 rfl rfl ?_
      refine au_iald dX0_about_102 rfl (by omega) (by show _ < ((6 : Nat) : Int); omega) (v := au_i (mi XNn 5)) (by rfl) ?_
      exact au_iret dX0_about_103 rfl rfl (Nat.le_of_ble_eq_true rfl) (Nat.le_of_ble_eq_true rfl) (by first | (rw [e1]; exact au_pe rfl rfl) | exact au_pe (by rw [if_pos (by omega)]) rfl | exact au_pe (by rw [if_neg (by omega), if_pos (by omega)]) rfl | exact au_pe (by rw [if_neg (by omega), if_neg (by omega)]) rfl)
    · refine au_tableIn (off := 103) (tgt := 104) dX0_about_1 (by omega) (by omega) (by rw [e1]; rfl) (by decide) ?_
      refine au_aload_n dX0_about_104 rfl ?_
      refine au_getf (C := RX0) (T := TX0) (N := 15) in_X0 (by decide) rfl 3 (by decide) rfl rfl q248 rfl dX0_about_105 (v := au_i (mi XO 3)) (by rfl) ?_
      exact au_iret dX0_about_108 rfl rfl (Nat.le_of_ble_eq_true rfl) (Nat.le_of_ble_eq_true rfl) (by first | (rw [e1]; exact au_pe rfl rfl) | exact au_pe (by rw [if_pos (by omega)]) rfl | exact au_pe (by rw [if_neg (by omega), if_pos (by omega)]) rfl | exact au_pe (by rw [if_neg (by omega), if_neg (by omega)]) rfl)
theorem kX0_play (G : au_G) (o q : Int) (mi si hi sl : au_A → Int → Int) (r : au_A → Int → Option au_A) (nx : Nat) (hF : Fix r) (Tc : Int → Int → Int) (hTc : ∀ o k, 0 ≤ o → o < 2 → 0 ≤ k → k < 5 → mi (1010 + o.toNat, 5, 40) k = Tc o k) (hnx : 1126 ≤ nx) : au_Ctr G yX0_play cX0_play 8 (some .int) 1 1 2 [au_r XO, au_i o, au_i q] (mi, si, hi, sl, r, nx) (fun rv M' => (¬ (0 ≤ o ∧ o ≤ 1) ∧ rv = some (au_i (-2)) ∧ M' = (mi, si, hi, sl, r, nx)) ∨ ((0 ≤ o ∧ o ≤ 1) ∧ rv = some (au_i (plyR Tc o q)) ∧ ∃ sj : au_A → Int → Int, M' = (mi, sj, hi, sl, r, nx + 1))) := by
  refine au_of (by decide) (Nat.le_of_ble_eq_true rfl) ?_
  have hkl : (0 ≤ o ∧ o ≤ 1) → ∀ (f0 s0 : Int), f0 = (if q = 0 then 0 else 99) → s0 = (if q = 0 then 99 else 0) → ∀ sj : au_A → Int → Int, sj (nx, 2, 40) o = f0 → sj (nx, 2, 40) (1 - o) = s0 → au_Go G (yX0_play.cls, cX0_play, 8, (some .int), au_rm 1 1 2, yX0_play.name) (au_QM G (au_rm 1 1 2) (fun rv M' => (¬ (0 ≤ o ∧ o ≤ 1) ∧ rv = some (au_i (-2)) ∧ M' = (mi, si, hi, sl, r, nx)) ∨ ((0 ≤ o ∧ o ≤ 1) ∧ rv = some (au_i (plyR Tc o q)) ∧ ∃ sj : au_A → Int → Int, M' = (mi, sj, hi, sl, r, nx + 1)))) 38 [some (au_r XO), some (au_i o), some (au_i q), some (au_r (nx, 2, 40)), some (au_i (-1)), some (au_i 8), none, none] [] (mi, sj, hi, sl, r, nx + 1) 1 2 := by
    intro ho f0 s0 hf0 hs0 sj hp1 hp2
    have hl : ∀ (f : Nat) (j : Nat) (t : Int) (sj : au_A → Int → Int) (a6 a7 : Option au_V), t = 8 - (j : Int) → j ≤ 9 → sj (nx, 2, 40) o = (pwF Tc o f0 s0 j).1 → sj (nx, 2, 40) (1 - o) = (pwF Tc o f0 s0 j).2.1 → t + 1 < (f : Int) → au_Go G (yX0_play.cls, cX0_play, 8, (some .int), au_rm 1 1 2, yX0_play.name) (au_QM G (au_rm 1 1 2) (fun rv M' => (¬ (0 ≤ o ∧ o ≤ 1) ∧ rv = some (au_i (-2)) ∧ M' = (mi, si, hi, sl, r, nx)) ∨ ((0 ≤ o ∧ o ≤ 1) ∧ rv = some (au_i (plyR Tc o q)) ∧ ∃ sj : au_A → Int → Int, M' = (mi, sj, hi, sl, r, nx + 1)))) 38 [some (au_r XO), some (au_i o), some (au_i q), some (au_r (nx, 2, 40)), some (au_i ((pwF Tc o f0 s0 j).2.2)), some (au_i (t)), a6, a7] [] (mi, sj, hi, sl, r, nx + 1) 1 2 := by
      intro f
      induction f with
      | zero => intro j t sj a6 a7 ht hj hp1 hp2 hf; exfalso; omega
      | succ f ih =>
        intro j t sj a6 a7 ht hj hp1 hp2 hf
        refine au_iload dX0_play_38 rfl ?_
        refine au_if_lt (tgt := 111) dX0_play_40 (by decide) (fun c40 => ?_) (fun c40 => ?_)
        · refine au_iload dX0_play_111 rfl ?_
          exact au_iret dX0_play_113 rfl rfl (Nat.le_of_ble_eq_true rfl) (Nat.le_of_ble_eq_true rfl) (Or.inr ⟨⟨by omega, by omega⟩, by rw [show j = 9 by omega, hf0, hs0]; rfl, sj, rfl⟩)
        · refine au_iload dX0_play_43 rfl ?_
          refine au_iconst dX0_play_45 rfl rfl ?_
          refine au_irem dX0_play_46 (by omega) (by omega) ?_
          refine au_if_ne (tgt := 54) dX0_play_47 (by decide) (fun c47 => ?_) (fun c47 => ?_)
          · refine au_iconst dX0_play_54 rfl rfl ?_
            refine au_iload_n dX0_play_55 rfl ?_
            refine au_isub dX0_play_56 (by omega) (by omega) ?_
            refine au_istore dX0_play_57 (show 6 < 8 by decide) ?_
            show au_Go G _ _ 59 [some (au_r XO), some (au_i o), some (au_i q), some (au_r (nx, 2, 40)), some (au_i ((pwF Tc o f0 s0 j).2.2)), some (au_i t), some (au_i (1 - o)), a7] [] (mi, sj, hi, sl, r, nx + 1) 1 2
            refine au_aload_n dX0_play_59 rfl ?_
            refine au_getf (C := RX0) (T := TX0) (N := 15) in_X0 (by decide) rfl 0 (by decide) rfl rfl q245 rfl dX0_play_60 (v := au_r XN) (congrArg au_q (fx_XO_0 hF)) ?_
            refine au_getN (C := RX1) (T := TX1) (N := 11) in_X1 (by decide) rfl 7 (by decide) rfl rfl q201 rfl dX0_play_63 (v := au_r XNturn) (congrArg au_q (fx_XN_7 hF)) ?_
            refine au_iload dX0_play_66 rfl ?_
            refine au_aald dX0_play_68 (by decide) (by decide) (by omega) (by show _ < ((2 : Nat) : Int); omega) (v := au_r (1010 + ((1 - o)).toNat, 5, 40)) (congrArg au_q (fx_turn hF (by omega) (by omega))) ?_
            refine au_iload dX0_play_69 rfl ?_
            refine au_iconst dX0_play_71 rfl rfl ?_
            refine au_idiv dX0_play_72 (by omega) (by omega) ?_
            refine au_iald dX0_play_73 rfl (by omega) (by show _ < ((5 : Nat) : Int); omega) (v := au_i ((Tc (1 - o) (t / 2)))) (congrArg au_i ((au_gi_m (au_reg_lo (by omega) (by omega) _)).trans (hTc (1 - o) _ (by omega) (by omega) (by omega) (by omega)))) ?_
            refine au_istore dX0_play_74 (show 7 < 8 by decide) ?_
            show au_Go G _ _ 76 [some (au_r XO), some (au_i o), some (au_i q), some (au_r (nx, 2, 40)), some (au_i ((pwF Tc o f0 s0 j).2.2)), some (au_i t), some (au_i (1 - o)), some (au_i (Tc (1 - o) (t / 2)))] [] (mi, sj, hi, sl, r, nx + 1) 1 2
            refine au_iload dX0_play_76 rfl ?_
            refine au_aload_n dX0_play_78 rfl ?_
            refine au_iload dX0_play_79 rfl ?_
            refine au_iald dX0_play_81 rfl (by omega) (by show _ < ((2 : Nat) : Int); omega) (v := au_i ((pwF Tc o f0 s0 j).2.1)) (congrArg au_i ((au_gi_s (au_reg_dyn (by omega) _)).trans hp2)) ?_
            refine au_icmp_le (tgt := 88) dX0_play_82 (by decide) (fun c82 => ?_) (fun c82 => ?_)
            · refine au_aload_n dX0_play_88 rfl ?_
              refine au_iload dX0_play_89 rfl ?_
              refine au_iload dX0_play_91 rfl ?_
              refine au_iast dX0_play_93 rfl (by show 1000 ≤ _; omega) (by omega) (by show _ < ((2 : Nat) : Int); omega) (M' := (mi, (au_up sj (nx, 2, 40) (1 - o) (Tc (1 - o) (t / 2))), hi, sl, r, nx + 1)) (au_wv_s (au_reg_dyn (by omega) _)) ?_
              refine au_aload_n dX0_play_94 rfl ?_
              refine au_iconst dX0_play_95 rfl rfl ?_
              refine au_iload dX0_play_96 rfl ?_
              refine au_isub dX0_play_98 (by omega) (by omega) ?_
              refine au_iconst dX0_play_99 rfl rfl ?_
              refine au_iast dX0_play_100 rfl (by show 1000 ≤ _; omega) (by omega) (by show _ < ((2 : Nat) : Int); omega) (M' := (mi, (au_up (au_up sj (nx, 2, 40) (1 - o) (Tc (1 - o) (t / 2))) (nx, 2, 40) (1 - (1 - o)) 0), hi, sl, r, nx + 1)) (au_wv_s (au_reg_dyn (by omega) _)) ?_
              refine au_iload dX0_play_101 rfl ?_
              refine au_istore dX0_play_103 (show 4 < 8 by decide) ?_
              show au_Go G _ _ 105 [some (au_r XO), some (au_i o), some (au_i q), some (au_r (nx, 2, 40)), some (au_i (1 - o)), some (au_i t), some (au_i (1 - o)), some (au_i (Tc (1 - o) (t / 2)))] [] (mi, (au_up (au_up sj (nx, 2, 40) (1 - o) (Tc (1 - o) (t / 2))) (nx, 2, 40) (1 - (1 - o)) 0), hi, sl, r, nx + 1) 1 2
              refine au_iinc dX0_play_105 rfl (show 5 < 8 by decide) (by omega) (by omega) (by decide) (by decide) ?_
              show au_Go G _ _ 108 [some (au_r XO), some (au_i o), some (au_i q), some (au_r (nx, 2, 40)), some (au_i (1 - o)), some (au_i (t + (-1))), some (au_i (1 - o)), some (au_i (Tc (1 - o) (t / 2)))] [] (mi, (au_up (au_up sj (nx, 2, 40) (1 - o) (Tc (1 - o) (t / 2))) (nx, 2, 40) (1 - (1 - o)) 0), hi, sl, r, nx + 1) 1 2
              refine au_goto (tgt := 38) dX0_play_108 (by decide) ?_
              have e1 : ∀ (w : Int × Int × Int) (sj : au_A → Int → Int), w = pwF Tc o f0 s0 (j + 1) → sj (nx, 2, 40) o = w.1 → sj (nx, 2, 40) (1 - o) = w.2.1 → ∀ a7, au_Go G (yX0_play.cls, cX0_play, 8, (some .int), au_rm 1 1 2, yX0_play.name) (au_QM G (au_rm 1 1 2) (fun rv M' => (¬ (0 ≤ o ∧ o ≤ 1) ∧ rv = some (au_i (-2)) ∧ M' = (mi, si, hi, sl, r, nx)) ∨ ((0 ≤ o ∧ o ≤ 1) ∧ rv = some (au_i (plyR Tc o q)) ∧ ∃ sj : au_A → Int → Int, M' = (mi, sj, hi, sl, r, nx + 1)))) 38 [some (au_r XO), some (au_i o), some (au_i q), some (au_r (nx, 2, 40)), some (au_i (w.2.2)), some (au_i (t + (-1))), some (au_i (1 - o)), a7] [] (mi, sj, hi, sl, r, nx + 1) 1 2 := fun w sj hw h1 h2 a7 => by subst hw; exact ih (j + 1) _ sj _ a7 (by omega) (by omega) h1 h2 (by omega)
              have hst : pwF Tc o f0 s0 (j + 1) = if (pwF Tc o f0 s0 j).2.1 < (Tc (1 - o) (t / 2)) then (pwF Tc o f0 s0 j) else (0, (Tc (1 - o) (t / 2)), 1 - o) := by
                simp only [pwF]
                rw [if_neg (by omega), show 8 - (j : Int) = t by omega]
              first
              | exact e1 (pwF Tc o f0 s0 j) sj (by rw [hst, if_pos (by omega)]) hp1 hp2 _
              | exact e1 (0, (Tc (1 - o) (t / 2)), 1 - o) (au_up (au_up sj (nx, 2, 40) (1 - o) (Tc (1 - o) (t / 2))) (nx, 2, 40) (1 - (1 - o)) 0) (by rw [hst, if_neg (by omega)]) (up_at _ _ _ (by omega)) ((au_up_ne _ _ (fun z => by have := z.2; omega)).trans (up_at _ _ _ (by omega))) _
            · refine au_goto (tgt := 105) dX0_play_85 (by decide) ?_
              refine au_iinc dX0_play_105 rfl (show 5 < 8 by decide) (by omega) (by omega) (by decide) (by decide) ?_
              show au_Go G _ _ 108 [some (au_r XO), some (au_i o), some (au_i q), some (au_r (nx, 2, 40)), some (au_i ((pwF Tc o f0 s0 j).2.2)), some (au_i (t + (-1))), some (au_i (1 - o)), some (au_i (Tc (1 - o) (t / 2)))] [] (mi, sj, hi, sl, r, nx + 1) 1 2
              refine au_goto (tgt := 38) dX0_play_108 (by decide) ?_
              have e1 : ∀ (w : Int × Int × Int) (sj : au_A → Int → Int), w = pwF Tc o f0 s0 (j + 1) → sj (nx, 2, 40) o = w.1 → sj (nx, 2, 40) (1 - o) = w.2.1 → ∀ a7, au_Go G (yX0_play.cls, cX0_play, 8, (some .int), au_rm 1 1 2, yX0_play.name) (au_QM G (au_rm 1 1 2) (fun rv M' => (¬ (0 ≤ o ∧ o ≤ 1) ∧ rv = some (au_i (-2)) ∧ M' = (mi, si, hi, sl, r, nx)) ∨ ((0 ≤ o ∧ o ≤ 1) ∧ rv = some (au_i (plyR Tc o q)) ∧ ∃ sj : au_A → Int → Int, M' = (mi, sj, hi, sl, r, nx + 1)))) 38 [some (au_r XO), some (au_i o), some (au_i q), some (au_r (nx, 2, 40)), some (au_i (w.2.2)), some (au_i (t + (-1))), some (au_i (1 - o)), a7] [] (mi, sj, hi, sl, r, nx + 1) 1 2 := fun w sj hw h1 h2 a7 => by subst hw; exact ih (j + 1) _ sj _ a7 (by omega) (by omega) h1 h2 (by omega)
              have hst : pwF Tc o f0 s0 (j + 1) = if (pwF Tc o f0 s0 j).2.1 < (Tc (1 - o) (t / 2)) then (pwF Tc o f0 s0 j) else (0, (Tc (1 - o) (t / 2)), 1 - o) := by
                simp only [pwF]
                rw [if_neg (by omega), show 8 - (j : Int) = t by omega]
              first
              | exact e1 (pwF Tc o f0 s0 j) sj (by rw [hst, if_pos (by omega)]) hp1 hp2 _
              | exact e1 (0, (Tc (1 - o) (t / 2)), 1 - o) (au_up (au_up sj (nx, 2, 40) (1 - o) (Tc (1 - o) (t / 2))) (nx, 2, 40) (1 - (1 - o)) 0) (by rw [hst, if_neg (by omega)]) (up_at _ _ _ (by omega)) ((au_up_ne _ _ (fun z => by have := z.2; omega)).trans (up_at _ _ _ (by omega))) _
          · refine au_iload_n dX0_play_50 rfl ?_
            refine au_goto (tgt := 57) dX0_play_51 (by decide) ?_
            refine au_istore dX0_play_57 (show 6 < 8 by decide) ?_
            show au_Go G _ _ 59 [some (au_r XO), some (au_i o), some (au_i q), some (au_r (nx, 2, 40)), some (au_i ((pwF Tc o f0 s0 j).2.2)), some (au_i t), some (au_i o), a7] [] (mi, sj, hi, sl, r, nx + 1) 1 2
            refine au_aload_n dX0_play_59 rfl ?_
            refine au_getf (C := RX0) (T := TX0) (N := 15) in_X0 (by decide) rfl 0 (by decide) rfl rfl q245 rfl dX0_play_60 (v := au_r XN) (congrArg au_q (fx_XO_0 hF)) ?_
            refine au_getN (C := RX1) (T := TX1) (N := 11) in_X1 (by decide) rfl 7 (by decide) rfl rfl q201 rfl dX0_play_63 (v := au_r XNturn) (congrArg au_q (fx_XN_7 hF)) ?_
            refine au_iload dX0_play_66 rfl ?_
            refine au_aald dX0_play_68 (by decide) (by decide) (by omega) (by show _ < ((2 : Nat) : Int); omega) (v := au_r (1010 + (o).toNat, 5, 40)) (congrArg au_q (fx_turn hF (by omega) (by omega))) ?_
            refine au_iload dX0_play_69 rfl ?_
            refine au_iconst dX0_play_71 rfl rfl ?_
            refine au_idiv dX0_play_72 (by omega) (by omega) ?_
            refine au_iald dX0_play_73 rfl (by omega) (by show _ < ((5 : Nat) : Int); omega) (v := au_i ((Tc o (t / 2)))) (congrArg au_i ((au_gi_m (au_reg_lo (by omega) (by omega) _)).trans (hTc o _ (by omega) (by omega) (by omega) (by omega)))) ?_
            refine au_istore dX0_play_74 (show 7 < 8 by decide) ?_
            show au_Go G _ _ 76 [some (au_r XO), some (au_i o), some (au_i q), some (au_r (nx, 2, 40)), some (au_i ((pwF Tc o f0 s0 j).2.2)), some (au_i t), some (au_i o), some (au_i (Tc o (t / 2)))] [] (mi, sj, hi, sl, r, nx + 1) 1 2
            refine au_iload dX0_play_76 rfl ?_
            refine au_aload_n dX0_play_78 rfl ?_
            refine au_iload dX0_play_79 rfl ?_
            refine au_iald dX0_play_81 rfl (by omega) (by show _ < ((2 : Nat) : Int); omega) (v := au_i ((pwF Tc o f0 s0 j).1)) (congrArg au_i ((au_gi_s (au_reg_dyn (by omega) _)).trans hp1)) ?_
            refine au_icmp_le (tgt := 88) dX0_play_82 (by decide) (fun c82 => ?_) (fun c82 => ?_)
            · refine au_aload_n dX0_play_88 rfl ?_
              refine au_iload dX0_play_89 rfl ?_
              refine au_iload dX0_play_91 rfl ?_
              refine au_iast dX0_play_93 rfl (by show 1000 ≤ _; omega) (by omega) (by show _ < ((2 : Nat) : Int); omega) (M' := (mi, (au_up sj (nx, 2, 40) o (Tc o (t / 2))), hi, sl, r, nx + 1)) (au_wv_s (au_reg_dyn (by omega) _)) ?_
              refine au_aload_n dX0_play_94 rfl ?_
              refine au_iconst dX0_play_95 rfl rfl ?_
              refine au_iload dX0_play_96 rfl ?_
              refine au_isub dX0_play_98 (by omega) (by omega) ?_
              refine au_iconst dX0_play_99 rfl rfl ?_
              refine au_iast dX0_play_100 rfl (by show 1000 ≤ _; omega) (by omega) (by show _ < ((2 : Nat) : Int); omega) (M' := (mi, (au_up (au_up sj (nx, 2, 40) o (Tc o (t / 2))) (nx, 2, 40) (1 - o) 0), hi, sl, r, nx + 1)) (au_wv_s (au_reg_dyn (by omega) _)) ?_
              refine au_iload dX0_play_101 rfl ?_
              refine au_istore dX0_play_103 (show 4 < 8 by decide) ?_
              show au_Go G _ _ 105 [some (au_r XO), some (au_i o), some (au_i q), some (au_r (nx, 2, 40)), some (au_i o), some (au_i t), some (au_i o), some (au_i (Tc o (t / 2)))] [] (mi, (au_up (au_up sj (nx, 2, 40) o (Tc o (t / 2))) (nx, 2, 40) (1 - o) 0), hi, sl, r, nx + 1) 1 2
              refine au_iinc dX0_play_105 rfl (show 5 < 8 by decide) (by omega) (by omega) (by decide) (by decide) ?_
              show au_Go G _ _ 108 [some (au_r XO), some (au_i o), some (au_i q), some (au_r (nx, 2, 40)), some (au_i o), some (au_i (t + (-1))), some (au_i o), some (au_i (Tc o (t / 2)))] [] (mi, (au_up (au_up sj (nx, 2, 40) o (Tc o (t / 2))) (nx, 2, 40) (1 - o) 0), hi, sl, r, nx + 1) 1 2
              refine au_goto (tgt := 38) dX0_play_108 (by decide) ?_
              have e1 : ∀ (w : Int × Int × Int) (sj : au_A → Int → Int), w = pwF Tc o f0 s0 (j + 1) → sj (nx, 2, 40) o = w.1 → sj (nx, 2, 40) (1 - o) = w.2.1 → ∀ a7, au_Go G (yX0_play.cls, cX0_play, 8, (some .int), au_rm 1 1 2, yX0_play.name) (au_QM G (au_rm 1 1 2) (fun rv M' => (¬ (0 ≤ o ∧ o ≤ 1) ∧ rv = some (au_i (-2)) ∧ M' = (mi, si, hi, sl, r, nx)) ∨ ((0 ≤ o ∧ o ≤ 1) ∧ rv = some (au_i (plyR Tc o q)) ∧ ∃ sj : au_A → Int → Int, M' = (mi, sj, hi, sl, r, nx + 1)))) 38 [some (au_r XO), some (au_i o), some (au_i q), some (au_r (nx, 2, 40)), some (au_i (w.2.2)), some (au_i (t + (-1))), some (au_i o), a7] [] (mi, sj, hi, sl, r, nx + 1) 1 2 := fun w sj hw h1 h2 a7 => by subst hw; exact ih (j + 1) _ sj _ a7 (by omega) (by omega) h1 h2 (by omega)
              have hst : pwF Tc o f0 s0 (j + 1) = if (pwF Tc o f0 s0 j).1 < (Tc o (t / 2)) then (pwF Tc o f0 s0 j) else ((Tc o (t / 2)), 0, o) := by
                simp only [pwF]
                rw [if_pos (by omega), show 8 - (j : Int) = t by omega]
              first
              | exact e1 (pwF Tc o f0 s0 j) sj (by rw [hst, if_pos (by omega)]) hp1 hp2 _
              | exact e1 ((Tc o (t / 2)), 0, o) (au_up (au_up sj (nx, 2, 40) o (Tc o (t / 2))) (nx, 2, 40) (1 - o) 0) (by rw [hst, if_neg (by omega)]) ((au_up_ne _ _ (fun z => by have := z.2; omega)).trans (up_at _ _ _ (by omega))) (up_at _ _ _ (by omega)) _
            · refine au_goto (tgt := 105) dX0_play_85 (by decide) ?_
              refine au_iinc dX0_play_105 rfl (show 5 < 8 by decide) (by omega) (by omega) (by decide) (by decide) ?_
              show au_Go G _ _ 108 [some (au_r XO), some (au_i o), some (au_i q), some (au_r (nx, 2, 40)), some (au_i ((pwF Tc o f0 s0 j).2.2)), some (au_i (t + (-1))), some (au_i o), some (au_i (Tc o (t / 2)))] [] (mi, sj, hi, sl, r, nx + 1) 1 2
              refine au_goto (tgt := 38) dX0_play_108 (by decide) ?_
              have e1 : ∀ (w : Int × Int × Int) (sj : au_A → Int → Int), w = pwF Tc o f0 s0 (j + 1) → sj (nx, 2, 40) o = w.1 → sj (nx, 2, 40) (1 - o) = w.2.1 → ∀ a7, au_Go G (yX0_play.cls, cX0_play, 8, (some .int), au_rm 1 1 2, yX0_play.name) (au_QM G (au_rm 1 1 2) (fun rv M' => (¬ (0 ≤ o ∧ o ≤ 1) ∧ rv = some (au_i (-2)) ∧ M' = (mi, si, hi, sl, r, nx)) ∨ ((0 ≤ o ∧ o ≤ 1) ∧ rv = some (au_i (plyR Tc o q)) ∧ ∃ sj : au_A → Int → Int, M' = (mi, sj, hi, sl, r, nx + 1)))) 38 [some (au_r XO), some (au_i o), some (au_i q), some (au_r (nx, 2, 40)), some (au_i (w.2.2)), some (au_i (t + (-1))), some (au_i o), a7] [] (mi, sj, hi, sl, r, nx + 1) 1 2 := fun w sj hw h1 h2 a7 => by subst hw; exact ih (j + 1) _ sj _ a7 (by omega) (by omega) h1 h2 (by omega)
              have hst : pwF Tc o f0 s0 (j + 1) = if (pwF Tc o f0 s0 j).1 < (Tc o (t / 2)) then (pwF Tc o f0 s0 j) else ((Tc o (t / 2)), 0, o) := by
                simp only [pwF]
                rw [if_pos (by omega), show 8 - (j : Int) = t by omega]
              first
              | exact e1 (pwF Tc o f0 s0 j) sj (by rw [hst, if_pos (by omega)]) hp1 hp2 _
              | exact e1 ((Tc o (t / 2)), 0, o) (au_up (au_up sj (nx, 2, 40) o (Tc o (t / 2))) (nx, 2, 40) (1 - o) 0) (by rw [hst, if_neg (by omega)]) ((au_up_ne _ _ (fun z => by have := z.2; omega)).trans (up_at _ _ _ (by omega))) (up_at _ _ _ (by omega)) _
    exact hl 10 0 8 sj none none rfl (by omega) hp1 hp2 (by omega)
  show au_Go G _ _ 0 [some (au_r XO), some (au_i o), some (au_i q), none, none, none, none, none] [] (mi, si, hi, sl, r, nx) 0 0
  have hz : ∀ j, au_zr si (nx, 2, 40) 0 (nx, 2, 40) j = 0 := fun j => if_pos rfl
  refine au_iload_n dX0_play_0 rfl ?_
  refine au_iconst dX0_play_1 rfl rfl ?_
  refine au_iconst dX0_play_2 rfl rfl ?_
  refine au_callSp (n := 3) (kX0_in G o 0 1 (mi, si, hi, sl, r, nx)) (lw_S q300 q301 q130 q302) (by decide +kernel) rfl rfl rfl (Nat.le_of_ble_eq_true rfl) (Nat.le_of_ble_eq_true rfl) (Nat.le_of_ble_eq_true rfl) (Nat.le_of_ble_eq_true rfl) (Nat.le_of_ble_eq_true rfl) dX0_play_3 ?_
  refine au_if_ne (tgt := 12) dX0_play_6 (by decide) (fun c6 => ?_) (fun c6 => ?_)
  · have c6 := au_b1 c6
    refine au_iconst dX0_play_12 rfl rfl ?_
    refine au_newi dX0_play_13 (by decide) (by decide) (by omega) (Nat.le_of_ble_eq_true rfl) (Nat.le_of_ble_eq_true rfl) ?_
    show au_Go G _ _ 15 [some (au_r XO), some (au_i o), some (au_i q), none, none, none, none, none] [au_r (nx, 2, 40)] (mi, (au_zr si (nx, 2, 40) 0), hi, sl, r, nx + 1) 1 2
    refine au_astore_n dX0_play_15 (show 3 < 8 by decide) ?_
    show au_Go G _ _ 16 [some (au_r XO), some (au_i o), some (au_i q), some (au_r (nx, 2, 40)), none, none, none, none] [] (mi, (au_zr si (nx, 2, 40) 0), hi, sl, r, nx + 1) 1 2
    refine au_aload_n dX0_play_16 rfl ?_
    refine au_iload_n dX0_play_17 rfl ?_
    refine au_if_eq (tgt := 25) dX0_play_18 (by decide) (fun c18 => ?_) (fun c18 => ?_)
    · refine au_iconst dX0_play_25 rfl rfl ?_
      refine au_iload_n dX0_play_26 rfl ?_
      refine au_isub dX0_play_27 (by omega) (by omega) ?_
      refine au_bipush dX0_play_28 rfl rfl ?_
      refine au_iast dX0_play_30 rfl (by show 1000 ≤ _; omega) (by omega) (by show _ < ((2 : Nat) : Int); omega) (M' := (mi, (au_up (au_zr si (nx, 2, 40) 0) (nx, 2, 40) (1 - o) 99), hi, sl, r, nx + 1)) (au_wv_s (au_reg_dyn (by omega) _)) ?_
      refine au_iconst dX0_play_31 rfl rfl ?_
      refine au_istore dX0_play_32 (show 4 < 8 by decide) ?_
      show au_Go G _ _ 34 [some (au_r XO), some (au_i o), some (au_i q), some (au_r (nx, 2, 40)), some (au_i (-1)), none, none, none] [] (mi, (au_up (au_zr si (nx, 2, 40) 0) (nx, 2, 40) (1 - o) 99), hi, sl, r, nx + 1) 1 2
      refine au_bipush dX0_play_34 rfl rfl ?_
      refine au_istore dX0_play_36 (show 5 < 8 by decide) ?_
      show au_Go G _ _ 38 [some (au_r XO), some (au_i o), some (au_i q), some (au_r (nx, 2, 40)), some (au_i (-1)), some (au_i 8), none, none] [] (mi, (au_up (au_zr si (nx, 2, 40) 0) (nx, 2, 40) (1 - o) 99), hi, sl, r, nx + 1) 1 2
      first
      | exact hkl ⟨by omega, by omega⟩ 0 99 (by rw [if_pos c18]) (by rw [if_pos c18]) _ ((au_up_ne _ _ (fun z => by have := z.2; omega)).trans (hz _)) (up_at _ _ _ rfl)
      | exact hkl ⟨by omega, by omega⟩ 99 0 (by rw [if_neg c18]) (by rw [if_neg c18]) _ (up_at _ _ _ rfl) ((au_up_ne _ _ (fun z => by have := z.2; omega)).trans (hz _))
    · refine au_iload_n dX0_play_21 rfl ?_
      refine au_goto (tgt := 28) dX0_play_22 (by decide) ?_
      refine au_bipush dX0_play_28 rfl rfl ?_
      refine au_iast dX0_play_30 rfl (by show 1000 ≤ _; omega) (by omega) (by show _ < ((2 : Nat) : Int); omega) (M' := (mi, (au_up (au_zr si (nx, 2, 40) 0) (nx, 2, 40) o 99), hi, sl, r, nx + 1)) (au_wv_s (au_reg_dyn (by omega) _)) ?_
      refine au_iconst dX0_play_31 rfl rfl ?_
      refine au_istore dX0_play_32 (show 4 < 8 by decide) ?_
      show au_Go G _ _ 34 [some (au_r XO), some (au_i o), some (au_i q), some (au_r (nx, 2, 40)), some (au_i (-1)), none, none, none] [] (mi, (au_up (au_zr si (nx, 2, 40) 0) (nx, 2, 40) o 99), hi, sl, r, nx + 1) 1 2
      refine au_bipush dX0_play_34 rfl rfl ?_
      refine au_istore dX0_play_36 (show 5 < 8 by decide) ?_
      show au_Go G _ _ 38 [some (au_r XO), some (au_i o), some (au_i q), some (au_r (nx, 2, 40)), some (au_i (-1)), some (au_i 8), none, none] [] (mi, (au_up (au_zr si (nx, 2, 40) 0) (nx, 2, 40) o 99), hi, sl, r, nx + 1) 1 2
      first
      | exact hkl ⟨by omega, by omega⟩ 0 99 (by rw [if_pos c18]) (by rw [if_pos c18]) _ ((au_up_ne _ _ (fun z => by have := z.2; omega)).trans (hz _)) (up_at _ _ _ rfl)
      | exact hkl ⟨by omega, by omega⟩ 99 0 (by rw [if_neg c18]) (by rw [if_neg c18]) _ (up_at _ _ _ rfl) ((au_up_ne _ _ (fun z => by have := z.2; omega)).trans (hz _))
  · have c6 := au_b0 c6
    refine au_bipush dX0_play_9 rfl rfl ?_
    exact au_iret dX0_play_11 rfl rfl (Nat.le_of_ble_eq_true rfl) (Nat.le_of_ble_eq_true rfl) (Or.inl ⟨by omega, rfl, rfl⟩)
theorem kX2_about (G : au_G) (w : Int) (mi si hi sl : au_A → Int → Int) (r : au_A → Int → Option au_A) (nx : Nat) (hF : Fix r) : au_Ctr G yX2_about cX2_about 2 (some .int) 1 0 0 [au_r MO, au_i w] (mi, si, hi, sl, r, nx) (au_pure (au_i (if 0 ≤ w ∧ w ≤ 5 then mi MA w else if w = 6 then mi MO 4 else -2)) (mi, si, hi, sl, r, nx)) := by
  refine au_of (by decide) (Nat.le_of_ble_eq_true rfl) ?_
  show au_Go G _ _ 0 [some (au_r MO), some (au_i w)] [] (mi, si, hi, sl, r, nx) 0 0
  refine au_iload_n dX2_about_0 rfl ?_
  refine au_iconst dX2_about_1 rfl rfl ?_
  refine au_iconst dX2_about_2 rfl rfl ?_
  refine au_callSp (n := 3) (kX2_isIn G w 0 5 (mi, si, hi, sl, r, nx)) (lw_S q1475 q1476 q134 q1477) (by decide +kernel) rfl rfl rfl (Nat.le_of_ble_eq_true rfl) (Nat.le_of_ble_eq_true rfl) (Nat.le_of_ble_eq_true rfl) (Nat.le_of_ble_eq_true rfl) (Nat.le_of_ble_eq_true rfl) dX2_about_3 ?_
  refine au_if_eq (tgt := 18) dX2_about_6 (by decide) (fun c6 => ?_) (fun c6 => ?_)
  · have c6 := au_b0 c6
    refine au_iload_n dX2_about_18 rfl ?_
    refine au_bipush dX2_about_19 rfl rfl ?_
    refine au_icmp_ne (tgt := 31) dX2_about_21 (by decide) (fun c21 => ?_) (fun c21 => ?_)
    · refine au_bipush dX2_about_31 rfl rfl ?_
      exact au_iret dX2_about_33 rfl rfl (Nat.le_of_ble_eq_true rfl) (Nat.le_of_ble_eq_true rfl) (by first | (rw [e1]; exact au_pe rfl rfl) | exact au_pe (by rw [if_pos (by omega)]) rfl | exact au_pe (by rw [if_neg (by omega), if_pos (by omega)]) rfl | exact au_pe (by rw [if_neg (by omega), if_neg (by omega)]) rfl)
    · refine au_aload_n dX2_about_24 rfl ?_
      refine au_getf (C := RX2) (T := TX2) (N := 35) in_X2 (by decide) rfl 4 (by decide) rfl rfl q1363 rfl dX2_about_25 (v := au_i (mi MO 4)) (by rfl) ?_
      refine au_goto (tgt := 33) dX2_about_28 (by decide) ?_
      exact au_iret dX2_about_33 rfl rfl (Nat.le_of_ble_eq_true rfl) (Nat.le_of_ble_eq_true rfl) (by first | (rw [e1]; exact au_pe rfl rfl) | exact au_pe (by rw [if_pos (by omega)]) rfl | exact au_pe (by rw [if_neg (by omega), if_pos (by omega)]) rfl | exact au_pe (by rw [if_neg (by omega), if_neg (by omega)]) rfl)
  · have c6 := au_b1 c6
    refine au_aload_n dX2_about_9 rfl ?_
    refine au_getf (C := RX2) (T := TX2) (N := 35) in_X2 (by decide) rfl 0 (by decide) rfl rfl q1359 rfl dX2_about_10 (v := au_r MA) (congrArg au_q (fx_MO_0 hF)) ?_
    refine au_iload_n dX2_about_13 rfl ?_
    refine au_iald dX2_about_14 rfl (by omega) (by show _ < ((4544 : Nat) : Int); omega) (v := au_i (mi MA w)) (by rfl) ?_
    refine au_goto (tgt := 33) dX2_about_15 (by decide) ?_
    exact au_iret dX2_about_33 rfl rfl (Nat.le_of_ble_eq_true rfl) (Nat.le_of_ble_eq_true rfl) (by first | (rw [e1]; exact au_pe rfl rfl) | exact au_pe (by rw [if_pos (by omega)]) rfl | exact au_pe (by rw [if_neg (by omega), if_pos (by omega)]) rfl | exact au_pe (by rw [if_neg (by omega), if_neg (by omega)]) rfl)
theorem kX2_play (G : au_G) (o q : Int) (mi si hi sl : au_A → Int → Int) (r : au_A → Int → Option au_A) (nx : Nat) (hF : Fix r) (Tc : Int → Int → Int) (hTc : ∀ o k, 0 ≤ o → o < 2 → 0 ≤ k → k < 5 → mi MA (138 + 5 * o + k) = Tc o k) : au_Ctr G yX2_play cX2_play 9 (some .int) 1 0 0 [au_r MO, au_i o, au_i q] (mi, si, hi, sl, r, nx) (au_pure (au_i (if 0 ≤ o ∧ o ≤ 1 then plyR Tc o q else -2)) (mi, si, hi, sl, r, nx)) := by
  refine au_of (by decide) (Nat.le_of_ble_eq_true rfl) ?_
  have hkl : (0 ≤ o ∧ o ≤ 1) → ∀ (f0 s0 : Int), f0 = (if q = 0 then 0 else 99) → s0 = (if q = 0 then 99 else 0) → au_Go G (yX2_play.cls, cX2_play, 9, (some .int), au_rm 1 0 0, yX2_play.name) (au_QM G (au_rm 1 0 0) (au_pure (au_i (if 0 ≤ o ∧ o ≤ 1 then plyR Tc o q else -2)) (mi, si, hi, sl, r, nx))) 42 [some (au_r MO), some (au_i o), some (au_i q), some (au_i f0), some (au_i s0), some (au_i (-1)), some (au_i 8), none, none] [] (mi, si, hi, sl, r, nx) 0 0 := by
    intro ho f0 s0 hf0 hs0
    have hl : ∀ (f : Nat) (j : Nat) (t : Int) (a7 a8 : Option au_V), t = 8 - (j : Int) → j ≤ 9 → t + 1 < (f : Int) → au_Go G (yX2_play.cls, cX2_play, 9, (some .int), au_rm 1 0 0, yX2_play.name) (au_QM G (au_rm 1 0 0) (au_pure (au_i (if 0 ≤ o ∧ o ≤ 1 then plyR Tc o q else -2)) (mi, si, hi, sl, r, nx))) 42 [some (au_r MO), some (au_i o), some (au_i q), some (au_i ((pwF Tc o f0 s0 j).1)), some (au_i ((pwF Tc o f0 s0 j).2.1)), some (au_i ((pwF Tc o f0 s0 j).2.2)), some (au_i (t)), a7, a8] [] (mi, si, hi, sl, r, nx) 0 0 := by
      intro f
      induction f with
      | zero => intro j t a7 a8 ht hj hf; exfalso; omega
      | succ f ih =>
        intro j t a7 a8 ht hj hf
        refine au_iload dX2_play_42 rfl ?_
        refine au_if_lt (tgt := 155) dX2_play_44 (by decide) (fun c44 => ?_) (fun c44 => ?_)
        · refine au_iload dX2_play_155 rfl ?_
          exact au_iret dX2_play_157 rfl rfl (Nat.le_of_ble_eq_true rfl) (Nat.le_of_ble_eq_true rfl) (au_pe (by rw [if_pos ho, show j = 9 by omega, hf0, hs0]; rfl) rfl)
        · refine au_iload dX2_play_47 rfl ?_
          refine au_iconst dX2_play_49 rfl rfl ?_
          refine au_irem dX2_play_50 (by omega) (by omega) ?_
          refine au_if_ne (tgt := 58) dX2_play_51 (by decide) (fun c51 => ?_) (fun c51 => ?_)
          · refine au_iconst dX2_play_58 rfl rfl ?_
            refine au_istore dX2_play_59 (show 7 < 9 by decide) ?_
            show au_Go G _ _ 61 [some (au_r MO), some (au_i o), some (au_i q), some (au_i ((pwF Tc o f0 s0 j).1)), some (au_i ((pwF Tc o f0 s0 j).2.1)), some (au_i ((pwF Tc o f0 s0 j).2.2)), some (au_i t), some (au_i 0), a8] [] (mi, si, hi, sl, r, nx) 0 0
            refine au_aload_n dX2_play_61 rfl ?_
            refine au_getf (C := RX2) (T := TX2) (N := 35) in_X2 (by decide) rfl 0 (by decide) rfl rfl q1359 rfl dX2_play_62 (v := au_r MA) (congrArg au_q (fx_MO_0 hF)) ?_
            refine au_sipush dX2_play_65 rfl rfl ?_
            refine au_iconst dX2_play_68 rfl rfl ?_
            refine au_iload dX2_play_69 rfl ?_
            refine au_if_eq (tgt := 78) dX2_play_71 (by decide) (fun c71 => ?_) (fun c71 => ?_)
            · refine au_iconst dX2_play_78 rfl rfl ?_
              refine au_iload_n dX2_play_79 rfl ?_
              refine au_isub dX2_play_80 (by omega) (by omega) ?_
              refine au_imul dX2_play_81 (by omega) (by omega) ?_
              refine au_iadd dX2_play_82 (by omega) (by omega) ?_
              refine au_iload dX2_play_83 rfl ?_
              refine au_iconst dX2_play_85 rfl rfl ?_
              refine au_idiv dX2_play_86 (by omega) (by omega) ?_
              refine au_iadd dX2_play_87 (by omega) (by omega) ?_
              refine au_iald dX2_play_88 rfl (by omega) (by show _ < ((4544 : Nat) : Int); omega) (v := au_i ((Tc (1 - o) (t / 2)))) (congrArg au_i (hTc (1 - o) _ (by omega) (by omega) (by omega) (by omega))) ?_
              refine au_istore dX2_play_89 (show 8 < 9 by decide) ?_
              show au_Go G _ _ 91 [some (au_r MO), some (au_i o), some (au_i q), some (au_i ((pwF Tc o f0 s0 j).1)), some (au_i ((pwF Tc o f0 s0 j).2.1)), some (au_i ((pwF Tc o f0 s0 j).2.2)), some (au_i t), some (au_i 0), some (au_i (Tc (1 - o) (t / 2)))] [] (mi, si, hi, sl, r, nx) 0 0
              refine au_iload dX2_play_91 rfl ?_
              refine au_iload dX2_play_93 rfl ?_
              refine au_if_eq (tgt := 102) dX2_play_95 (by decide) (fun c95 => ?_) (fun c95 => ?_)
              · refine au_iload dX2_play_102 rfl ?_
                refine au_icmp_le (tgt := 110) dX2_play_104 (by decide) (fun c104 => ?_) (fun c104 => ?_)
                · refine au_iload dX2_play_110 rfl ?_
                  refine au_if_eq (tgt := 120) dX2_play_112 (by decide) (fun c112 => ?_) (fun c112 => ?_)
                  · refine au_iconst dX2_play_120 rfl rfl ?_
                    refine au_istore_n dX2_play_121 (show 3 < 9 by decide) ?_
                    show au_Go G _ _ 122 [some (au_r MO), some (au_i o), some (au_i q), some (au_i 0), some (au_i ((pwF Tc o f0 s0 j).2.1)), some (au_i ((pwF Tc o f0 s0 j).2.2)), some (au_i t), some (au_i 0), some (au_i (Tc (1 - o) (t / 2)))] [] (mi, si, hi, sl, r, nx) 0 0
                    refine au_iload dX2_play_122 rfl ?_
                    refine au_if_eq (tgt := 131) dX2_play_124 (by decide) (fun c124 => ?_) (fun c124 => ?_)
                    · refine au_iload dX2_play_131 rfl ?_
                      refine au_istore dX2_play_133 (show 4 < 9 by decide) ?_
                      show au_Go G _ _ 135 [some (au_r MO), some (au_i o), some (au_i q), some (au_i 0), some (au_i (Tc (1 - o) (t / 2))), some (au_i ((pwF Tc o f0 s0 j).2.2)), some (au_i t), some (au_i 0), some (au_i (Tc (1 - o) (t / 2)))] [] (mi, si, hi, sl, r, nx) 0 0
                      refine au_iload dX2_play_135 rfl ?_
                      refine au_if_eq (tgt := 144) dX2_play_137 (by decide) (fun c137 => ?_) (fun c137 => ?_)
                      · refine au_iconst dX2_play_144 rfl rfl ?_
                        refine au_iload_n dX2_play_145 rfl ?_
                        refine au_isub dX2_play_146 (by omega) (by omega) ?_
                        refine au_istore dX2_play_147 (show 5 < 9 by decide) ?_
                        show au_Go G _ _ 149 [some (au_r MO), some (au_i o), some (au_i q), some (au_i 0), some (au_i (Tc (1 - o) (t / 2))), some (au_i (1 - o)), some (au_i t), some (au_i 0), some (au_i (Tc (1 - o) (t / 2)))] [] (mi, si, hi, sl, r, nx) 0 0
                        refine au_iinc dX2_play_149 rfl (show 6 < 9 by decide) (by omega) (by omega) (by decide) (by decide) ?_
                        show au_Go G _ _ 152 [some (au_r MO), some (au_i o), some (au_i q), some (au_i 0), some (au_i (Tc (1 - o) (t / 2))), some (au_i (1 - o)), some (au_i (t + (-1))), some (au_i 0), some (au_i (Tc (1 - o) (t / 2)))] [] (mi, si, hi, sl, r, nx) 0 0
                        refine au_goto (tgt := 42) dX2_play_152 (by decide) ?_
                        have e1 : ∀ (w : Int × Int × Int), w = pwF Tc o f0 s0 (j + 1) → ∀ a8, au_Go G (yX2_play.cls, cX2_play, 9, (some .int), au_rm 1 0 0, yX2_play.name) (au_QM G (au_rm 1 0 0) (au_pure (au_i (if 0 ≤ o ∧ o ≤ 1 then plyR Tc o q else -2)) (mi, si, hi, sl, r, nx))) 42 [some (au_r MO), some (au_i o), some (au_i q), some (au_i (w.1)), some (au_i (w.2.1)), some (au_i (w.2.2)), some (au_i (t + (-1))), some (au_i 0), a8] [] (mi, si, hi, sl, r, nx) 0 0 := fun w hw a8 => by subst hw; exact ih (j + 1) _ _ a8 (by omega) (by omega) (by omega)
                        have hst : pwF Tc o f0 s0 (j + 1) = if (pwF Tc o f0 s0 j).2.1 < (Tc (1 - o) (t / 2)) then (pwF Tc o f0 s0 j) else (0, (Tc (1 - o) (t / 2)), 1 - o) := by
                          simp only [pwF]
                          rw [if_neg (by omega), show 8 - (j : Int) = t by omega]
                        first
                        | exact e1 (pwF Tc o f0 s0 j) (by rw [hst, if_pos (by omega)]) _
                        | exact e1 (0, (Tc (1 - o) (t / 2)), 1 - o) (by rw [hst, if_neg (by omega)]) _
                      · exact absurd c137 (by decide)
                    · exact absurd c124 (by decide)
                  · exact absurd c112 (by decide)
                · refine au_goto (tgt := 149) dX2_play_107 (by decide) ?_
                  refine au_iinc dX2_play_149 rfl (show 6 < 9 by decide) (by omega) (by omega) (by decide) (by decide) ?_
                  show au_Go G _ _ 152 [some (au_r MO), some (au_i o), some (au_i q), some (au_i ((pwF Tc o f0 s0 j).1)), some (au_i ((pwF Tc o f0 s0 j).2.1)), some (au_i ((pwF Tc o f0 s0 j).2.2)), some (au_i (t + (-1))), some (au_i 0), some (au_i (Tc (1 - o) (t / 2)))] [] (mi, si, hi, sl, r, nx) 0 0
                  refine au_goto (tgt := 42) dX2_play_152 (by decide) ?_
                  have e1 : ∀ (w : Int × Int × Int), w = pwF Tc o f0 s0 (j + 1) → ∀ a8, au_Go G (yX2_play.cls, cX2_play, 9, (some .int), au_rm 1 0 0, yX2_play.name) (au_QM G (au_rm 1 0 0) (au_pure (au_i (if 0 ≤ o ∧ o ≤ 1 then plyR Tc o q else -2)) (mi, si, hi, sl, r, nx))) 42 [some (au_r MO), some (au_i o), some (au_i q), some (au_i (w.1)), some (au_i (w.2.1)), some (au_i (w.2.2)), some (au_i (t + (-1))), some (au_i 0), a8] [] (mi, si, hi, sl, r, nx) 0 0 := fun w hw a8 => by subst hw; exact ih (j + 1) _ _ a8 (by omega) (by omega) (by omega)
                  have hst : pwF Tc o f0 s0 (j + 1) = if (pwF Tc o f0 s0 j).2.1 < (Tc (1 - o) (t / 2)) then (pwF Tc o f0 s0 j) else (0, (Tc (1 - o) (t / 2)), 1 - o) := by
                    simp only [pwF]
                    rw [if_neg (by omega), show 8 - (j : Int) = t by omega]
                  first
                  | exact e1 (pwF Tc o f0 s0 j) (by rw [hst, if_pos (by omega)]) _
                  | exact e1 (0, (Tc (1 - o) (t / 2)), 1 - o) (by rw [hst, if_neg (by omega)]) _
              · exact absurd c95 (by decide)
            · exact absurd c71 (by decide)
          · refine au_iconst dX2_play_54 rfl rfl ?_
            refine au_goto (tgt := 59) dX2_play_55 (by decide) ?_
            refine au_istore dX2_play_59 (show 7 < 9 by decide) ?_
            show au_Go G _ _ 61 [some (au_r MO), some (au_i o), some (au_i q), some (au_i ((pwF Tc o f0 s0 j).1)), some (au_i ((pwF Tc o f0 s0 j).2.1)), some (au_i ((pwF Tc o f0 s0 j).2.2)), some (au_i t), some (au_i 1), a8] [] (mi, si, hi, sl, r, nx) 0 0
            refine au_aload_n dX2_play_61 rfl ?_
            refine au_getf (C := RX2) (T := TX2) (N := 35) in_X2 (by decide) rfl 0 (by decide) rfl rfl q1359 rfl dX2_play_62 (v := au_r MA) (congrArg au_q (fx_MO_0 hF)) ?_
            refine au_sipush dX2_play_65 rfl rfl ?_
            refine au_iconst dX2_play_68 rfl rfl ?_
            refine au_iload dX2_play_69 rfl ?_
            refine au_if_eq (tgt := 78) dX2_play_71 (by decide) (fun c71 => ?_) (fun c71 => ?_)
            · exact absurd c71 (by decide)
            · refine au_iload_n dX2_play_74 rfl ?_
              refine au_goto (tgt := 81) dX2_play_75 (by decide) ?_
              refine au_imul dX2_play_81 (by omega) (by omega) ?_
              refine au_iadd dX2_play_82 (by omega) (by omega) ?_
              refine au_iload dX2_play_83 rfl ?_
              refine au_iconst dX2_play_85 rfl rfl ?_
              refine au_idiv dX2_play_86 (by omega) (by omega) ?_
              refine au_iadd dX2_play_87 (by omega) (by omega) ?_
              refine au_iald dX2_play_88 rfl (by omega) (by show _ < ((4544 : Nat) : Int); omega) (v := au_i ((Tc o (t / 2)))) (congrArg au_i (hTc o _ (by omega) (by omega) (by omega) (by omega))) ?_
              refine au_istore dX2_play_89 (show 8 < 9 by decide) ?_
              show au_Go G _ _ 91 [some (au_r MO), some (au_i o), some (au_i q), some (au_i ((pwF Tc o f0 s0 j).1)), some (au_i ((pwF Tc o f0 s0 j).2.1)), some (au_i ((pwF Tc o f0 s0 j).2.2)), some (au_i t), some (au_i 1), some (au_i (Tc o (t / 2)))] [] (mi, si, hi, sl, r, nx) 0 0
              refine au_iload dX2_play_91 rfl ?_
              refine au_iload dX2_play_93 rfl ?_
              refine au_if_eq (tgt := 102) dX2_play_95 (by decide) (fun c95 => ?_) (fun c95 => ?_)
              · exact absurd c95 (by decide)
              · refine au_iload_n dX2_play_98 rfl ?_
                refine au_goto (tgt := 104) dX2_play_99 (by decide) ?_
                refine au_icmp_le (tgt := 110) dX2_play_104 (by decide) (fun c104 => ?_) (fun c104 => ?_)
                · refine au_iload dX2_play_110 rfl ?_
                  refine au_if_eq (tgt := 120) dX2_play_112 (by decide) (fun c112 => ?_) (fun c112 => ?_)
                  · exact absurd c112 (by decide)
                  · refine au_iload dX2_play_115 rfl ?_
                    refine au_goto (tgt := 121) dX2_play_117 (by decide) ?_
                    refine au_istore_n dX2_play_121 (show 3 < 9 by decide) ?_
                    show au_Go G _ _ 122 [some (au_r MO), some (au_i o), some (au_i q), some (au_i (Tc o (t / 2))), some (au_i ((pwF Tc o f0 s0 j).2.1)), some (au_i ((pwF Tc o f0 s0 j).2.2)), some (au_i t), some (au_i 1), some (au_i (Tc o (t / 2)))] [] (mi, si, hi, sl, r, nx) 0 0
                    refine au_iload dX2_play_122 rfl ?_
                    refine au_if_eq (tgt := 131) dX2_play_124 (by decide) (fun c124 => ?_) (fun c124 => ?_)
                    · exact absurd c124 (by decide)
                    · refine au_iconst dX2_play_127 rfl rfl ?_
                      refine au_goto (tgt := 133) dX2_play_128 (by decide) ?_
                      refine au_istore dX2_play_133 (show 4 < 9 by decide) ?_
                      show au_Go G _ _ 135 [some (au_r MO), some (au_i o), some (au_i q), some (au_i (Tc o (t / 2))), some (au_i 0), some (au_i ((pwF Tc o f0 s0 j).2.2)), some (au_i t), some (au_i 1), some (au_i (Tc o (t / 2)))] [] (mi, si, hi, sl, r, nx) 0 0
                      refine au_iload dX2_play_135 rfl ?_
                      refine au_if_eq (tgt := 144) dX2_play_137 (by decide) (fun c137 => ?_) (fun c137 => ?_)
                      · exact absurd c137 (by decide)
                      · refine au_iload_n dX2_play_140 rfl ?_
                        refine au_goto (tgt := 147) dX2_play_141 (by decide) ?_
                        refine au_istore dX2_play_147 (show 5 < 9 by decide) ?_
                        show au_Go G _ _ 149 [some (au_r MO), some (au_i o), some (au_i q), some (au_i (Tc o (t / 2))), some (au_i 0), some (au_i o), some (au_i t), some (au_i 1), some (au_i (Tc o (t / 2)))] [] (mi, si, hi, sl, r, nx) 0 0
                        refine au_iinc dX2_play_149 rfl (show 6 < 9 by decide) (by omega) (by omega) (by decide) (by decide) ?_
                        show au_Go G _ _ 152 [some (au_r MO), some (au_i o), some (au_i q), some (au_i (Tc o (t / 2))), some (au_i 0), some (au_i o), some (au_i (t + (-1))), some (au_i 1), some (au_i (Tc o (t / 2)))] [] (mi, si, hi, sl, r, nx) 0 0
                        refine au_goto (tgt := 42) dX2_play_152 (by decide) ?_
                        have e1 : ∀ (w : Int × Int × Int), w = pwF Tc o f0 s0 (j + 1) → ∀ a8, au_Go G (yX2_play.cls, cX2_play, 9, (some .int), au_rm 1 0 0, yX2_play.name) (au_QM G (au_rm 1 0 0) (au_pure (au_i (if 0 ≤ o ∧ o ≤ 1 then plyR Tc o q else -2)) (mi, si, hi, sl, r, nx))) 42 [some (au_r MO), some (au_i o), some (au_i q), some (au_i (w.1)), some (au_i (w.2.1)), some (au_i (w.2.2)), some (au_i (t + (-1))), some (au_i 1), a8] [] (mi, si, hi, sl, r, nx) 0 0 := fun w hw a8 => by subst hw; exact ih (j + 1) _ _ a8 (by omega) (by omega) (by omega)
                        have hst : pwF Tc o f0 s0 (j + 1) = if (pwF Tc o f0 s0 j).1 < (Tc o (t / 2)) then (pwF Tc o f0 s0 j) else ((Tc o (t / 2)), 0, o) := by
                          simp only [pwF]
                          rw [if_pos (by omega), show 8 - (j : Int) = t by omega]
                        first
                        | exact e1 (pwF Tc o f0 s0 j) (by rw [hst, if_pos (by omega)]) _
                        | exact e1 ((Tc o (t / 2)), 0, o) (by rw [hst, if_neg (by omega)]) _
                · refine au_goto (tgt := 149) dX2_play_107 (by decide) ?_
                  refine au_iinc dX2_play_149 rfl (show 6 < 9 by decide) (by omega) (by omega) (by decide) (by decide) ?_
                  show au_Go G _ _ 152 [some (au_r MO), some (au_i o), some (au_i q), some (au_i ((pwF Tc o f0 s0 j).1)), some (au_i ((pwF Tc o f0 s0 j).2.1)), some (au_i ((pwF Tc o f0 s0 j).2.2)), some (au_i (t + (-1))), some (au_i 1), some (au_i (Tc o (t / 2)))] [] (mi, si, hi, sl, r, nx) 0 0
                  refine au_goto (tgt := 42) dX2_play_152 (by decide) ?_
                  have e1 : ∀ (w : Int × Int × Int), w = pwF Tc o f0 s0 (j + 1) → ∀ a8, au_Go G (yX2_play.cls, cX2_play, 9, (some .int), au_rm 1 0 0, yX2_play.name) (au_QM G (au_rm 1 0 0) (au_pure (au_i (if 0 ≤ o ∧ o ≤ 1 then plyR Tc o q else -2)) (mi, si, hi, sl, r, nx))) 42 [some (au_r MO), some (au_i o), some (au_i q), some (au_i (w.1)), some (au_i (w.2.1)), some (au_i (w.2.2)), some (au_i (t + (-1))), some (au_i 1), a8] [] (mi, si, hi, sl, r, nx) 0 0 := fun w hw a8 => by subst hw; exact ih (j + 1) _ _ a8 (by omega) (by omega) (by omega)
                  have hst : pwF Tc o f0 s0 (j + 1) = if (pwF Tc o f0 s0 j).1 < (Tc o (t / 2)) then (pwF Tc o f0 s0 j) else ((Tc o (t / 2)), 0, o) := by
                    simp only [pwF]
                    rw [if_pos (by omega), show 8 - (j : Int) = t by omega]
                  first
                  | exact e1 (pwF Tc o f0 s0 j) (by rw [hst, if_pos (by omega)]) _
                  | exact e1 ((Tc o (t / 2)), 0, o) (by rw [hst, if_neg (by omega)]) _
    exact hl 10 0 8 none none rfl (by omega) (by omega)
  show au_Go G _ _ 0 [some (au_r MO), some (au_i o), some (au_i q), none, none, none, none, none, none] [] (mi, si, hi, sl, r, nx) 0 0
  refine au_iload_n dX2_play_0 rfl ?_
  refine au_iconst dX2_play_1 rfl rfl ?_
  refine au_iconst dX2_play_2 rfl rfl ?_
  refine au_callSp (n := 3) (kX2_isIn G o 0 1 (mi, si, hi, sl, r, nx)) (lw_S q1475 q1476 q134 q1477) (by decide +kernel) rfl rfl rfl (Nat.le_of_ble_eq_true rfl) (Nat.le_of_ble_eq_true rfl) (Nat.le_of_ble_eq_true rfl) (Nat.le_of_ble_eq_true rfl) (Nat.le_of_ble_eq_true rfl) dX2_play_3 ?_
  refine au_if_ne (tgt := 12) dX2_play_6 (by decide) (fun c6 => ?_) (fun c6 => ?_)
  · have c6 := au_b1 c6
    refine au_iload_n dX2_play_12 rfl ?_
    refine au_if_eq (tgt := 21) dX2_play_13 (by decide) (fun c13 => ?_) (fun c13 => ?_)
    · refine au_iconst dX2_play_21 rfl rfl ?_
      refine au_istore_n dX2_play_22 (show 3 < 9 by decide) ?_
      show au_Go G _ _ 23 [some (au_r MO), some (au_i o), some (au_i q), some (au_i 0), none, none, none, none, none] [] (mi, si, hi, sl, r, nx) 0 0
      refine au_iload_n dX2_play_23 rfl ?_
      refine au_if_eq (tgt := 31) dX2_play_24 (by decide) (fun c24 => ?_) (fun c24 => ?_)
      · refine au_bipush dX2_play_31 rfl rfl ?_
        refine au_istore dX2_play_33 (show 4 < 9 by decide) ?_
        show au_Go G _ _ 35 [some (au_r MO), some (au_i o), some (au_i q), some (au_i 0), some (au_i 99), none, none, none, none] [] (mi, si, hi, sl, r, nx) 0 0
        refine au_iconst dX2_play_35 rfl rfl ?_
        refine au_istore dX2_play_36 (show 5 < 9 by decide) ?_
        show au_Go G _ _ 38 [some (au_r MO), some (au_i o), some (au_i q), some (au_i 0), some (au_i 99), some (au_i (-1)), none, none, none] [] (mi, si, hi, sl, r, nx) 0 0
        refine au_bipush dX2_play_38 rfl rfl ?_
        refine au_istore dX2_play_40 (show 6 < 9 by decide) ?_
        show au_Go G _ _ 42 [some (au_r MO), some (au_i o), some (au_i q), some (au_i 0), some (au_i 99), some (au_i (-1)), some (au_i 8), none, none] [] (mi, si, hi, sl, r, nx) 0 0
        first
        | exact absurd c13 c24
        | exact absurd c24 c13
        | exact hkl ⟨by omega, by omega⟩ 0 99 (by rw [if_pos c13]) (by rw [if_pos c13])
        | exact hkl ⟨by omega, by omega⟩ 99 0 (by rw [if_neg c13]) (by rw [if_neg c13])
      · refine au_iconst dX2_play_27 rfl rfl ?_
        refine au_goto (tgt := 33) dX2_play_28 (by decide) ?_
        refine au_istore dX2_play_33 (show 4 < 9 by decide) ?_
        show au_Go G _ _ 35 [some (au_r MO), some (au_i o), some (au_i q), some (au_i 0), some (au_i 0), none, none, none, none] [] (mi, si, hi, sl, r, nx) 0 0
        refine au_iconst dX2_play_35 rfl rfl ?_
        refine au_istore dX2_play_36 (show 5 < 9 by decide) ?_
        show au_Go G _ _ 38 [some (au_r MO), some (au_i o), some (au_i q), some (au_i 0), some (au_i 0), some (au_i (-1)), none, none, none] [] (mi, si, hi, sl, r, nx) 0 0
        refine au_bipush dX2_play_38 rfl rfl ?_
        refine au_istore dX2_play_40 (show 6 < 9 by decide) ?_
        show au_Go G _ _ 42 [some (au_r MO), some (au_i o), some (au_i q), some (au_i 0), some (au_i 0), some (au_i (-1)), some (au_i 8), none, none] [] (mi, si, hi, sl, r, nx) 0 0
        first
        | exact absurd c13 c24
        | exact absurd c24 c13
        | exact hkl ⟨by omega, by omega⟩ 0 99 (by rw [if_pos c13]) (by rw [if_pos c13])
        | exact hkl ⟨by omega, by omega⟩ 99 0 (by rw [if_neg c13]) (by rw [if_neg c13])
    · refine au_bipush dX2_play_16 rfl rfl ?_
      refine au_goto (tgt := 22) dX2_play_18 (by decide) ?_
      refine au_istore_n dX2_play_22 (show 3 < 9 by decide) ?_
      show au_Go G _ _ 23 [some (au_r MO), some (au_i o), some (au_i q), some (au_i 99), none, none, none, none, none] [] (mi, si, hi, sl, r, nx) 0 0
      refine au_iload_n dX2_play_23 rfl ?_
      refine au_if_eq (tgt := 31) dX2_play_24 (by decide) (fun c24 => ?_) (fun c24 => ?_)
      · refine au_bipush dX2_play_31 rfl rfl ?_
        refine au_istore dX2_play_33 (show 4 < 9 by decide) ?_
        show au_Go G _ _ 35 [some (au_r MO), some (au_i o), some (au_i q), some (au_i 99), some (au_i 99), none, none, none, none] [] (mi, si, hi, sl, r, nx) 0 0
        refine au_iconst dX2_play_35 rfl rfl ?_
        refine au_istore dX2_play_36 (show 5 < 9 by decide) ?_
        show au_Go G _ _ 38 [some (au_r MO), some (au_i o), some (au_i q), some (au_i 99), some (au_i 99), some (au_i (-1)), none, none, none] [] (mi, si, hi, sl, r, nx) 0 0
        refine au_bipush dX2_play_38 rfl rfl ?_
        refine au_istore dX2_play_40 (show 6 < 9 by decide) ?_
        show au_Go G _ _ 42 [some (au_r MO), some (au_i o), some (au_i q), some (au_i 99), some (au_i 99), some (au_i (-1)), some (au_i 8), none, none] [] (mi, si, hi, sl, r, nx) 0 0
        first
        | exact absurd c13 c24
        | exact absurd c24 c13
        | exact hkl ⟨by omega, by omega⟩ 0 99 (by rw [if_pos c13]) (by rw [if_pos c13])
        | exact hkl ⟨by omega, by omega⟩ 99 0 (by rw [if_neg c13]) (by rw [if_neg c13])
      · refine au_iconst dX2_play_27 rfl rfl ?_
        refine au_goto (tgt := 33) dX2_play_28 (by decide) ?_
        refine au_istore dX2_play_33 (show 4 < 9 by decide) ?_
        show au_Go G _ _ 35 [some (au_r MO), some (au_i o), some (au_i q), some (au_i 99), some (au_i 0), none, none, none, none] [] (mi, si, hi, sl, r, nx) 0 0
        refine au_iconst dX2_play_35 rfl rfl ?_
        refine au_istore dX2_play_36 (show 5 < 9 by decide) ?_
        show au_Go G _ _ 38 [some (au_r MO), some (au_i o), some (au_i q), some (au_i 99), some (au_i 0), some (au_i (-1)), none, none, none] [] (mi, si, hi, sl, r, nx) 0 0
        refine au_bipush dX2_play_38 rfl rfl ?_
        refine au_istore dX2_play_40 (show 6 < 9 by decide) ?_
        show au_Go G _ _ 42 [some (au_r MO), some (au_i o), some (au_i q), some (au_i 99), some (au_i 0), some (au_i (-1)), some (au_i 8), none, none] [] (mi, si, hi, sl, r, nx) 0 0
        first
        | exact absurd c13 c24
        | exact absurd c24 c13
        | exact hkl ⟨by omega, by omega⟩ 0 99 (by rw [if_pos c13]) (by rw [if_pos c13])
        | exact hkl ⟨by omega, by omega⟩ 99 0 (by rw [if_neg c13]) (by rw [if_neg c13])
  · have c6 := au_b0 c6
    refine au_bipush dX2_play_9 rfl rfl ?_
    exact au_iret dX2_play_11 rfl rfl (Nat.le_of_ble_eq_true rfl) (Nat.le_of_ble_eq_true rfl) (au_pe (by rw [if_neg (by omega)]) rfl)
