/-! THE MODEL: bytes, words (printed by tools/m87.py) -/
set_option maxRecDepth 100000
set_option maxHeartbeats 4000000

/-- a tape of bytes -/
def TpOK (T : Int → Int) (n : Int) : Prop := (0 ≤ n ∧ n ≤ 300) ∧ ∀ j, 0 ≤ j → j < n → 0 ≤ T j ∧ T j ≤ 255
noncomputable def byt (T : Int → Int) (n k : Int) : Int := if k < n then T k else -1
theorem byt_bd {T : Int → Int} {n k : Int} (h : TpOK T n) (h0 : 0 ≤ k) : -1 ≤ byt T n k ∧ byt T n k ≤ 255 := by
  unfold byt
  by_cases c : k < n
  · rw [if_pos c]; have := h.2 k h0 c; omega
  · rw [if_neg c]; omega

theorem kX2_byteAt (G : au_G) (k : Int) (mi si hi sl : au_A → Int → Int) (r : au_A → Int → Option au_A) (nx : Nat) (hF : Fix r) (h0 : 0 ≤ k) (hTp : TpOK (mi MTape) (mi MO 4)) : au_Ctr G yX2_byteAt cX2_byteAt 2 (some .int) 0 0 0 [au_r MO, au_i k] (mi, si, hi, sl, r, nx) (au_pure (au_i (byt (mi MTape) (mi MO 4) k)) (mi, si, hi, sl, r, nx)) := by
  refine au_of (by decide) (Nat.le_of_ble_eq_true rfl) ?_
  have hn := hTp.1
  show au_Go G _ _ 0 [some (au_r MO), some (au_i k)] [] (mi, si, hi, sl, r, nx) 0 0
  refine au_iload_n dX2_byteAt_0 rfl ?_
  refine au_aload_n dX2_byteAt_1 rfl ?_
  refine au_getf (C := RX2) (T := TX2) (N := 35) in_X2 (by decide) rfl 4 (by decide) rfl rfl q1363 rfl dX2_byteAt_2 (v := au_i (mi MO 4)) (by rfl) ?_
  refine au_icmp_ge (tgt := 17) dX2_byteAt_5 (by decide) (fun c5 => ?_) (fun c5 => ?_)
  · refine au_iconst dX2_byteAt_17 rfl rfl ?_
    exact au_iret dX2_byteAt_18 rfl rfl (Nat.le_of_ble_eq_true rfl) (Nat.le_of_ble_eq_true rfl) (by first | exact au_pe (by unfold byt; rw [if_pos (by omega)]) rfl | exact au_pe (by unfold byt; rw [if_neg (by omega)]) rfl)
  · refine au_aload_n dX2_byteAt_8 rfl ?_
    refine au_getf (C := RX2) (T := TX2) (N := 35) in_X2 (by decide) rfl 3 (by decide) rfl rfl q1362 rfl dX2_byteAt_9 (v := au_r MTape) (congrArg au_q (fx_MO_3 hF)) ?_
    refine au_iload_n dX2_byteAt_12 rfl ?_
    refine au_iald dX2_byteAt_13 rfl (by omega) (by show _ < ((300 : Nat) : Int); omega) (v := au_i (mi MTape k)) (by rfl) ?_
    refine au_goto (tgt := 18) dX2_byteAt_14 (by decide) ?_
    exact au_iret dX2_byteAt_18 rfl rfl (Nat.le_of_ble_eq_true rfl) (Nat.le_of_ble_eq_true rfl) (by first | exact au_pe (by unfold byt; rw [if_pos (by omega)]) rfl | exact au_pe (by unfold byt; rw [if_neg (by omega)]) rfl)
theorem kX2_isLetterByte (G : au_G) (c : Int) (M : au_M) : au_Ctr G yX2_isLetterByte cX2_isLetterByte 1 (some .boolean) 0 0 0 [au_i c] M (au_pure (au_i (au_b (leC c = true))) M) := by
  refine au_of (by decide) (Nat.le_of_ble_eq_true rfl) ?_
  show au_Go G _ _ 0 [some (au_i c)] [] M 0 0
  refine au_iload_n dX2_isLetterByte_0 rfl ?_
  refine au_bipush dX2_isLetterByte_1 rfl rfl ?_
  refine au_icmp_lt (tgt := 12) dX2_isLetterByte_3 (by decide) (fun c3 => ?_) (fun c3 => ?_)
  · refine au_iload_n dX2_isLetterByte_12 rfl ?_
    refine au_bipush dX2_isLetterByte_13 rfl rfl ?_
    refine au_icmp_lt (tgt := 28) dX2_isLetterByte_15 (by decide) (fun c15 => ?_) (fun c15 => ?_)
    · refine au_iconst dX2_isLetterByte_28 rfl rfl ?_
      exact au_zret dX2_isLetterByte_29 rfl (Or.inl rfl) rfl (Nat.le_of_ble_eq_true rfl) (Nat.le_of_ble_eq_true rfl) (by first | exact au_pt (decide_eq_true (by omega)) rfl | exact au_pf (fun z => absurd (of_decide_eq_true z) (by omega)) rfl)
    · refine au_iload_n dX2_isLetterByte_18 rfl ?_
      refine au_bipush dX2_isLetterByte_19 rfl rfl ?_
      refine au_icmp_gt (tgt := 28) dX2_isLetterByte_21 (by decide) (fun c21 => ?_) (fun c21 => ?_)
      · refine au_iconst dX2_isLetterByte_28 rfl rfl ?_
        exact au_zret dX2_isLetterByte_29 rfl (Or.inl rfl) rfl (Nat.le_of_ble_eq_true rfl) (Nat.le_of_ble_eq_true rfl) (by first | exact au_pt (decide_eq_true (by omega)) rfl | exact au_pf (fun z => absurd (of_decide_eq_true z) (by omega)) rfl)
      · refine au_iconst dX2_isLetterByte_24 rfl rfl ?_
        refine au_goto (tgt := 29) dX2_isLetterByte_25 (by decide) ?_
        exact au_zret dX2_isLetterByte_29 rfl (Or.inr rfl) rfl (Nat.le_of_ble_eq_true rfl) (Nat.le_of_ble_eq_true rfl) (by first | exact au_pt (decide_eq_true (by omega)) rfl | exact au_pf (fun z => absurd (of_decide_eq_true z) (by omega)) rfl)
  · refine au_iload_n dX2_isLetterByte_6 rfl ?_
    refine au_bipush dX2_isLetterByte_7 rfl rfl ?_
    refine au_icmp_le (tgt := 24) dX2_isLetterByte_9 (by decide) (fun c9 => ?_) (fun c9 => ?_)
    · refine au_iconst dX2_isLetterByte_24 rfl rfl ?_
      refine au_goto (tgt := 29) dX2_isLetterByte_25 (by decide) ?_
      exact au_zret dX2_isLetterByte_29 rfl (Or.inr rfl) rfl (Nat.le_of_ble_eq_true rfl) (Nat.le_of_ble_eq_true rfl) (by first | exact au_pt (decide_eq_true (by omega)) rfl | exact au_pf (fun z => absurd (of_decide_eq_true z) (by omega)) rfl)
    · refine au_iload_n dX2_isLetterByte_12 rfl ?_
      refine au_bipush dX2_isLetterByte_13 rfl rfl ?_
      refine au_icmp_lt (tgt := 28) dX2_isLetterByte_15 (by decide) (fun c15 => ?_) (fun c15 => ?_)
      · refine au_iconst dX2_isLetterByte_28 rfl rfl ?_
        exact au_zret dX2_isLetterByte_29 rfl (Or.inl rfl) rfl (Nat.le_of_ble_eq_true rfl) (Nat.le_of_ble_eq_true rfl) (by first | exact au_pt (decide_eq_true (by omega)) rfl | exact au_pf (fun z => absurd (of_decide_eq_true z) (by omega)) rfl)
      · refine au_iload_n dX2_isLetterByte_18 rfl ?_
        refine au_bipush dX2_isLetterByte_19 rfl rfl ?_
        refine au_icmp_gt (tgt := 28) dX2_isLetterByte_21 (by decide) (fun c21 => ?_) (fun c21 => ?_)
        · refine au_iconst dX2_isLetterByte_28 rfl rfl ?_
          exact au_zret dX2_isLetterByte_29 rfl (Or.inl rfl) rfl (Nat.le_of_ble_eq_true rfl) (Nat.le_of_ble_eq_true rfl) (by first | exact au_pt (decide_eq_true (by omega)) rfl | exact au_pf (fun z => absurd (of_decide_eq_true z) (by omega)) rfl)
        · refine au_iconst dX2_isLetterByte_24 rfl rfl ?_
          refine au_goto (tgt := 29) dX2_isLetterByte_25 (by decide) ?_
          exact au_zret dX2_isLetterByte_29 rfl (Or.inr rfl) rfl (Nat.le_of_ble_eq_true rfl) (Nat.le_of_ble_eq_true rfl) (by first | exact au_pt (decide_eq_true (by omega)) rfl | exact au_pf (fun z => absurd (of_decide_eq_true z) (by omega)) rfl)
theorem kX2_isFigure (G : au_G) (c : Int) (M : au_M) : au_Ctr G yX2_isFigure cX2_isFigure 1 (some .boolean) 0 0 0 [au_i c] M (au_pure (au_i (au_b (diC c = true))) M) := by
  refine au_of (by decide) (Nat.le_of_ble_eq_true rfl) ?_
  show au_Go G _ _ 0 [some (au_i c)] [] M 0 0
  refine au_iload_n dX2_isFigure_0 rfl ?_
  refine au_bipush dX2_isFigure_1 rfl rfl ?_
  refine au_icmp_lt (tgt := 16) dX2_isFigure_3 (by decide) (fun c3 => ?_) (fun c3 => ?_)
  · refine au_iconst dX2_isFigure_16 rfl rfl ?_
    exact au_zret dX2_isFigure_17 rfl (Or.inl rfl) rfl (Nat.le_of_ble_eq_true rfl) (Nat.le_of_ble_eq_true rfl) (by first | exact au_pt (decide_eq_true (by omega)) rfl | exact au_pf (fun z => absurd (of_decide_eq_true z) (by omega)) rfl)
  · refine au_iload_n dX2_isFigure_6 rfl ?_
    refine au_bipush dX2_isFigure_7 rfl rfl ?_
    refine au_icmp_gt (tgt := 16) dX2_isFigure_9 (by decide) (fun c9 => ?_) (fun c9 => ?_)
    · refine au_iconst dX2_isFigure_16 rfl rfl ?_
      exact au_zret dX2_isFigure_17 rfl (Or.inl rfl) rfl (Nat.le_of_ble_eq_true rfl) (Nat.le_of_ble_eq_true rfl) (by first | exact au_pt (decide_eq_true (by omega)) rfl | exact au_pf (fun z => absurd (of_decide_eq_true z) (by omega)) rfl)
    · refine au_iconst dX2_isFigure_12 rfl rfl ?_
      refine au_goto (tgt := 17) dX2_isFigure_13 (by decide) ?_
      exact au_zret dX2_isFigure_17 rfl (Or.inr rfl) rfl (Nat.le_of_ble_eq_true rfl) (Nat.le_of_ble_eq_true rfl) (by first | exact au_pt (decide_eq_true (by omega)) rfl | exact au_pf (fun z => absurd (of_decide_eq_true z) (by omega)) rfl)
theorem kX2_isSign (G : au_G) (c : Int) (M : au_M) : au_Ctr G yX2_isSign cX2_isSign 1 (some .boolean) 0 0 0 [au_i c] M (au_pure (au_i (au_b (sgC' c = true ∨ c = 58))) M) := by
  refine au_of (by decide) (Nat.le_of_ble_eq_true rfl) ?_
  show au_Go G _ _ 0 [some (au_i c)] [] M 0 0
  refine au_iload_n dX2_isSign_0 rfl ?_
  by_cases c1 : c < 35 ∨ 62 < c
  · refine au_tableOut (tgt := 130) dX2_isSign_1 c1 (by decide) ?_
    refine au_iconst dX2_isSign_130 rfl rfl ?_
    exact au_zret dX2_isSign_131 rfl (Or.inl rfl) rfl (Nat.le_of_ble_eq_true rfl) (Nat.le_of_ble_eq_true rfl) (by first | exact au_pt (by first | exact Or.inr (by omega) | exact Or.inl (decide_eq_true (by omega))) rfl | exact au_pf (fun z => z.elim (fun y => absurd (of_decide_eq_true y) (by omega)) (fun y => absurd y (by omega))) rfl)
  · have c1 : c = 35 ∨ c = 36 ∨ c = 37 ∨ c = 38 ∨ c = 39 ∨ c = 40 ∨ c = 41 ∨ c = 42 ∨ c = 43 ∨ c = 44 ∨ c = 45 ∨ c = 46 ∨ c = 47 ∨ c = 48 ∨ c = 49 ∨ c = 50 ∨ c = 51 ∨ c = 52 ∨ c = 53 ∨ c = 54 ∨ c = 55 ∨ c = 56 ∨ c = 57 ∨ c = 58 ∨ c = 59 ∨ c = 60 ∨ c = 61 ∨ c = 62 := by omega
    rcases c1 with e1 | e1 | e1 | e1 | e1 | e1 | e1 | e1 | e1 | e1 | e1 | e1 | e1 | e1 | e1 | e1 | e1 | e1 | e1 | e1 | e1 | e1 | e1 | e1 | e1 | e1 | e1 | e1
    · refine au_tableIn (off := 127) (tgt := 128) dX2_isSign_1 (by omega) (by omega) (by rw [e1]; rfl) (by decide) ?_
      refine au_iconst dX2_isSign_128 rfl rfl ?_
      exact au_zret dX2_isSign_129 rfl (Or.inr rfl) rfl (Nat.le_of_ble_eq_true rfl) (Nat.le_of_ble_eq_true rfl) (by first | exact au_pt (by first | exact Or.inr (by omega) | exact Or.inl (decide_eq_true (by omega))) rfl | exact au_pf (fun z => z.elim (fun y => absurd (of_decide_eq_true y) (by omega)) (fun y => absurd y (by omega))) rfl)
    · refine au_tableIn (off := 129) (tgt := 130) dX2_isSign_1 (by omega) (by omega) (by rw [e1]; rfl) (by decide) ?_
      refine au_iconst dX2_isSign_130 rfl rfl ?_
      exact au_zret dX2_isSign_131 rfl (Or.inl rfl) rfl (Nat.le_of_ble_eq_true rfl) (Nat.le_of_ble_eq_true rfl) (by first | exact au_pt (by first | exact Or.inr (by omega) | exact Or.inl (decide_eq_true (by omega))) rfl | exact au_pf (fun z => z.elim (fun y => absurd (of_decide_eq_true y) (by omega)) (fun y => absurd y (by omega))) rfl)
    · refine au_tableIn (off := 129) (tgt := 130) dX2_isSign_1 (by omega) (by omega) (by rw [e1]; rfl) (by decide) ?_
      refine au_iconst dX2_isSign_130 rfl rfl ?_
      exact au_zret dX2_isSign_131 rfl (Or.inl rfl) rfl (Nat.le_of_ble_eq_true rfl) (Nat.le_of_ble_eq_true rfl) (by first | exact au_pt (by first | exact Or.inr (by omega) | exact Or.inl (decide_eq_true (by omega))) rfl | exact au_pf (fun z => z.elim (fun y => absurd (of_decide_eq_true y) (by omega)) (fun y => absurd y (by omega))) rfl)
    · refine au_tableIn (off := 129) (tgt := 130) dX2_isSign_1 (by omega) (by omega) (by rw [e1]; rfl) (by decide) ?_
      refine au_iconst dX2_isSign_130 rfl rfl ?_
      exact au_zret dX2_isSign_131 rfl (Or.inl rfl) rfl (Nat.le_of_ble_eq_true rfl) (Nat.le_of_ble_eq_true rfl) (by first | exact au_pt (by first | exact Or.inr (by omega) | exact Or.inl (decide_eq_true (by omega))) rfl | exact au_pf (fun z => z.elim (fun y => absurd (of_decide_eq_true y) (by omega)) (fun y => absurd y (by omega))) rfl)
    · refine au_tableIn (off := 129) (tgt := 130) dX2_isSign_1 (by omega) (by omega) (by rw [e1]; rfl) (by decide) ?_
      refine au_iconst dX2_isSign_130 rfl rfl ?_
      exact au_zret dX2_isSign_131 rfl (Or.inl rfl) rfl (Nat.le_of_ble_eq_true rfl) (Nat.le_of_ble_eq_true rfl) (by first | exact au_pt (by first | exact Or.inr (by omega) | exact Or.inl (decide_eq_true (by omega))) rfl | exact au_pf (fun z => z.elim (fun y => absurd (of_decide_eq_true y) (by omega)) (fun y => absurd y (by omega))) rfl)
    · refine au_tableIn (off := 127) (tgt := 128) dX2_isSign_1 (by omega) (by omega) (by rw [e1]; rfl) (by decide) ?_
      refine au_iconst dX2_isSign_128 rfl rfl ?_
      exact au_zret dX2_isSign_129 rfl (Or.inr rfl) rfl (Nat.le_of_ble_eq_true rfl) (Nat.le_of_ble_eq_true rfl) (by first | exact au_pt (by first | exact Or.inr (by omega) | exact Or.inl (decide_eq_true (by omega))) rfl | exact au_pf (fun z => z.elim (fun y => absurd (of_decide_eq_true y) (by omega)) (fun y => absurd y (by omega))) rfl)
    · refine au_tableIn (off := 127) (tgt := 128) dX2_isSign_1 (by omega) (by omega) (by rw [e1]; rfl) (by decide) ?_
      refine au_iconst dX2_isSign_128 rfl rfl ?_
      exact au_zret dX2_isSign_129 rfl (Or.inr rfl) rfl (Nat.le_of_ble_eq_true rfl) (Nat.le_of_ble_eq_true rfl) (by first | exact au_pt (by first | exact Or.inr (by omega) | exact Or.inl (decide_eq_true (by omega))) rfl | exact au_pf (fun z => z.elim (fun y => absurd (of_decide_eq_true y) (by omega)) (fun y => absurd y (by omega))) rfl)
    · refine au_tableIn (off := 127) (tgt := 128) dX2_isSign_1 (by omega) (by omega) (by rw [e1]; rfl) (by decide) ?_
      refine au_iconst dX2_isSign_128 rfl rfl ?_
      exact au_zret dX2_isSign_129 rfl (Or.inr rfl) rfl (Nat.le_of_ble_eq_true rfl) (Nat.le_of_ble_eq_true rfl) (by first | exact au_pt (by first | exact Or.inr (by omega) | exact Or.inl (decide_eq_true (by omega))) rfl | exact au_pf (fun z => z.elim (fun y => absurd (of_decide_eq_true y) (by omega)) (fun y => absurd y (by omega))) rfl)
    · refine au_tableIn (off := 127) (tgt := 128) dX2_isSign_1 (by omega) (by omega) (by rw [e1]; rfl) (by decide) ?_
      refine au_iconst dX2_isSign_128 rfl rfl ?_
      exact au_zret dX2_isSign_129 rfl (Or.inr rfl) rfl (Nat.le_of_ble_eq_true rfl) (Nat.le_of_ble_eq_true rfl) (by first | exact au_pt (by first | exact Or.inr (by omega) | exact Or.inl (decide_eq_true (by omega))) rfl | exact au_pf (fun z => z.elim (fun y => absurd (of_decide_eq_true y) (by omega)) (fun y => absurd y (by omega))) rfl)
    · refine au_tableIn (off := 129) (tgt := 130) dX2_isSign_1 (by omega) (by omega) (by rw [e1]; rfl) (by decide) ?_
      refine au_iconst dX2_isSign_130 rfl rfl ?_
      exact au_zret dX2_isSign_131 rfl (Or.inl rfl) rfl (Nat.le_of_ble_eq_true rfl) (Nat.le_of_ble_eq_true rfl) (by first | exact au_pt (by first | exact Or.inr (by omega) | exact Or.inl (decide_eq_true (by omega))) rfl | exact au_pf (fun z => z.elim (fun y => absurd (of_decide_eq_true y) (by omega)) (fun y => absurd y (by omega))) rfl)
    · refine au_tableIn (off := 127) (tgt := 128) dX2_isSign_1 (by omega) (by omega) (by rw [e1]; rfl) (by decide) ?_
      refine au_iconst dX2_isSign_128 rfl rfl ?_
      exact au_zret dX2_isSign_129 rfl (Or.inr rfl) rfl (Nat.le_of_ble_eq_true rfl) (Nat.le_of_ble_eq_true rfl) (by first | exact au_pt (by first | exact Or.inr (by omega) | exact Or.inl (decide_eq_true (by omega))) rfl | exact au_pf (fun z => z.elim (fun y => absurd (of_decide_eq_true y) (by omega)) (fun y => absurd y (by omega))) rfl)
    · refine au_tableIn (off := 129) (tgt := 130) dX2_isSign_1 (by omega) (by omega) (by rw [e1]; rfl) (by decide) ?_
      refine au_iconst dX2_isSign_130 rfl rfl ?_
      exact au_zret dX2_isSign_131 rfl (Or.inl rfl) rfl (Nat.le_of_ble_eq_true rfl) (Nat.le_of_ble_eq_true rfl) (by first | exact au_pt (by first | exact Or.inr (by omega) | exact Or.inl (decide_eq_true (by omega))) rfl | exact au_pf (fun z => z.elim (fun y => absurd (of_decide_eq_true y) (by omega)) (fun y => absurd y (by omega))) rfl)
    · refine au_tableIn (off := 127) (tgt := 128) dX2_isSign_1 (by omega) (by omega) (by rw [e1]; rfl) (by decide) ?_
      refine au_iconst dX2_isSign_128 rfl rfl ?_
      exact au_zret dX2_isSign_129 rfl (Or.inr rfl) rfl (Nat.le_of_ble_eq_true rfl) (Nat.le_of_ble_eq_true rfl) (by first | exact au_pt (by first | exact Or.inr (by omega) | exact Or.inl (decide_eq_true (by omega))) rfl | exact au_pf (fun z => z.elim (fun y => absurd (of_decide_eq_true y) (by omega)) (fun y => absurd y (by omega))) rfl)
    · refine au_tableIn (off := 129) (tgt := 130) dX2_isSign_1 (by omega) (by omega) (by rw [e1]; rfl) (by decide) ?_
      refine au_iconst dX2_isSign_130 rfl rfl ?_
      exact au_zret dX2_isSign_131 rfl (Or.inl rfl) rfl (Nat.le_of_ble_eq_true rfl) (Nat.le_of_ble_eq_true rfl) (by first | exact au_pt (by first | exact Or.inr (by omega) | exact Or.inl (decide_eq_true (by omega))) rfl | exact au_pf (fun z => z.elim (fun y => absurd (of_decide_eq_true y) (by omega)) (fun y => absurd y (by omega))) rfl)
    · refine au_tableIn (off := 129) (tgt := 130) dX2_isSign_1 (by omega) (by omega) (by rw [e1]; rfl) (by decide) ?_
      refine au_iconst dX2_isSign_130 rfl rfl ?_
      exact au_zret dX2_isSign_131 rfl (Or.inl rfl) rfl (Nat.le_of_ble_eq_true rfl) (Nat.le_of_ble_eq_true rfl) (by first | exact au_pt (by first | exact Or.inr (by omega) | exact Or.inl (decide_eq_true (by omega))) rfl | exact au_pf (fun z => z.elim (fun y => absurd (of_decide_eq_true y) (by omega)) (fun y => absurd y (by omega))) rfl)
    · refine au_tableIn (off := 129) (tgt := 130) dX2_isSign_1 (by omega) (by omega) (by rw [e1]; rfl) (by decide) ?_
      refine au_iconst dX2_isSign_130 rfl rfl ?_
      exact au_zret dX2_isSign_131 rfl (Or.inl rfl) rfl (Nat.le_of_ble_eq_true rfl) (Nat.le_of_ble_eq_true rfl) (by first | exact au_pt (by first | exact Or.inr (by omega) | exact Or.inl (decide_eq_true (by omega))) rfl | exact au_pf (fun z => z.elim (fun y => absurd (of_decide_eq_true y) (by omega)) (fun y => absurd y (by omega))) rfl)
    · refine au_tableIn (off := 129) (tgt := 130) dX2_isSign_1 (by omega) (by omega) (by rw [e1]; rfl) (by decide) ?_
      refine au_iconst dX2_isSign_130 rfl rfl ?_
      exact au_zret dX2_isSign_131 rfl (Or.inl rfl) rfl (Nat.le_of_ble_eq_true rfl) (Nat.le_of_ble_eq_true rfl) (by first | exact au_pt (by first | exact Or.inr (by omega) | exact Or.inl (decide_eq_true (by omega))) rfl | exact au_pf (fun z => z.elim (fun y => absurd (of_decide_eq_true y) (by omega)) (fun y => absurd y (by omega))) rfl)
    · refine au_tableIn (off := 129) (tgt := 130) dX2_isSign_1 (by omega) (by omega) (by rw [e1]; rfl) (by decide) ?_
      refine au_iconst dX2_isSign_130 rfl rfl ?_
      exact au_zret dX2_isSign_131 rfl (Or.inl rfl) rfl (Nat.le_of_ble_eq_true rfl) (Nat.le_of_ble_eq_true rfl) (by first | exact au_pt (by first | exact Or.inr (by omega) | exact Or.inl (decide_eq_true (by omega))) rfl | exact au_pf (fun z => z.elim (fun y => absurd (of_decide_eq_true y) (by omega)) (fun y => absurd y (by omega))) rfl)
    · refine au_tableIn (off := 129) (tgt := 130) dX2_isSign_1 (by omega) (by omega) (by rw [e1]; rfl) (by decide) ?_
      refine au_iconst dX2_isSign_130 rfl rfl ?_
      exact au_zret dX2_isSign_131 rfl (Or.inl rfl) rfl (Nat.le_of_ble_eq_true rfl) (Nat.le_of_ble_eq_true rfl) (by first | exact au_pt (by first | exact Or.inr (by omega) | exact Or.inl (decide_eq_true (by omega))) rfl | exact au_pf (fun z => z.elim (fun y => absurd (of_decide_eq_true y) (by omega)) (fun y => absurd y (by omega))) rfl)
    · refine au_tableIn (off := 129) (tgt := 130) dX2_isSign_1 (by omega) (by omega) (by rw [e1]; rfl) (by decide) ?_
      refine au_iconst dX2_isSign_130 rfl rfl ?_
      exact au_zret dX2_isSign_131 rfl (Or.inl rfl) rfl (Nat.le_of_ble_eq_true rfl) (Nat.le_of_ble_eq_true rfl) (by first | exact au_pt (by first | exact Or.inr (by omega) | exact Or.inl (decide_eq_true (by omega))) rfl | exact au_pf (fun z => z.elim (fun y => absurd (of_decide_eq_true y) (by omega)) (fun y => absurd y (by omega))) rfl)
    · refine au_tableIn (off := 129) (tgt := 130) dX2_isSign_1 (by omega) (by omega) (by rw [e1]; rfl) (by decide) ?_
      refine au_iconst dX2_isSign_130 rfl rfl ?_
      exact au_zret dX2_isSign_131 rfl (Or.inl rfl) rfl (Nat.le_of_ble_eq_true rfl) (Nat.le_of_ble_eq_true rfl) (by first | exact au_pt (by first | exact Or.inr (by omega) | exact Or.inl (decide_eq_true (by omega))) rfl | exact au_pf (fun z => z.elim (fun y => absurd (of_decide_eq_true y) (by omega)) (fun y => absurd y (by omega))) rfl)
    · refine au_tableIn (off := 129) (tgt := 130) dX2_isSign_1 (by omega) (by omega) (by rw [e1]; rfl) (by decide) ?_
      refine au_iconst dX2_isSign_130 rfl rfl ?_
      exact au_zret dX2_isSign_131 rfl (Or.inl rfl) rfl (Nat.le_of_ble_eq_true rfl) (Nat.le_of_ble_eq_true rfl) (by first | exact au_pt (by first | exact Or.inr (by omega) | exact Or.inl (decide_eq_true (by omega))) rfl | exact au_pf (fun z => z.elim (fun y => absurd (of_decide_eq_true y) (by omega)) (fun y => absurd y (by omega))) rfl)
    · refine au_tableIn (off := 129) (tgt := 130) dX2_isSign_1 (by omega) (by omega) (by rw [e1]; rfl) (by decide) ?_
      refine au_iconst dX2_isSign_130 rfl rfl ?_
      exact au_zret dX2_isSign_131 rfl (Or.inl rfl) rfl (Nat.le_of_ble_eq_true rfl) (Nat.le_of_ble_eq_true rfl) (by first | exact au_pt (by first | exact Or.inr (by omega) | exact Or.inl (decide_eq_true (by omega))) rfl | exact au_pf (fun z => z.elim (fun y => absurd (of_decide_eq_true y) (by omega)) (fun y => absurd y (by omega))) rfl)
    · refine au_tableIn (off := 127) (tgt := 128) dX2_isSign_1 (by omega) (by omega) (by rw [e1]; rfl) (by decide) ?_
      refine au_iconst dX2_isSign_128 rfl rfl ?_
      exact au_zret dX2_isSign_129 rfl (Or.inr rfl) rfl (Nat.le_of_ble_eq_true rfl) (Nat.le_of_ble_eq_true rfl) (by first | exact au_pt (by first | exact Or.inr (by omega) | exact Or.inl (decide_eq_true (by omega))) rfl | exact au_pf (fun z => z.elim (fun y => absurd (of_decide_eq_true y) (by omega)) (fun y => absurd y (by omega))) rfl)
    · refine au_tableIn (off := 127) (tgt := 128) dX2_isSign_1 (by omega) (by omega) (by rw [e1]; rfl) (by decide) ?_
      refine au_iconst dX2_isSign_128 rfl rfl ?_
      exact au_zret dX2_isSign_129 rfl (Or.inr rfl) rfl (Nat.le_of_ble_eq_true rfl) (Nat.le_of_ble_eq_true rfl) (by first | exact au_pt (by first | exact Or.inr (by omega) | exact Or.inl (decide_eq_true (by omega))) rfl | exact au_pf (fun z => z.elim (fun y => absurd (of_decide_eq_true y) (by omega)) (fun y => absurd y (by omega))) rfl)
    · refine au_tableIn (off := 127) (tgt := 128) dX2_isSign_1 (by omega) (by omega) (by rw [e1]; rfl) (by decide) ?_
      refine au_iconst dX2_isSign_128 rfl rfl ?_
      exact au_zret dX2_isSign_129 rfl (Or.inr rfl) rfl (Nat.le_of_ble_eq_true rfl) (Nat.le_of_ble_eq_true rfl) (by first | exact au_pt (by first | exact Or.inr (by omega) | exact Or.inl (decide_eq_true (by omega))) rfl | exact au_pf (fun z => z.elim (fun y => absurd (of_decide_eq_true y) (by omega)) (fun y => absurd y (by omega))) rfl)
    · refine au_tableIn (off := 127) (tgt := 128) dX2_isSign_1 (by omega) (by omega) (by rw [e1]; rfl) (by decide) ?_
      refine au_iconst dX2_isSign_128 rfl rfl ?_
      exact au_zret dX2_isSign_129 rfl (Or.inr rfl) rfl (Nat.le_of_ble_eq_true rfl) (Nat.le_of_ble_eq_true rfl) (by first | exact au_pt (by first | exact Or.inr (by omega) | exact Or.inl (decide_eq_true (by omega))) rfl | exact au_pf (fun z => z.elim (fun y => absurd (of_decide_eq_true y) (by omega)) (fun y => absurd y (by omega))) rfl)
    · refine au_tableIn (off := 127) (tgt := 128) dX2_isSign_1 (by omega) (by omega) (by rw [e1]; rfl) (by decide) ?_
      refine au_iconst dX2_isSign_128 rfl rfl ?_
      exact au_zret dX2_isSign_129 rfl (Or.inr rfl) rfl (Nat.le_of_ble_eq_true rfl) (Nat.le_of_ble_eq_true rfl) (by first | exact au_pt (by first | exact Or.inr (by omega) | exact Or.inl (decide_eq_true (by omega))) rfl | exact au_pf (fun z => z.elim (fun y => absurd (of_decide_eq_true y) (by omega)) (fun y => absurd y (by omega))) rfl)
theorem kX2_w2 (G : au_G) (x0 x1 : Int) (h0 : 0 ≤ x0 ∧ x0 < 256) (h1 : 0 ≤ x1 ∧ x1 < 256) (M : au_M) : au_Ctr G yX2_w2 cX2_w2 2 (some .long) 0 0 0 [au_i x0, au_i x1] M (au_pure (au_l (x0 * 256 + x1)) M) := by
  refine au_of (by decide) (Nat.le_of_ble_eq_true rfl) ?_
  show au_Go G _ _ 0 [some (au_i x0), some (au_i x1)] [] M 0 0
  refine au_iload_n dX2_w2_0 rfl ?_
  refine au_i2l dX2_w2_1 ?_
  refine au_bipush dX2_w2_2 rfl rfl ?_
  refine au_lshl' dX2_w2_4 ?_
  refine au_iload_n dX2_w2_5 rfl ?_
  refine au_i2l dX2_w2_6 ?_
  refine au_lor' dX2_w2_7 ?_
  exact au_lret dX2_w2_8 rfl rfl (Nat.le_of_ble_eq_true rfl) (Nat.le_of_ble_eq_true rfl) (⟨congrArg (fun z => some (au_l z)) (pq_or (by omega) (by omega)), rfl⟩)
theorem kX2_w3 (G : au_G) (x0 x1 x2 : Int) (h0 : 0 ≤ x0 ∧ x0 < 256) (h1 : 0 ≤ x1 ∧ x1 < 256) (h2 : 0 ≤ x2 ∧ x2 < 256) (M : au_M) : au_Ctr G yX2_w3 cX2_w3 3 (some .long) 1 0 0 [au_i x0, au_i x1, au_i x2] M (au_pure (au_l ((x0 * 256 + x1) * 256 + x2)) M) := by
  refine au_of (by decide) (Nat.le_of_ble_eq_true rfl) ?_
  show au_Go G _ _ 0 [some (au_i x0), some (au_i x1), some (au_i x2)] [] M 0 0
  refine au_iload_n dX2_w3_0 rfl ?_
  refine au_iload_n dX2_w3_1 rfl ?_
  refine au_callSp (n := 2) (kX2_w2 G x0 x1 (by omega) (by omega) _) (lw_S q1538 q1539 q134 q1540) (by decide +kernel) rfl rfl rfl (Nat.le_of_ble_eq_true rfl) (Nat.le_of_ble_eq_true rfl) (Nat.le_of_ble_eq_true rfl) (Nat.le_of_ble_eq_true rfl) (Nat.le_of_ble_eq_true rfl) dX2_w3_2 ?_
  refine au_bipush dX2_w3_5 rfl rfl ?_
  refine au_lshl' dX2_w3_7 ?_
  refine au_iload_n dX2_w3_8 rfl ?_
  refine au_i2l dX2_w3_9 ?_
  refine au_lor' dX2_w3_10 ?_
  exact au_lret dX2_w3_11 rfl rfl (Nat.le_of_ble_eq_true rfl) (Nat.le_of_ble_eq_true rfl) (⟨congrArg (fun z => some (au_l z)) (pq_or (by omega) (by omega)), rfl⟩)
theorem kX2_w4 (G : au_G) (x0 x1 x2 x3 : Int) (h0 : 0 ≤ x0 ∧ x0 < 256) (h1 : 0 ≤ x1 ∧ x1 < 256) (h2 : 0 ≤ x2 ∧ x2 < 256) (h3 : 0 ≤ x3 ∧ x3 < 256) (M : au_M) : au_Ctr G yX2_w4 cX2_w4 4 (some .long) 2 0 0 [au_i x0, au_i x1, au_i x2, au_i x3] M (au_pure (au_l (((x0 * 256 + x1) * 256 + x2) * 256 + x3)) M) := by
  refine au_of (by decide) (Nat.le_of_ble_eq_true rfl) ?_
  show au_Go G _ _ 0 [some (au_i x0), some (au_i x1), some (au_i x2), some (au_i x3)] [] M 0 0
  refine au_iload_n dX2_w4_0 rfl ?_
  refine au_iload_n dX2_w4_1 rfl ?_
  refine au_iload_n dX2_w4_2 rfl ?_
  refine au_callSp (n := 3) (kX2_w3 G x0 x1 x2 (by omega) (by omega) (by omega) _) (lw_S q1535 q1536 q134 q1537) (by decide +kernel) rfl rfl rfl (Nat.le_of_ble_eq_true rfl) (Nat.le_of_ble_eq_true rfl) (Nat.le_of_ble_eq_true rfl) (Nat.le_of_ble_eq_true rfl) (Nat.le_of_ble_eq_true rfl) dX2_w4_3 ?_
  refine au_bipush dX2_w4_6 rfl rfl ?_
  refine au_lshl' dX2_w4_8 ?_
  refine au_iload_n dX2_w4_9 rfl ?_
  refine au_i2l dX2_w4_10 ?_
  refine au_lor' dX2_w4_11 ?_
  exact au_lret dX2_w4_12 rfl rfl (Nat.le_of_ble_eq_true rfl) (Nat.le_of_ble_eq_true rfl) (⟨congrArg (fun z => some (au_l z)) (pq_or (by omega) (by omega)), rfl⟩)
theorem kX2_w5 (G : au_G) (x0 x1 x2 x3 x4 : Int) (h0 : 0 ≤ x0 ∧ x0 < 256) (h1 : 0 ≤ x1 ∧ x1 < 256) (h2 : 0 ≤ x2 ∧ x2 < 256) (h3 : 0 ≤ x3 ∧ x3 < 256) (h4 : 0 ≤ x4 ∧ x4 < 256) (M : au_M) : au_Ctr G yX2_w5 cX2_w5 5 (some .long) 3 0 0 [au_i x0, au_i x1, au_i x2, au_i x3, au_i x4] M (au_pure (au_l ((((x0 * 256 + x1) * 256 + x2) * 256 + x3) * 256 + x4)) M) := by
  refine au_of (by decide) (Nat.le_of_ble_eq_true rfl) ?_
  show au_Go G _ _ 0 [some (au_i x0), some (au_i x1), some (au_i x2), some (au_i x3), some (au_i x4)] [] M 0 0
  refine au_iload_n dX2_w5_0 rfl ?_
  refine au_iload_n dX2_w5_1 rfl ?_
  refine au_iload_n dX2_w5_2 rfl ?_
  refine au_iload_n dX2_w5_3 rfl ?_
  refine au_callSp (n := 4) (kX2_w4 G x0 x1 x2 x3 (by omega) (by omega) (by omega) (by omega) _) (lw_S q1532 q1533 q134 q1534) (by decide +kernel) rfl rfl rfl (Nat.le_of_ble_eq_true rfl) (Nat.le_of_ble_eq_true rfl) (Nat.le_of_ble_eq_true rfl) (Nat.le_of_ble_eq_true rfl) (Nat.le_of_ble_eq_true rfl) dX2_w5_4 ?_
  refine au_bipush dX2_w5_7 rfl rfl ?_
  refine au_lshl' dX2_w5_9 ?_
  refine au_iload dX2_w5_10 rfl ?_
  refine au_i2l dX2_w5_12 ?_
  refine au_lor' dX2_w5_13 ?_
  exact au_lret dX2_w5_14 rfl rfl (Nat.le_of_ble_eq_true rfl) (Nat.le_of_ble_eq_true rfl) (⟨congrArg (fun z => some (au_l z)) (pq_or (by omega) (by omega)), rfl⟩)
theorem kX2_w6 (G : au_G) (x0 x1 x2 x3 x4 x5 : Int) (h0 : 0 ≤ x0 ∧ x0 < 256) (h1 : 0 ≤ x1 ∧ x1 < 256) (h2 : 0 ≤ x2 ∧ x2 < 256) (h3 : 0 ≤ x3 ∧ x3 < 256) (h4 : 0 ≤ x4 ∧ x4 < 256) (h5 : 0 ≤ x5 ∧ x5 < 256) (M : au_M) : au_Ctr G yX2_w6 cX2_w6 6 (some .long) 4 0 0 [au_i x0, au_i x1, au_i x2, au_i x3, au_i x4, au_i x5] M (au_pure (au_l (((((x0 * 256 + x1) * 256 + x2) * 256 + x3) * 256 + x4) * 256 + x5)) M) := by
  refine au_of (by decide) (Nat.le_of_ble_eq_true rfl) ?_
  show au_Go G _ _ 0 [some (au_i x0), some (au_i x1), some (au_i x2), some (au_i x3), some (au_i x4), some (au_i x5)] [] M 0 0
  refine au_iload_n dX2_w6_0 rfl ?_
  refine au_iload_n dX2_w6_1 rfl ?_
  refine au_iload_n dX2_w6_2 rfl ?_
  refine au_iload_n dX2_w6_3 rfl ?_
  refine au_iload dX2_w6_4 rfl ?_
  refine au_callSp (n := 5) (kX2_w5 G x0 x1 x2 x3 x4 (by omega) (by omega) (by omega) (by omega) (by omega) _) (lw_S q1549 q1550 q134 q1551) (by decide +kernel) rfl rfl rfl (Nat.le_of_ble_eq_true rfl) (Nat.le_of_ble_eq_true rfl) (Nat.le_of_ble_eq_true rfl) (Nat.le_of_ble_eq_true rfl) (Nat.le_of_ble_eq_true rfl) dX2_w6_6 ?_
  refine au_bipush dX2_w6_9 rfl rfl ?_
  refine au_lshl' dX2_w6_11 ?_
  refine au_iload dX2_w6_12 rfl ?_
  refine au_i2l dX2_w6_14 ?_
  refine au_lor' dX2_w6_15 ?_
  exact au_lret dX2_w6_16 rfl rfl (Nat.le_of_ble_eq_true rfl) (Nat.le_of_ble_eq_true rfl) (⟨congrArg (fun z => some (au_l z)) (pq_or (by omega) (by omega)), rfl⟩)
theorem kX2_isWord (G : au_G) (w : Int) (mi si hi sl : au_A → Int → Int) (r : au_A → Int → Option au_A) (nx : Nat) (hF : Fix r) : au_Ctr G yX2_isWord cX2_isWord 3 (some .boolean) 0 0 0 [au_r MO, au_l w] (mi, si, hi, sl, r, nx) (au_pure (au_i (au_b (si MO 9 = 2 ∧ sl MO 11 = w))) (mi, si, hi, sl, r, nx)) := by
  refine au_of (by decide) (Nat.le_of_ble_eq_true rfl) ?_
  show au_Go G _ _ 0 [some (au_r MO), some (au_l w), none] [] (mi, si, hi, sl, r, nx) 0 0
  refine au_aload_n dX2_isWord_0 rfl ?_
  refine au_getf (C := RX2) (T := TX2) (N := 35) in_X2 (by decide) rfl 9 (by decide) rfl rfl q1368 rfl dX2_isWord_1 (v := au_i (si MO 9)) (by rfl) ?_
  refine au_iconst dX2_isWord_4 rfl rfl ?_
  refine au_icmp_ne (tgt := 21) dX2_isWord_5 (by decide) (fun c5 => ?_) (fun c5 => ?_)
  · refine au_iconst dX2_isWord_21 rfl rfl ?_
    exact au_zret dX2_isWord_22 rfl (Or.inl rfl) rfl (Nat.le_of_ble_eq_true rfl) (Nat.le_of_ble_eq_true rfl) (by first | exact au_pt ⟨by omega, au_cmp_eqt (by assumption)⟩ rfl | exact au_pf (fun z => absurd z.1 (by omega)) rfl | exact au_pf (fun z => absurd z.2 (au_cmp_eqf (by assumption))) rfl)
  · refine au_aload_n dX2_isWord_8 rfl ?_
    refine au_getf (C := RX2) (T := TX2) (N := 35) in_X2 (by decide) rfl 11 (by decide) rfl rfl q1370 rfl dX2_isWord_9 (v := au_l (sl MO 11)) (by rfl) ?_
    refine au_lload_n dX2_isWord_12 rfl ?_
    refine au_lcmp dX2_isWord_13 ?_
    refine au_if_ne (tgt := 21) dX2_isWord_14 (by decide) (fun c14 => ?_) (fun c14 => ?_)
    · have c14 := au_cmp_net c14
      refine au_iconst dX2_isWord_21 rfl rfl ?_
      exact au_zret dX2_isWord_22 rfl (Or.inl rfl) rfl (Nat.le_of_ble_eq_true rfl) (Nat.le_of_ble_eq_true rfl) (by first | exact au_pt ⟨by omega, au_cmp_eqt (by assumption)⟩ rfl | exact au_pf (fun z => absurd z.1 (by omega)) rfl | exact au_pf (fun z => absurd z.2 (au_cmp_eqf (by assumption))) rfl)
    · have c14 := au_cmp_nef c14
      refine au_iconst dX2_isWord_17 rfl rfl ?_
      refine au_goto (tgt := 22) dX2_isWord_18 (by decide) ?_
      exact au_zret dX2_isWord_22 rfl (Or.inr rfl) rfl (Nat.le_of_ble_eq_true rfl) (Nat.le_of_ble_eq_true rfl) (by first | exact au_pt ⟨by omega, au_cmp_eqt (by assumption)⟩ rfl | exact au_pf (fun z => absurd z.1 (by omega)) rfl | exact au_pf (fun z => absurd z.2 (au_cmp_eqf (by assumption))) rfl)
