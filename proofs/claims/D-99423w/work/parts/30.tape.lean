/-! THE TAPE, of both systems (printed by tools/m30.py) -/
set_option maxRecDepth 100000
set_option maxHeartbeats 4000000

/-- four bytes put on a tape T, whose length stands at O, f -/
def tap (T O : au_A) (f : Int) (b : Int → Int) (mi : au_A → Int → Int) : au_A → Int → Int := fun c j =>
  if c = T ∧ j = mi O f then b 24 else if c = T ∧ j = mi O f + 1 then b 16 else if c = T ∧ j = mi O f + 2 then b 8 else if c = T ∧ j = mi O f + 3 then b 0 else if c = O ∧ j = f then mi O f + 4 else mi c j
abbrev bX (v : Int) : Int → Int := fun s => au_byte (au_i2b (au_shr v s))
abbrev bM (v : Int) : Int → Int := fun s => au_and (au_shr v s) 255
theorem tap_eq (T O : au_A) (f : Int) (hTO : T ≠ O) (b : Int → Int) (mi : au_A → Int → Int) : au_up (au_up (au_up (au_up (au_up (au_up (au_up (au_up mi T (mi O f) (b 24)) O f (mi O f + 1)) T (mi O f + 1) (b 16)) O f (mi O f + 1 + 1)) T (mi O f + 1 + 1) (b 8)) O f (mi O f + 1 + 1 + 1)) T (mi O f + 1 + 1 + 1) (b 0)) O f (mi O f + 1 + 1 + 1 + 1) = tap T O f b mi := by
  funext c j
  simp only [au_up, tap]
  by_cases h1 : c = T
  · subst h1
    have h2 : ¬ c = O := hTO
    simp only [h2, false_and, if_false, true_and]
    generalize mi O f = t
    (repeat' split) <;> first | rfl | omega
  · simp only [h1, false_and, if_false]
    by_cases h2 : c = O ∧ j = f
    · rw [if_pos h2, if_pos h2]; omega
    · rw [if_neg h2, if_neg h2, if_neg h2, if_neg h2, if_neg h2]
theorem tap_len (T O : au_A) (f : Int) (hTO : T ≠ O) (b : Int → Int) (mi : au_A → Int → Int) : tap T O f b mi O f = mi O f + 4 := by
  unfold tap
  have : ¬ O = T := fun h => hTO h.symm
  simp [this]

theorem kX0_put (G : au_G) (v : Int) (mi si hi sl : au_A → Int → Int) (r : au_A → Int → Option au_A) (nx : Nat) (hF : Fix r) (h0 : 0 ≤ mi XO 3) (h1 : mi XO 3 + 4 ≤ 300) : au_Ctr G yX0_put cX0_put 3 none 0 0 0 [au_r XO, au_i v] (mi, si, hi, sl, r, nx) (fun rv M' => rv = none ∧ M' = (tap XTape XO 3 (bX v) mi, si, hi, sl, r, nx)) := by
  refine au_of (by decide) (Nat.le_of_ble_eq_true rfl) ?_
  show au_Go G _ _ 0 [some (au_r XO), some (au_i v), none] [] (mi, si, hi, sl, r, nx) 0 0
  refine au_bipush dX0_put_0 rfl rfl ?_
  refine au_istore_n dX0_put_2 (show 2 < 3 by decide) ?_
  show au_Go G _ _ 3 [some (au_r XO), some (au_i v), some (au_i 24)] [] (mi, si, hi, sl, r, nx) 0 0
  refine au_iload_n dX0_put_3 rfl ?_
  refine au_if_lt (tgt := 36) dX0_put_4 (by decide) (fun c4 => ?_) (fun c4 => ?_)
  · exact absurd c4 (by decide)
  · refine au_aload_n dX0_put_7 rfl ?_
    refine au_getf (C := RX0) (T := TX0) (N := 15) in_X0 (by decide) rfl 2 (by decide) rfl rfl q247 rfl dX0_put_8 (v := au_r XTape) (congrArg au_q (fx_XO_2 hF)) ?_
    refine au_aload_n dX0_put_11 rfl ?_
    refine au_getf (C := RX0) (T := TX0) (N := 15) in_X0 (by decide) rfl 3 (by decide) rfl rfl q248 rfl dX0_put_12 (v := au_i (mi XO 3)) (by rfl) ?_
    refine au_iload_n dX0_put_15 rfl ?_
    refine au_iload_n dX0_put_16 rfl ?_
    refine au_ishr dX0_put_17 ?_
    refine au_i2b' dX0_put_18 ?_
    refine au_bast dX0_put_19 rfl (by decide) (by omega) (by show _ < ((300 : Nat) : Int); omega) (M' := ((au_up mi XTape (mi XO 3) (au_byte (au_i2b (au_shr v 24)))), si, hi, sl, r, nx)) (by rfl) ?_
    refine au_aload_n dX0_put_20 rfl ?_
    refine au_dup dX0_put_21 rfl ?_
    refine au_getf (C := RX0) (T := TX0) (N := 15) in_X0 (by decide) rfl 3 (by decide) rfl rfl q248 rfl dX0_put_22 (v := au_i (mi XO 3)) (by rfl) ?_
    refine au_iconst dX0_put_25 rfl rfl ?_
    refine au_iadd dX0_put_26 (by omega) (by omega) ?_
    refine au_putf (a := XO) (C := RX0) (T := TX0) (N := 15) in_X0 tyX0_ok nmX0 (by decide) rfl 3 (by decide) rfl (by decide) rfl q248 rfl rfl trivial (fun _ _ _ h => au_nf_i h) dX0_put_27 (M' := ((au_up (au_up mi XTape (mi XO 3) (au_byte (au_i2b (au_shr v 24)))) XO 3 ((mi XO 3) + 1)), si, hi, sl, r, nx)) (by rfl) ?_
    refine au_iinc dX0_put_30 rfl (show 2 < 3 by decide) (by decide) (by decide) (by decide) (by decide) ?_
    show au_Go G _ _ 33 [some (au_r XO), some (au_i v), some (au_i 16)] [] ((au_up (au_up mi XTape (mi XO 3) (au_byte (au_i2b (au_shr v 24)))) XO 3 ((mi XO 3) + 1)), si, hi, sl, r, nx) 0 0
    refine au_goto (tgt := 3) dX0_put_33 (by decide) ?_
    refine au_iload_n dX0_put_3 rfl ?_
    refine au_if_lt (tgt := 36) dX0_put_4 (by decide) (fun c4_1 => ?_) (fun c4_1 => ?_)
    · exact absurd c4_1 (by decide)
    · refine au_aload_n dX0_put_7 rfl ?_
      refine au_getf (C := RX0) (T := TX0) (N := 15) in_X0 (by decide) rfl 2 (by decide) rfl rfl q247 rfl dX0_put_8 (v := au_r XTape) (congrArg au_q (fx_XO_2 hF)) ?_
      refine au_aload_n dX0_put_11 rfl ?_
      refine au_getf (C := RX0) (T := TX0) (N := 15) in_X0 (by decide) rfl 3 (by decide) rfl rfl q248 rfl dX0_put_12 (v := au_i ((mi XO 3) + 1)) (by rfl) ?_
      refine au_iload_n dX0_put_15 rfl ?_
      refine au_iload_n dX0_put_16 rfl ?_
      refine au_ishr dX0_put_17 ?_
      refine au_i2b' dX0_put_18 ?_
      refine au_bast dX0_put_19 rfl (by decide) (by omega) (by show _ < ((300 : Nat) : Int); omega) (M' := ((au_up (au_up (au_up mi XTape (mi XO 3) (au_byte (au_i2b (au_shr v 24)))) XO 3 ((mi XO 3) + 1)) XTape ((mi XO 3) + 1) (au_byte (au_i2b (au_shr v 16)))), si, hi, sl, r, nx)) (by rfl) ?_
      refine au_aload_n dX0_put_20 rfl ?_
      refine au_dup dX0_put_21 rfl ?_
      refine au_getf (C := RX0) (T := TX0) (N := 15) in_X0 (by decide) rfl 3 (by decide) rfl rfl q248 rfl dX0_put_22 (v := au_i ((mi XO 3) + 1)) (by rfl) ?_
      refine au_iconst dX0_put_25 rfl rfl ?_
      refine au_iadd dX0_put_26 (by omega) (by omega) ?_
      refine au_putf (a := XO) (C := RX0) (T := TX0) (N := 15) in_X0 tyX0_ok nmX0 (by decide) rfl 3 (by decide) rfl (by decide) rfl q248 rfl rfl trivial (fun _ _ _ h => au_nf_i h) dX0_put_27 (M' := ((au_up (au_up (au_up (au_up mi XTape (mi XO 3) (au_byte (au_i2b (au_shr v 24)))) XO 3 ((mi XO 3) + 1)) XTape ((mi XO 3) + 1) (au_byte (au_i2b (au_shr v 16)))) XO 3 (((mi XO 3) + 1) + 1)), si, hi, sl, r, nx)) (by rfl) ?_
      refine au_iinc dX0_put_30 rfl (show 2 < 3 by decide) (by decide) (by decide) (by decide) (by decide) ?_
      show au_Go G _ _ 33 [some (au_r XO), some (au_i v), some (au_i 8)] [] ((au_up (au_up (au_up (au_up mi XTape (mi XO 3) (au_byte (au_i2b (au_shr v 24)))) XO 3 ((mi XO 3) + 1)) XTape ((mi XO 3) + 1) (au_byte (au_i2b (au_shr v 16)))) XO 3 (((mi XO 3) + 1) + 1)), si, hi, sl, r, nx) 0 0
      refine au_goto (tgt := 3) dX0_put_33 (by decide) ?_
      refine au_iload_n dX0_put_3 rfl ?_
      refine au_if_lt (tgt := 36) dX0_put_4 (by decide) (fun c4_2 => ?_) (fun c4_2 => ?_)
      · exact absurd c4_2 (by decide)
      · refine au_aload_n dX0_put_7 rfl ?_
        refine au_getf (C := RX0) (T := TX0) (N := 15) in_X0 (by decide) rfl 2 (by decide) rfl rfl q247 rfl dX0_put_8 (v := au_r XTape) (congrArg au_q (fx_XO_2 hF)) ?_
        refine au_aload_n dX0_put_11 rfl ?_
        refine au_getf (C := RX0) (T := TX0) (N := 15) in_X0 (by decide) rfl 3 (by decide) rfl rfl q248 rfl dX0_put_12 (v := au_i (((mi XO 3) + 1) + 1)) (by rfl) ?_
        refine au_iload_n dX0_put_15 rfl ?_
        refine au_iload_n dX0_put_16 rfl ?_
        refine au_ishr dX0_put_17 ?_
        refine au_i2b' dX0_put_18 ?_
        refine au_bast dX0_put_19 rfl (by decide) (by omega) (by show _ < ((300 : Nat) : Int); omega) (M' := ((au_up (au_up (au_up (au_up (au_up mi XTape (mi XO 3) (au_byte (au_i2b (au_shr v 24)))) XO 3 ((mi XO 3) + 1)) XTape ((mi XO 3) + 1) (au_byte (au_i2b (au_shr v 16)))) XO 3 (((mi XO 3) + 1) + 1)) XTape (((mi XO 3) + 1) + 1) (au_byte (au_i2b (au_shr v 8)))), si, hi, sl, r, nx)) (by rfl) ?_
        refine au_aload_n dX0_put_20 rfl ?_
        refine au_dup dX0_put_21 rfl ?_
        refine au_getf (C := RX0) (T := TX0) (N := 15) in_X0 (by decide) rfl 3 (by decide) rfl rfl q248 rfl dX0_put_22 (v := au_i (((mi XO 3) + 1) + 1)) (by rfl) ?_
        refine au_iconst dX0_put_25 rfl rfl ?_
        refine au_iadd dX0_put_26 (by omega) (by omega) ?_
        refine au_putf (a := XO) (C := RX0) (T := TX0) (N := 15) in_X0 tyX0_ok nmX0 (by decide) rfl 3 (by decide) rfl (by decide) rfl q248 rfl rfl trivial (fun _ _ _ h => au_nf_i h) dX0_put_27 (M' := ((au_up (au_up (au_up (au_up (au_up (au_up mi XTape (mi XO 3) (au_byte (au_i2b (au_shr v 24)))) XO 3 ((mi XO 3) + 1)) XTape ((mi XO 3) + 1) (au_byte (au_i2b (au_shr v 16)))) XO 3 (((mi XO 3) + 1) + 1)) XTape (((mi XO 3) + 1) + 1) (au_byte (au_i2b (au_shr v 8)))) XO 3 ((((mi XO 3) + 1) + 1) + 1)), si, hi, sl, r, nx)) (by rfl) ?_
        refine au_iinc dX0_put_30 rfl (show 2 < 3 by decide) (by decide) (by decide) (by decide) (by decide) ?_
        show au_Go G _ _ 33 [some (au_r XO), some (au_i v), some (au_i 0)] [] ((au_up (au_up (au_up (au_up (au_up (au_up mi XTape (mi XO 3) (au_byte (au_i2b (au_shr v 24)))) XO 3 ((mi XO 3) + 1)) XTape ((mi XO 3) + 1) (au_byte (au_i2b (au_shr v 16)))) XO 3 (((mi XO 3) + 1) + 1)) XTape (((mi XO 3) + 1) + 1) (au_byte (au_i2b (au_shr v 8)))) XO 3 ((((mi XO 3) + 1) + 1) + 1)), si, hi, sl, r, nx) 0 0
        refine au_goto (tgt := 3) dX0_put_33 (by decide) ?_
        refine au_iload_n dX0_put_3 rfl ?_
        refine au_if_lt (tgt := 36) dX0_put_4 (by decide) (fun c4_3 => ?_) (fun c4_3 => ?_)
        · exact absurd c4_3 (by decide)
        · refine au_aload_n dX0_put_7 rfl ?_
          refine au_getf (C := RX0) (T := TX0) (N := 15) in_X0 (by decide) rfl 2 (by decide) rfl rfl q247 rfl dX0_put_8 (v := au_r XTape) (congrArg au_q (fx_XO_2 hF)) ?_
          refine au_aload_n dX0_put_11 rfl ?_
          refine au_getf (C := RX0) (T := TX0) (N := 15) in_X0 (by decide) rfl 3 (by decide) rfl rfl q248 rfl dX0_put_12 (v := au_i ((((mi XO 3) + 1) + 1) + 1)) (by rfl) ?_
          refine au_iload_n dX0_put_15 rfl ?_
          refine au_iload_n dX0_put_16 rfl ?_
          refine au_ishr dX0_put_17 ?_
          refine au_i2b' dX0_put_18 ?_
          refine au_bast dX0_put_19 rfl (by decide) (by omega) (by show _ < ((300 : Nat) : Int); omega) (M' := ((au_up (au_up (au_up (au_up (au_up (au_up (au_up mi XTape (mi XO 3) (au_byte (au_i2b (au_shr v 24)))) XO 3 ((mi XO 3) + 1)) XTape ((mi XO 3) + 1) (au_byte (au_i2b (au_shr v 16)))) XO 3 (((mi XO 3) + 1) + 1)) XTape (((mi XO 3) + 1) + 1) (au_byte (au_i2b (au_shr v 8)))) XO 3 ((((mi XO 3) + 1) + 1) + 1)) XTape ((((mi XO 3) + 1) + 1) + 1) (au_byte (au_i2b (au_shr v 0)))), si, hi, sl, r, nx)) (by rfl) ?_
          refine au_aload_n dX0_put_20 rfl ?_
          refine au_dup dX0_put_21 rfl ?_
          refine au_getf (C := RX0) (T := TX0) (N := 15) in_X0 (by decide) rfl 3 (by decide) rfl rfl q248 rfl dX0_put_22 (v := au_i ((((mi XO 3) + 1) + 1) + 1)) (by rfl) ?_
          refine au_iconst dX0_put_25 rfl rfl ?_
          refine au_iadd dX0_put_26 (by omega) (by omega) ?_
          refine au_putf (a := XO) (C := RX0) (T := TX0) (N := 15) in_X0 tyX0_ok nmX0 (by decide) rfl 3 (by decide) rfl (by decide) rfl q248 rfl rfl trivial (fun _ _ _ h => au_nf_i h) dX0_put_27 (M' := ((au_up (au_up (au_up (au_up (au_up (au_up (au_up (au_up mi XTape (mi XO 3) (au_byte (au_i2b (au_shr v 24)))) XO 3 ((mi XO 3) + 1)) XTape ((mi XO 3) + 1) (au_byte (au_i2b (au_shr v 16)))) XO 3 (((mi XO 3) + 1) + 1)) XTape (((mi XO 3) + 1) + 1) (au_byte (au_i2b (au_shr v 8)))) XO 3 ((((mi XO 3) + 1) + 1) + 1)) XTape ((((mi XO 3) + 1) + 1) + 1) (au_byte (au_i2b (au_shr v 0)))) XO 3 (((((mi XO 3) + 1) + 1) + 1) + 1)), si, hi, sl, r, nx)) (by rfl) ?_
          refine au_iinc dX0_put_30 rfl (show 2 < 3 by decide) (by decide) (by decide) (by decide) (by decide) ?_
          show au_Go G _ _ 33 [some (au_r XO), some (au_i v), some (au_i (-8))] [] ((au_up (au_up (au_up (au_up (au_up (au_up (au_up (au_up mi XTape (mi XO 3) (au_byte (au_i2b (au_shr v 24)))) XO 3 ((mi XO 3) + 1)) XTape ((mi XO 3) + 1) (au_byte (au_i2b (au_shr v 16)))) XO 3 (((mi XO 3) + 1) + 1)) XTape (((mi XO 3) + 1) + 1) (au_byte (au_i2b (au_shr v 8)))) XO 3 ((((mi XO 3) + 1) + 1) + 1)) XTape ((((mi XO 3) + 1) + 1) + 1) (au_byte (au_i2b (au_shr v 0)))) XO 3 (((((mi XO 3) + 1) + 1) + 1) + 1)), si, hi, sl, r, nx) 0 0
          refine au_goto (tgt := 3) dX0_put_33 (by decide) ?_
          refine au_iload_n dX0_put_3 rfl ?_
          refine au_if_lt (tgt := 36) dX0_put_4 (by decide) (fun c4_4 => ?_) (fun c4_4 => ?_)
          · exact au_vret dX0_put_36 rfl rfl (Nat.le_of_ble_eq_true rfl) (Nat.le_of_ble_eq_true rfl) (⟨rfl, congrArg (fun z => ((z, si, hi, sl, r, nx) : au_M)) (tap_eq XTape XO 3 (by decide) (bX v) mi)⟩)
          · exact absurd c4_4 (by decide)
theorem kX0_feed (G : au_G) (v1 v2 v3 v4 v5 : Int) (mi si hi sl : au_A → Int → Int) (r : au_A → Int → Option au_A) (nx : Nat) (hF : Fix r) (h0 : 0 ≤ mi XO 3) (h1 : mi XO 3 ≤ 300) : au_Ctr G yX0_feed cX0_feed 6 (some .int) 1 0 0 [au_r XO, au_i v1, au_i v2, au_i v3, au_i v4, au_i v5] (mi, si, hi, sl, r, nx) (fun rv M' => ((mi XO 3 + 20 ≤ 300) ∧ rv = some (au_i (mi XO 3 + 20)) ∧ M' = ((tap XTape XO 3 (bX v5) (tap XTape XO 3 (bX v4) (tap XTape XO 3 (bX v3) (tap XTape XO 3 (bX v2) (tap XTape XO 3 (bX v1) mi))))), si, hi, sl, r, nx)) ∨ (¬ (mi XO 3 + 20 ≤ 300) ∧ rv = some (au_i (-1)) ∧ M' = (mi, si, hi, sl, r, nx))) := by
  refine au_of (by decide) (Nat.le_of_ble_eq_true rfl) ?_
  show au_Go G _ _ 0 [some (au_r XO), some (au_i v1), some (au_i v2), some (au_i v3), some (au_i v4), some (au_i v5)] [] (mi, si, hi, sl, r, nx) 0 0
  refine au_aload_n dX0_feed_0 rfl ?_
  refine au_getf (C := RX0) (T := TX0) (N := 15) in_X0 (by decide) rfl 3 (by decide) rfl rfl q248 rfl dX0_feed_1 (v := au_i (mi XO 3)) (by rfl) ?_
  refine au_bipush dX0_feed_4 rfl rfl ?_
  refine au_iadd dX0_feed_6 (by omega) (by omega) ?_
  refine au_sipush dX0_feed_7 rfl rfl ?_
  refine au_icmp_le (tgt := 15) dX0_feed_10 (by decide) (fun c10 => ?_) (fun c10 => ?_)
  · refine au_aload_n dX0_feed_15 rfl ?_
    refine au_iload_n dX0_feed_16 rfl ?_
    refine au_callV (n := 1) (kX0_put G v1 mi si hi sl r nx hF (by omega) (by omega)) (lw_V q314 q316 qs1 q130 q317) rfl (by decide +kernel) (by decide) (T := TX0) (N := 15) rfl rfl rfl rfl (Nat.le_of_ble_eq_true rfl) (Nat.le_of_ble_eq_true rfl) (Nat.le_of_ble_eq_true rfl) (Nat.le_of_ble_eq_true rfl) (Nat.le_of_ble_eq_true rfl) dX0_feed_17 (fun rv_ M_ hp_ => ?_)
    obtain ⟨rfl, rfl⟩ := hp_
    obtain ⟨m1_17, hm1_17⟩ : ∃ z, z = tap XTape XO 3 (bX v1) mi := ⟨_, rfl⟩
    rw [← hm1_17]
    have hl1_17 : m1_17 XO 3 = mi XO 3 + 4 := by rw [hm1_17]; exact tap_len XTape XO 3 (by decide) _ _
    show au_Go G _ _ 20 [some (au_r XO), some (au_i v1), some (au_i v2), some (au_i v3), some (au_i v4), some (au_i v5)] [] (m1_17, si, hi, sl, r, nx) 0 0
    refine au_aload_n dX0_feed_20 rfl ?_
    refine au_iload_n dX0_feed_21 rfl ?_
    refine au_callV (n := 1) (kX0_put G v2 m1_17 si hi sl r nx hF (by omega) (by omega)) (lw_V q314 q316 qs1 q130 q317) rfl (by decide +kernel) (by decide) (T := TX0) (N := 15) rfl rfl rfl rfl (Nat.le_of_ble_eq_true rfl) (Nat.le_of_ble_eq_true rfl) (Nat.le_of_ble_eq_true rfl) (Nat.le_of_ble_eq_true rfl) (Nat.le_of_ble_eq_true rfl) dX0_feed_22 (fun rv_ M_ hp_ => ?_)
    obtain ⟨rfl, rfl⟩ := hp_
    obtain ⟨m2_22, hm2_22⟩ : ∃ z, z = tap XTape XO 3 (bX v2) m1_17 := ⟨_, rfl⟩
    rw [← hm2_22]
    have hl2_22 : m2_22 XO 3 = m1_17 XO 3 + 4 := by rw [hm2_22]; exact tap_len XTape XO 3 (by decide) _ _
    show au_Go G _ _ 25 [some (au_r XO), some (au_i v1), some (au_i v2), some (au_i v3), some (au_i v4), some (au_i v5)] [] (m2_22, si, hi, sl, r, nx) 0 0
    refine au_aload_n dX0_feed_25 rfl ?_
    refine au_iload_n dX0_feed_26 rfl ?_
    refine au_callV (n := 1) (kX0_put G v3 m2_22 si hi sl r nx hF (by omega) (by omega)) (lw_V q314 q316 qs1 q130 q317) rfl (by decide +kernel) (by decide) (T := TX0) (N := 15) rfl rfl rfl rfl (Nat.le_of_ble_eq_true rfl) (Nat.le_of_ble_eq_true rfl) (Nat.le_of_ble_eq_true rfl) (Nat.le_of_ble_eq_true rfl) (Nat.le_of_ble_eq_true rfl) dX0_feed_27 (fun rv_ M_ hp_ => ?_)
    obtain ⟨rfl, rfl⟩ := hp_
    obtain ⟨m3_27, hm3_27⟩ : ∃ z, z = tap XTape XO 3 (bX v3) m2_22 := ⟨_, rfl⟩
    rw [← hm3_27]
    have hl3_27 : m3_27 XO 3 = m2_22 XO 3 + 4 := by rw [hm3_27]; exact tap_len XTape XO 3 (by decide) _ _
    show au_Go G _ _ 30 [some (au_r XO), some (au_i v1), some (au_i v2), some (au_i v3), some (au_i v4), some (au_i v5)] [] (m3_27, si, hi, sl, r, nx) 0 0
    refine au_aload_n dX0_feed_30 rfl ?_
    refine au_iload dX0_feed_31 rfl ?_
    refine au_callV (n := 1) (kX0_put G v4 m3_27 si hi sl r nx hF (by omega) (by omega)) (lw_V q314 q316 qs1 q130 q317) rfl (by decide +kernel) (by decide) (T := TX0) (N := 15) rfl rfl rfl rfl (Nat.le_of_ble_eq_true rfl) (Nat.le_of_ble_eq_true rfl) (Nat.le_of_ble_eq_true rfl) (Nat.le_of_ble_eq_true rfl) (Nat.le_of_ble_eq_true rfl) dX0_feed_33 (fun rv_ M_ hp_ => ?_)
    obtain ⟨rfl, rfl⟩ := hp_
    obtain ⟨m4_33, hm4_33⟩ : ∃ z, z = tap XTape XO 3 (bX v4) m3_27 := ⟨_, rfl⟩
    rw [← hm4_33]
    have hl4_33 : m4_33 XO 3 = m3_27 XO 3 + 4 := by rw [hm4_33]; exact tap_len XTape XO 3 (by decide) _ _
    show au_Go G _ _ 36 [some (au_r XO), some (au_i v1), some (au_i v2), some (au_i v3), some (au_i v4), some (au_i v5)] [] (m4_33, si, hi, sl, r, nx) 0 0
    refine au_aload_n dX0_feed_36 rfl ?_
    refine au_iload dX0_feed_37 rfl ?_
    refine au_callV (n := 1) (kX0_put G v5 m4_33 si hi sl r nx hF (by omega) (by omega)) (lw_V q314 q316 qs1 q130 q317) rfl (by decide +kernel) (by decide) (T := TX0) (N := 15) rfl rfl rfl rfl (Nat.le_of_ble_eq_true rfl) (Nat.le_of_ble_eq_true rfl) (Nat.le_of_ble_eq_true rfl) (Nat.le_of_ble_eq_true rfl) (Nat.le_of_ble_eq_true rfl) dX0_feed_39 (fun rv_ M_ hp_ => ?_)
    obtain ⟨rfl, rfl⟩ := hp_
    obtain ⟨m5_39, hm5_39⟩ : ∃ z, z = tap XTape XO 3 (bX v5) m4_33 := ⟨_, rfl⟩
    rw [← hm5_39]
    have hl5_39 : m5_39 XO 3 = m4_33 XO 3 + 4 := by rw [hm5_39]; exact tap_len XTape XO 3 (by decide) _ _
    show au_Go G _ _ 42 [some (au_r XO), some (au_i v1), some (au_i v2), some (au_i v3), some (au_i v4), some (au_i v5)] [] (m5_39, si, hi, sl, r, nx) 0 0
    refine au_aload_n dX0_feed_42 rfl ?_
    refine au_getf (C := RX0) (T := TX0) (N := 15) in_X0 (by decide) rfl 3 (by decide) rfl rfl q248 rfl dX0_feed_43 (v := au_i (m5_39 XO 3)) (by rfl) ?_
    exact au_iret dX0_feed_46 rfl rfl (Nat.le_of_ble_eq_true rfl) (Nat.le_of_ble_eq_true rfl) (by first | exact Or.inr ⟨by omega, rfl, rfl⟩ | exact Or.inl ⟨by omega, congrArg (fun z => some (au_i z)) (by omega), by rw [hm5_39, hm4_33, hm3_27, hm2_22, hm1_17]⟩)
  · refine au_iconst dX0_feed_13 rfl rfl ?_
    exact au_iret dX0_feed_14 rfl rfl (Nat.le_of_ble_eq_true rfl) (Nat.le_of_ble_eq_true rfl) (by first | exact Or.inr ⟨by omega, rfl, rfl⟩ | exact Or.inl ⟨by omega, congrArg (fun z => some (au_i z)) (by omega), by rw [hm5_39, hm4_33, hm3_27, hm2_22, hm1_17]⟩)
theorem kX2_four (G : au_G) (v : Int) (mi si hi sl : au_A → Int → Int) (r : au_A → Int → Option au_A) (nx : Nat) (hF : Fix r) (h0 : 0 ≤ mi MO 4) (h1 : mi MO 4 + 4 ≤ 300) : au_Ctr G yX2_four cX2_four 3 none 0 0 0 [au_r MO, au_i v] (mi, si, hi, sl, r, nx) (fun rv M' => rv = none ∧ M' = (tap MTape MO 4 (bM v) mi, si, hi, sl, r, nx)) := by
  refine au_of (by decide) (Nat.le_of_ble_eq_true rfl) ?_
  show au_Go G _ _ 0 [some (au_r MO), some (au_i v), none] [] (mi, si, hi, sl, r, nx) 0 0
  refine au_bipush dX2_four_0 rfl rfl ?_
  refine au_istore_n dX2_four_2 (show 2 < 3 by decide) ?_
  show au_Go G _ _ 3 [some (au_r MO), some (au_i v), some (au_i 24)] [] (mi, si, hi, sl, r, nx) 0 0
  refine au_iload_n dX2_four_3 rfl ?_
  refine au_if_lt (tgt := 39) dX2_four_4 (by decide) (fun c4 => ?_) (fun c4 => ?_)
  · exact absurd c4 (by decide)
  · refine au_aload_n dX2_four_7 rfl ?_
    refine au_getf (C := RX2) (T := TX2) (N := 35) in_X2 (by decide) rfl 3 (by decide) rfl rfl q1362 rfl dX2_four_8 (v := au_r MTape) (congrArg au_q (fx_MO_3 hF)) ?_
    refine au_aload_n dX2_four_11 rfl ?_
    refine au_getf (C := RX2) (T := TX2) (N := 35) in_X2 (by decide) rfl 4 (by decide) rfl rfl q1363 rfl dX2_four_12 (v := au_i (mi MO 4)) (by rfl) ?_
    refine au_iload_n dX2_four_15 rfl ?_
    refine au_iload_n dX2_four_16 rfl ?_
    refine au_ishr dX2_four_17 ?_
    refine au_sipush dX2_four_18 rfl rfl ?_
    refine au_iand dX2_four_21 ?_
    refine au_iast dX2_four_22 rfl (by decide) (by omega) (by show _ < ((300 : Nat) : Int); omega) (M' := ((au_up mi MTape (mi MO 4) (au_and (au_shr v 24) 255)), si, hi, sl, r, nx)) (by rfl) ?_
    refine au_aload_n dX2_four_23 rfl ?_
    refine au_dup dX2_four_24 rfl ?_
    refine au_getf (C := RX2) (T := TX2) (N := 35) in_X2 (by decide) rfl 4 (by decide) rfl rfl q1363 rfl dX2_four_25 (v := au_i (mi MO 4)) (by rfl) ?_
    refine au_iconst dX2_four_28 rfl rfl ?_
    refine au_iadd dX2_four_29 (by omega) (by omega) ?_
    refine au_putf (a := MO) (C := RX2) (T := TX2) (N := 35) in_X2 tyX2_ok nmX2 (by decide) rfl 4 (by decide) rfl (by decide) rfl q1363 rfl rfl trivial (fun _ _ _ h => au_nf_i h) dX2_four_30 (M' := ((au_up (au_up mi MTape (mi MO 4) (au_and (au_shr v 24) 255)) MO 4 ((mi MO 4) + 1)), si, hi, sl, r, nx)) (by rfl) ?_
    refine au_iinc dX2_four_33 rfl (show 2 < 3 by decide) (by decide) (by decide) (by decide) (by decide) ?_
    show au_Go G _ _ 36 [some (au_r MO), some (au_i v), some (au_i 16)] [] ((au_up (au_up mi MTape (mi MO 4) (au_and (au_shr v 24) 255)) MO 4 ((mi MO 4) + 1)), si, hi, sl, r, nx) 0 0
    refine au_goto (tgt := 3) dX2_four_36 (by decide) ?_
    refine au_iload_n dX2_four_3 rfl ?_
    refine au_if_lt (tgt := 39) dX2_four_4 (by decide) (fun c4_1 => ?_) (fun c4_1 => ?_)
    · exact absurd c4_1 (by decide)
    · refine au_aload_n dX2_four_7 rfl ?_
      refine au_getf (C := RX2) (T := TX2) (N := 35) in_X2 (by decide) rfl 3 (by decide) rfl rfl q1362 rfl dX2_four_8 (v := au_r MTape) (congrArg au_q (fx_MO_3 hF)) ?_
      refine au_aload_n dX2_four_11 rfl ?_
      refine au_getf (C := RX2) (T := TX2) (N := 35) in_X2 (by decide) rfl 4 (by decide) rfl rfl q1363 rfl dX2_four_12 (v := au_i ((mi MO 4) + 1)) (by rfl) ?_
      refine au_iload_n dX2_four_15 rfl ?_
      refine au_iload_n dX2_four_16 rfl ?_
      refine au_ishr dX2_four_17 ?_
      refine au_sipush dX2_four_18 rfl rfl ?_
      refine au_iand dX2_four_21 ?_
      refine au_iast dX2_four_22 rfl (by decide) (by omega) (by show _ < ((300 : Nat) : Int); omega) (M' := ((au_up (au_up (au_up mi MTape (mi MO 4) (au_and (au_shr v 24) 255)) MO 4 ((mi MO 4) + 1)) MTape ((mi MO 4) + 1) (au_and (au_shr v 16) 255)), si, hi, sl, r, nx)) (by rfl) ?_
      refine au_aload_n dX2_four_23 rfl ?_
      refine au_dup dX2_four_24 rfl ?_
      refine au_getf (C := RX2) (T := TX2) (N := 35) in_X2 (by decide) rfl 4 (by decide) rfl rfl q1363 rfl dX2_four_25 (v := au_i ((mi MO 4) + 1)) (by rfl) ?_
      refine au_iconst dX2_four_28 rfl rfl ?_
      refine au_iadd dX2_four_29 (by omega) (by omega) ?_
      refine au_putf (a := MO) (C := RX2) (T := TX2) (N := 35) in_X2 tyX2_ok nmX2 (by decide) rfl 4 (by decide) rfl (by decide) rfl q1363 rfl rfl trivial (fun _ _ _ h => au_nf_i h) dX2_four_30 (M' := ((au_up (au_up (au_up (au_up mi MTape (mi MO 4) (au_and (au_shr v 24) 255)) MO 4 ((mi MO 4) + 1)) MTape ((mi MO 4) + 1) (au_and (au_shr v 16) 255)) MO 4 (((mi MO 4) + 1) + 1)), si, hi, sl, r, nx)) (by rfl) ?_
      refine au_iinc dX2_four_33 rfl (show 2 < 3 by decide) (by decide) (by decide) (by decide) (by decide) ?_
      show au_Go G _ _ 36 [some (au_r MO), some (au_i v), some (au_i 8)] [] ((au_up (au_up (au_up (au_up mi MTape (mi MO 4) (au_and (au_shr v 24) 255)) MO 4 ((mi MO 4) + 1)) MTape ((mi MO 4) + 1) (au_and (au_shr v 16) 255)) MO 4 (((mi MO 4) + 1) + 1)), si, hi, sl, r, nx) 0 0
      refine au_goto (tgt := 3) dX2_four_36 (by decide) ?_
      refine au_iload_n dX2_four_3 rfl ?_
      refine au_if_lt (tgt := 39) dX2_four_4 (by decide) (fun c4_2 => ?_) (fun c4_2 => ?_)
      · exact absurd c4_2 (by decide)
      · refine au_aload_n dX2_four_7 rfl ?_
        refine au_getf (C := RX2) (T := TX2) (N := 35) in_X2 (by decide) rfl 3 (by decide) rfl rfl q1362 rfl dX2_four_8 (v := au_r MTape) (congrArg au_q (fx_MO_3 hF)) ?_
        refine au_aload_n dX2_four_11 rfl ?_
        refine au_getf (C := RX2) (T := TX2) (N := 35) in_X2 (by decide) rfl 4 (by decide) rfl rfl q1363 rfl dX2_four_12 (v := au_i (((mi MO 4) + 1) + 1)) (by rfl) ?_
        refine au_iload_n dX2_four_15 rfl ?_
        refine au_iload_n dX2_four_16 rfl ?_
        refine au_ishr dX2_four_17 ?_
        refine au_sipush dX2_four_18 rfl rfl ?_
        refine au_iand dX2_four_21 ?_
        refine au_iast dX2_four_22 rfl (by decide) (by omega) (by show _ < ((300 : Nat) : Int); omega) (M' := ((au_up (au_up (au_up (au_up (au_up mi MTape (mi MO 4) (au_and (au_shr v 24) 255)) MO 4 ((mi MO 4) + 1)) MTape ((mi MO 4) + 1) (au_and (au_shr v 16) 255)) MO 4 (((mi MO 4) + 1) + 1)) MTape (((mi MO 4) + 1) + 1) (au_and (au_shr v 8) 255)), si, hi, sl, r, nx)) (by rfl) ?_
        refine au_aload_n dX2_four_23 rfl ?_
        refine au_dup dX2_four_24 rfl ?_
        refine au_getf (C := RX2) (T := TX2) (N := 35) in_X2 (by decide) rfl 4 (by decide) rfl rfl q1363 rfl dX2_four_25 (v := au_i (((mi MO 4) + 1) + 1)) (by rfl) ?_
        refine au_iconst dX2_four_28 rfl rfl ?_
        refine au_iadd dX2_four_29 (by omega) (by omega) ?_
        refine au_putf (a := MO) (C := RX2) (T := TX2) (N := 35) in_X2 tyX2_ok nmX2 (by decide) rfl 4 (by decide) rfl (by decide) rfl q1363 rfl rfl trivial (fun _ _ _ h => au_nf_i h) dX2_four_30 (M' := ((au_up (au_up (au_up (au_up (au_up (au_up mi MTape (mi MO 4) (au_and (au_shr v 24) 255)) MO 4 ((mi MO 4) + 1)) MTape ((mi MO 4) + 1) (au_and (au_shr v 16) 255)) MO 4 (((mi MO 4) + 1) + 1)) MTape (((mi MO 4) + 1) + 1) (au_and (au_shr v 8) 255)) MO 4 ((((mi MO 4) + 1) + 1) + 1)), si, hi, sl, r, nx)) (by rfl) ?_
        refine au_iinc dX2_four_33 rfl (show 2 < 3 by decide) (by decide) (by decide) (by decide) (by decide) ?_
        show au_Go G _ _ 36 [some (au_r MO), some (au_i v), some (au_i 0)] [] ((au_up (au_up (au_up (au_up (au_up (au_up mi MTape (mi MO 4) (au_and (au_shr v 24) 255)) MO 4 ((mi MO 4) + 1)) MTape ((mi MO 4) + 1) (au_and (au_shr v 16) 255)) MO 4 (((mi MO 4) + 1) + 1)) MTape (((mi MO 4) + 1) + 1) (au_and (au_shr v 8) 255)) MO 4 ((((mi MO 4) + 1) + 1) + 1)), si, hi, sl, r, nx) 0 0
        refine au_goto (tgt := 3) dX2_four_36 (by decide) ?_
        refine au_iload_n dX2_four_3 rfl ?_
        refine au_if_lt (tgt := 39) dX2_four_4 (by decide) (fun c4_3 => ?_) (fun c4_3 => ?_)
        · exact absurd c4_3 (by decide)
        · refine au_aload_n dX2_four_7 rfl ?_
          refine au_getf (C := RX2) (T := TX2) (N := 35) in_X2 (by decide) rfl 3 (by decide) rfl rfl q1362 rfl dX2_four_8 (v := au_r MTape) (congrArg au_q (fx_MO_3 hF)) ?_
          refine au_aload_n dX2_four_11 rfl ?_
          refine au_getf (C := RX2) (T := TX2) (N := 35) in_X2 (by decide) rfl 4 (by decide) rfl rfl q1363 rfl dX2_four_12 (v := au_i ((((mi MO 4) + 1) + 1) + 1)) (by rfl) ?_
          refine au_iload_n dX2_four_15 rfl ?_
          refine au_iload_n dX2_four_16 rfl ?_
          refine au_ishr dX2_four_17 ?_
          refine au_sipush dX2_four_18 rfl rfl ?_
          refine au_iand dX2_four_21 ?_
          refine au_iast dX2_four_22 rfl (by decide) (by omega) (by show _ < ((300 : Nat) : Int); omega) (M' := ((au_up (au_up (au_up (au_up (au_up (au_up (au_up mi MTape (mi MO 4) (au_and (au_shr v 24) 255)) MO 4 ((mi MO 4) + 1)) MTape ((mi MO 4) + 1) (au_and (au_shr v 16) 255)) MO 4 (((mi MO 4) + 1) + 1)) MTape (((mi MO 4) + 1) + 1) (au_and (au_shr v 8) 255)) MO 4 ((((mi MO 4) + 1) + 1) + 1)) MTape ((((mi MO 4) + 1) + 1) + 1) (au_and (au_shr v 0) 255)), si, hi, sl, r, nx)) (by rfl) ?_
          refine au_aload_n dX2_four_23 rfl ?_
          refine au_dup dX2_four_24 rfl ?_
          refine au_getf (C := RX2) (T := TX2) (N := 35) in_X2 (by decide) rfl 4 (by decide) rfl rfl q1363 rfl dX2_four_25 (v := au_i ((((mi MO 4) + 1) + 1) + 1)) (by rfl) ?_
          refine au_iconst dX2_four_28 rfl rfl ?_
          refine au_iadd dX2_four_29 (by omega) (by omega) ?_
          refine au_putf (a := MO) (C := RX2) (T := TX2) (N := 35) in_X2 tyX2_ok nmX2 (by decide) rfl 4 (by decide) rfl (by decide) rfl q1363 rfl rfl trivial (fun _ _ _ h => au_nf_i h) dX2_four_30 (M' := ((au_up (au_up (au_up (au_up (au_up (au_up (au_up (au_up mi MTape (mi MO 4) (au_and (au_shr v 24) 255)) MO 4 ((mi MO 4) + 1)) MTape ((mi MO 4) + 1) (au_and (au_shr v 16) 255)) MO 4 (((mi MO 4) + 1) + 1)) MTape (((mi MO 4) + 1) + 1) (au_and (au_shr v 8) 255)) MO 4 ((((mi MO 4) + 1) + 1) + 1)) MTape ((((mi MO 4) + 1) + 1) + 1) (au_and (au_shr v 0) 255)) MO 4 (((((mi MO 4) + 1) + 1) + 1) + 1)), si, hi, sl, r, nx)) (by rfl) ?_
          refine au_iinc dX2_four_33 rfl (show 2 < 3 by decide) (by decide) (by decide) (by decide) (by decide) ?_
          show au_Go G _ _ 36 [some (au_r MO), some (au_i v), some (au_i (-8))] [] ((au_up (au_up (au_up (au_up (au_up (au_up (au_up (au_up mi MTape (mi MO 4) (au_and (au_shr v 24) 255)) MO 4 ((mi MO 4) + 1)) MTape ((mi MO 4) + 1) (au_and (au_shr v 16) 255)) MO 4 (((mi MO 4) + 1) + 1)) MTape (((mi MO 4) + 1) + 1) (au_and (au_shr v 8) 255)) MO 4 ((((mi MO 4) + 1) + 1) + 1)) MTape ((((mi MO 4) + 1) + 1) + 1) (au_and (au_shr v 0) 255)) MO 4 (((((mi MO 4) + 1) + 1) + 1) + 1)), si, hi, sl, r, nx) 0 0
          refine au_goto (tgt := 3) dX2_four_36 (by decide) ?_
          refine au_iload_n dX2_four_3 rfl ?_
          refine au_if_lt (tgt := 39) dX2_four_4 (by decide) (fun c4_4 => ?_) (fun c4_4 => ?_)
          · exact au_vret dX2_four_39 rfl rfl (Nat.le_of_ble_eq_true rfl) (Nat.le_of_ble_eq_true rfl) (⟨rfl, congrArg (fun z => ((z, si, hi, sl, r, nx) : au_M)) (tap_eq MTape MO 4 (by decide) (bM v) mi)⟩)
          · exact absurd c4_4 (by decide)
theorem kX2_feed (G : au_G) (v1 v2 v3 v4 v5 : Int) (mi si hi sl : au_A → Int → Int) (r : au_A → Int → Option au_A) (nx : Nat) (hF : Fix r) (h0 : 0 ≤ mi MO 4) (h1 : mi MO 4 ≤ 300) : au_Ctr G yX2_feed cX2_feed 6 (some .int) 1 0 0 [au_r MO, au_i v1, au_i v2, au_i v3, au_i v4, au_i v5] (mi, si, hi, sl, r, nx) (fun rv M' => ((mi MO 4 + 20 ≤ 300) ∧ rv = some (au_i (mi MO 4 + 20)) ∧ M' = ((tap MTape MO 4 (bM v5) (tap MTape MO 4 (bM v4) (tap MTape MO 4 (bM v3) (tap MTape MO 4 (bM v2) (tap MTape MO 4 (bM v1) mi))))), si, hi, sl, r, nx)) ∨ (¬ (mi MO 4 + 20 ≤ 300) ∧ rv = some (au_i (-1)) ∧ M' = (mi, si, hi, sl, r, nx))) := by
  refine au_of (by decide) (Nat.le_of_ble_eq_true rfl) ?_
  show au_Go G _ _ 0 [some (au_r MO), some (au_i v1), some (au_i v2), some (au_i v3), some (au_i v4), some (au_i v5)] [] (mi, si, hi, sl, r, nx) 0 0
  refine au_aload_n dX2_feed_0 rfl ?_
  refine au_getf (C := RX2) (T := TX2) (N := 35) in_X2 (by decide) rfl 4 (by decide) rfl rfl q1363 rfl dX2_feed_1 (v := au_i (mi MO 4)) (by rfl) ?_
  refine au_bipush dX2_feed_4 rfl rfl ?_
  refine au_iadd dX2_feed_6 (by omega) (by omega) ?_
  refine au_sipush dX2_feed_7 rfl rfl ?_
  refine au_icmp_le (tgt := 15) dX2_feed_10 (by decide) (fun c10 => ?_) (fun c10 => ?_)
  · refine au_aload_n dX2_feed_15 rfl ?_
    refine au_iload_n dX2_feed_16 rfl ?_
    refine au_callV (n := 1) (kX2_four G v1 mi si hi sl r nx hF (by omega) (by omega)) (lw_V q1489 q1491 qs57 q134 q1492) rfl (by decide +kernel) (by decide) (T := TX2) (N := 35) rfl rfl rfl rfl (Nat.le_of_ble_eq_true rfl) (Nat.le_of_ble_eq_true rfl) (Nat.le_of_ble_eq_true rfl) (Nat.le_of_ble_eq_true rfl) (Nat.le_of_ble_eq_true rfl) dX2_feed_17 (fun rv_ M_ hp_ => ?_)
    obtain ⟨rfl, rfl⟩ := hp_
    obtain ⟨m1_17, hm1_17⟩ : ∃ z, z = tap MTape MO 4 (bM v1) mi := ⟨_, rfl⟩
    rw [← hm1_17]
    have hl1_17 : m1_17 MO 4 = mi MO 4 + 4 := by rw [hm1_17]; exact tap_len MTape MO 4 (by decide) _ _
    show au_Go G _ _ 20 [some (au_r MO), some (au_i v1), some (au_i v2), some (au_i v3), some (au_i v4), some (au_i v5)] [] (m1_17, si, hi, sl, r, nx) 0 0
    refine au_aload_n dX2_feed_20 rfl ?_
    refine au_iload_n dX2_feed_21 rfl ?_
    refine au_callV (n := 1) (kX2_four G v2 m1_17 si hi sl r nx hF (by omega) (by omega)) (lw_V q1489 q1491 qs57 q134 q1492) rfl (by decide +kernel) (by decide) (T := TX2) (N := 35) rfl rfl rfl rfl (Nat.le_of_ble_eq_true rfl) (Nat.le_of_ble_eq_true rfl) (Nat.le_of_ble_eq_true rfl) (Nat.le_of_ble_eq_true rfl) (Nat.le_of_ble_eq_true rfl) dX2_feed_22 (fun rv_ M_ hp_ => ?_)
    obtain ⟨rfl, rfl⟩ := hp_
    obtain ⟨m2_22, hm2_22⟩ : ∃ z, z = tap MTape MO 4 (bM v2) m1_17 := ⟨_, rfl⟩
    rw [← hm2_22]
    have hl2_22 : m2_22 MO 4 = m1_17 MO 4 + 4 := by rw [hm2_22]; exact tap_len MTape MO 4 (by decide) _ _
    show au_Go G _ _ 25 [some (au_r MO), some (au_i v1), some (au_i v2), some (au_i v3), some (au_i v4), some (au_i v5)] [] (m2_22, si, hi, sl, r, nx) 0 0
    refine au_aload_n dX2_feed_25 rfl ?_
    refine au_iload_n dX2_feed_26 rfl ?_
    refine au_callV (n := 1) (kX2_four G v3 m2_22 si hi sl r nx hF (by omega) (by omega)) (lw_V q1489 q1491 qs57 q134 q1492) rfl (by decide +kernel) (by decide) (T := TX2) (N := 35) rfl rfl rfl rfl (Nat.le_of_ble_eq_true rfl) (Nat.le_of_ble_eq_true rfl) (Nat.le_of_ble_eq_true rfl) (Nat.le_of_ble_eq_true rfl) (Nat.le_of_ble_eq_true rfl) dX2_feed_27 (fun rv_ M_ hp_ => ?_)
    obtain ⟨rfl, rfl⟩ := hp_
    obtain ⟨m3_27, hm3_27⟩ : ∃ z, z = tap MTape MO 4 (bM v3) m2_22 := ⟨_, rfl⟩
    rw [← hm3_27]
    have hl3_27 : m3_27 MO 4 = m2_22 MO 4 + 4 := by rw [hm3_27]; exact tap_len MTape MO 4 (by decide) _ _
    show au_Go G _ _ 30 [some (au_r MO), some (au_i v1), some (au_i v2), some (au_i v3), some (au_i v4), some (au_i v5)] [] (m3_27, si, hi, sl, r, nx) 0 0
    refine au_aload_n dX2_feed_30 rfl ?_
    refine au_iload dX2_feed_31 rfl ?_
    refine au_callV (n := 1) (kX2_four G v4 m3_27 si hi sl r nx hF (by omega) (by omega)) (lw_V q1489 q1491 qs57 q134 q1492) rfl (by decide +kernel) (by decide) (T := TX2) (N := 35) rfl rfl rfl rfl (Nat.le_of_ble_eq_true rfl) (Nat.le_of_ble_eq_true rfl) (Nat.le_of_ble_eq_true rfl) (Nat.le_of_ble_eq_true rfl) (Nat.le_of_ble_eq_true rfl) dX2_feed_33 (fun rv_ M_ hp_ => ?_)
    obtain ⟨rfl, rfl⟩ := hp_
    obtain ⟨m4_33, hm4_33⟩ : ∃ z, z = tap MTape MO 4 (bM v4) m3_27 := ⟨_, rfl⟩
    rw [← hm4_33]
    have hl4_33 : m4_33 MO 4 = m3_27 MO 4 + 4 := by rw [hm4_33]; exact tap_len MTape MO 4 (by decide) _ _
    show au_Go G _ _ 36 [some (au_r MO), some (au_i v1), some (au_i v2), some (au_i v3), some (au_i v4), some (au_i v5)] [] (m4_33, si, hi, sl, r, nx) 0 0
    refine au_aload_n dX2_feed_36 rfl ?_
    refine au_iload dX2_feed_37 rfl ?_
    refine au_callV (n := 1) (kX2_four G v5 m4_33 si hi sl r nx hF (by omega) (by omega)) (lw_V q1489 q1491 qs57 q134 q1492) rfl (by decide +kernel) (by decide) (T := TX2) (N := 35) rfl rfl rfl rfl (Nat.le_of_ble_eq_true rfl) (Nat.le_of_ble_eq_true rfl) (Nat.le_of_ble_eq_true rfl) (Nat.le_of_ble_eq_true rfl) (Nat.le_of_ble_eq_true rfl) dX2_feed_39 (fun rv_ M_ hp_ => ?_)
    obtain ⟨rfl, rfl⟩ := hp_
    obtain ⟨m5_39, hm5_39⟩ : ∃ z, z = tap MTape MO 4 (bM v5) m4_33 := ⟨_, rfl⟩
    rw [← hm5_39]
    have hl5_39 : m5_39 MO 4 = m4_33 MO 4 + 4 := by rw [hm5_39]; exact tap_len MTape MO 4 (by decide) _ _
    show au_Go G _ _ 42 [some (au_r MO), some (au_i v1), some (au_i v2), some (au_i v3), some (au_i v4), some (au_i v5)] [] (m5_39, si, hi, sl, r, nx) 0 0
    refine au_aload_n dX2_feed_42 rfl ?_
    refine au_getf (C := RX2) (T := TX2) (N := 35) in_X2 (by decide) rfl 4 (by decide) rfl rfl q1363 rfl dX2_feed_43 (v := au_i (m5_39 MO 4)) (by rfl) ?_
    exact au_iret dX2_feed_46 rfl rfl (Nat.le_of_ble_eq_true rfl) (Nat.le_of_ble_eq_true rfl) (by first | exact Or.inr ⟨by omega, rfl, rfl⟩ | exact Or.inl ⟨by omega, congrArg (fun z => some (au_i z)) (by omega), by rw [hm5_39, hm4_33, hm3_27, hm2_22, hm1_17]⟩)
  · refine au_iconst dX2_feed_13 rfl rfl ?_
    exact au_iret dX2_feed_14 rfl rfl (Nat.le_of_ble_eq_true rfl) (Nat.le_of_ble_eq_true rfl) (by first | exact Or.inr ⟨by omega, rfl, rfl⟩ | exact Or.inl ⟨by omega, congrArg (fun z => some (au_i z)) (by omega), by rw [hm5_39, hm4_33, hm3_27, hm2_22, hm1_17]⟩)
