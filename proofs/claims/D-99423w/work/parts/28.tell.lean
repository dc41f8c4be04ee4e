/-! SMALL TELLINGS, of both systems (printed by tools/m28.py) -/
set_option maxRecDepth 100000
set_option maxHeartbeats 4000000
theorem kX1_clears (G : au_G) (c : Int) (mi si hi sl : au_A → Int → Int) (r : au_A → Int → Option au_A) (nx : Nat) (hF : Fix r) (h0 : 0 ≤ c) (h1 : c < 6) : au_Ctr G yX1_clears cX1_clears 2 (some .int) 0 0 0 [au_r XN, au_i c] (mi, si, hi, sl, r, nx) (fun rv M' => rv = some (au_i 0) ∧ M' = (au_up mi XNn c 0, si, hi, sl, r, nx)) := by
  refine au_of (by decide) (Nat.le_of_ble_eq_true rfl) ?_
  show au_Go G _ _ 0 [some (au_r XN), some (au_i c)] [] (mi, si, hi, sl, r, nx) 0 0
  refine au_aload_n dX1_clears_0 rfl ?_
  refine au_getf (C := RX1) (T := TX1) (N := 11) in_X1 (by decide) rfl 0 (by decide) rfl rfl q186 rfl dX1_clears_1 (v := au_r XNn) (congrArg au_q (fx_XN_0 hF)) ?_
  refine au_iload_n dX1_clears_4 rfl ?_
  refine au_iconst dX1_clears_5 rfl rfl ?_
  refine au_iast dX1_clears_6 rfl (by decide) (by omega) (by show _ < ((6 : Nat) : Int); omega) (M' := ((au_up mi XNn c 0), si, hi, sl, r, nx)) (by rfl) ?_
  refine au_iconst dX1_clears_7 rfl rfl ?_
  exact au_iret dX1_clears_8 rfl rfl (Nat.le_of_ble_eq_true rfl) (Nat.le_of_ble_eq_true rfl) (⟨rfl, rfl⟩)
theorem kX0_pile (G : au_G) (z : Int) (mi si hi sl : au_A → Int → Int) (r : au_A → Int → Option au_A) (nx : Nat) (hF : Fix r) (pn : Int) (hPn : mi XNn 4 = pn) (hpn : 0 ≤ pn ∧ pn ≤ 8) : au_Ctr G yX0_pile cX0_pile 2 (some .int) 1 0 0 [au_r XO, au_i z] (mi, si, hi, sl, r, nx) (fun rv M' => (z = -1 ∧ rv = some (au_i 0) ∧ M' = (au_up mi XNn 4 0, si, hi, sl, r, nx)) ∨ ((1 ≤ z ∧ z ≤ 999 ∧ pn < 8) ∧ rv = some (au_i (pn + 1)) ∧ M' = (au_up (au_up mi XNpile pn z) XNn 4 (pn + 1), si, hi, sl, r, nx)) ∨ (¬ z = -1 ∧ ¬ (1 ≤ z ∧ z ≤ 999 ∧ pn < 8) ∧ rv = some (au_i (-2)) ∧ M' = (mi, si, hi, sl, r, nx))) := by
  refine au_of (by decide) (Nat.le_of_ble_eq_true rfl) ?_
  show au_Go G _ _ 0 [some (au_r XO), some (au_i z)] [] (mi, si, hi, sl, r, nx) 0 0
  refine au_iload_n dX0_pile_0 rfl ?_
  refine au_iconst dX0_pile_1 rfl rfl ?_
  refine au_icmp_ne (tgt := 14) dX0_pile_2 (by decide) (fun c2 => ?_) (fun c2 => ?_)
  · refine au_iload_n dX0_pile_14 rfl ?_
    refine au_iconst dX0_pile_15 rfl rfl ?_
    refine au_sipush dX0_pile_16 rfl rfl ?_
    refine au_callSp (n := 3) (kX0_in G z 1 999 (mi, si, hi, sl, r, nx)) (lw_S q300 q301 q130 q302) (by decide +kernel) rfl rfl rfl (Nat.le_of_ble_eq_true rfl) (Nat.le_of_ble_eq_true rfl) (Nat.le_of_ble_eq_true rfl) (Nat.le_of_ble_eq_true rfl) (Nat.le_of_ble_eq_true rfl) dX0_pile_19 ?_
    refine au_if_eq (tgt := 39) dX0_pile_22 (by decide) (fun c22 => ?_) (fun c22 => ?_)
    · have c22 := au_b0 c22
      refine au_bipush dX0_pile_39 rfl rfl ?_
      refine au_iret dX0_pile_41 rfl rfl (Nat.le_of_ble_eq_true rfl) (Nat.le_of_ble_eq_true rfl) ?_
      first
      | exact Or.inl ⟨by omega, rfl, rfl⟩
      | exact Or.inr (Or.inr ⟨by omega, by omega, rfl, rfl⟩)
      | exact Or.inr (Or.inl ⟨by omega, rfl, rfl⟩)
    · have c22 := au_b1 c22
      refine au_aload_n dX0_pile_25 rfl ?_
      refine au_getf (C := RX0) (T := TX0) (N := 15) in_X0 (by decide) rfl 0 (by decide) rfl rfl q245 rfl dX0_pile_26 (v := au_r XN) (congrArg au_q (fx_XO_0 hF)) ?_
      refine au_getN (C := RX1) (T := TX1) (N := 11) in_X1 (by decide) rfl 0 (by decide) rfl rfl q187 rfl dX0_pile_29 (v := au_r XNn) (congrArg au_q (fx_XN_0 hF)) ?_
      refine au_iconst dX0_pile_32 rfl rfl ?_
      refine au_iald dX0_pile_33 rfl (by omega) (by show _ < ((6 : Nat) : Int); omega) (v := au_i (pn)) (congrArg au_i (hPn)) ?_
      refine au_bipush dX0_pile_34 rfl rfl ?_
      refine au_icmp_ne (tgt := 42) dX0_pile_36 (by decide) (fun c36 => ?_) (fun c36 => ?_)
      · refine au_aload_n dX0_pile_42 rfl ?_
        refine au_getf (C := RX0) (T := TX0) (N := 15) in_X0 (by decide) rfl 0 (by decide) rfl rfl q245 rfl dX0_pile_43 (v := au_r XN) (congrArg au_q (fx_XO_0 hF)) ?_
        refine au_getN (C := RX1) (T := TX1) (N := 11) in_X1 (by decide) rfl 6 (by decide) rfl rfl q199 rfl dX0_pile_46 (v := au_r XNpile) (congrArg au_q (fx_XN_6 hF)) ?_
        refine au_aload_n dX0_pile_49 rfl ?_
        refine au_getf (C := RX0) (T := TX0) (N := 15) in_X0 (by decide) rfl 0 (by decide) rfl rfl q245 rfl dX0_pile_50 (v := au_r XN) (congrArg au_q (fx_XO_0 hF)) ?_
        refine au_getN (C := RX1) (T := TX1) (N := 11) in_X1 (by decide) rfl 0 (by decide) rfl rfl q187 rfl dX0_pile_53 (v := au_r XNn) (congrArg au_q (fx_XN_0 hF)) ?_
        refine au_iconst dX0_pile_56 rfl rfl ?_
        refine au_iald dX0_pile_57 rfl (by omega) (by show _ < ((6 : Nat) : Int); omega) (v := au_i (pn)) (congrArg au_i (hPn)) ?_
        refine au_iload_n dX0_pile_58 rfl ?_
        refine au_iast dX0_pile_59 rfl (by decide) (by omega) (by show _ < ((8 : Nat) : Int); omega) (M' := ((au_up mi XNpile pn z), si, hi, sl, r, nx)) (by rfl) ?_
        refine au_aload_n dX0_pile_60 rfl ?_
        refine au_getf (C := RX0) (T := TX0) (N := 15) in_X0 (by decide) rfl 0 (by decide) rfl rfl q245 rfl dX0_pile_61 (v := au_r XN) (congrArg au_q (fx_XO_0 hF)) ?_
        refine au_getN (C := RX1) (T := TX1) (N := 11) in_X1 (by decide) rfl 0 (by decide) rfl rfl q187 rfl dX0_pile_64 (v := au_r XNn) (congrArg au_q (fx_XN_0 hF)) ?_
        refine au_iconst dX0_pile_67 rfl rfl ?_
        refine au_dup2 dX0_pile_68 rfl rfl ?_
        refine au_iald dX0_pile_69 rfl (by omega) (by show _ < ((6 : Nat) : Int); omega) (v := au_i (pn)) (congrArg au_i hPn) ?_
        refine au_iconst dX0_pile_70 rfl rfl ?_
        refine au_iadd dX0_pile_71 (by omega) (by omega) ?_
        refine au_iast dX0_pile_72 rfl (by decide) (by omega) (by show _ < ((6 : Nat) : Int); omega) (M' := ((au_up (au_up mi XNpile pn z) XNn 4 (pn + 1)), si, hi, sl, r, nx)) (by rfl) ?_
        refine au_aload_n dX0_pile_73 rfl ?_
        refine au_getf (C := RX0) (T := TX0) (N := 15) in_X0 (by decide) rfl 0 (by decide) rfl rfl q245 rfl dX0_pile_74 (v := au_r XN) (congrArg au_q (fx_XO_0 hF)) ?_
        refine au_getN (C := RX1) (T := TX1) (N := 11) in_X1 (by decide) rfl 0 (by decide) rfl rfl q187 rfl dX0_pile_77 (v := au_r XNn) (congrArg au_q (fx_XN_0 hF)) ?_
        refine au_iconst dX0_pile_80 rfl rfl ?_
        refine au_iald dX0_pile_81 rfl (by omega) (by show _ < ((6 : Nat) : Int); omega) (v := au_i (pn + 1)) (rfl) ?_
        refine au_iret dX0_pile_82 rfl rfl (Nat.le_of_ble_eq_true rfl) (Nat.le_of_ble_eq_true rfl) ?_
        first
        | exact Or.inl ⟨by omega, rfl, rfl⟩
        | exact Or.inr (Or.inr ⟨by omega, by omega, rfl, rfl⟩)
        | exact Or.inr (Or.inl ⟨by omega, rfl, rfl⟩)
      · refine au_bipush dX0_pile_39 rfl rfl ?_
        refine au_iret dX0_pile_41 rfl rfl (Nat.le_of_ble_eq_true rfl) (Nat.le_of_ble_eq_true rfl) ?_
        first
        | exact Or.inl ⟨by omega, rfl, rfl⟩
        | exact Or.inr (Or.inr ⟨by omega, by omega, rfl, rfl⟩)
        | exact Or.inr (Or.inl ⟨by omega, rfl, rfl⟩)
  · refine au_aload_n dX0_pile_5 rfl ?_
    refine au_getf (C := RX0) (T := TX0) (N := 15) in_X0 (by decide) rfl 0 (by decide) rfl rfl q245 rfl dX0_pile_6 (v := au_r XN) (congrArg au_q (fx_XO_0 hF)) ?_
    refine au_iconst dX0_pile_9 rfl rfl ?_
    refine au_callV (n := 1) (kX1_clears G 4 mi si hi sl r nx hF (by decide) (by decide)) (lw_V q1220 q1221 q1222 q131 q1223) rfl (by decide +kernel) (by decide) (T := TX1) (N := 11) rfl rfl rfl rfl (Nat.le_of_ble_eq_true rfl) (Nat.le_of_ble_eq_true rfl) (Nat.le_of_ble_eq_true rfl) (Nat.le_of_ble_eq_true rfl) (Nat.le_of_ble_eq_true rfl) dX0_pile_10 (fun rv_ M_ hp_ => ?_)
    obtain ⟨rfl, rfl⟩ := hp_
    show au_Go G _ _ 13 [some (au_r XO), some (au_i z)] [au_i 0] ((au_up mi XNn 4 0), si, hi, sl, r, nx) 0 0
    refine au_iret dX0_pile_13 rfl rfl (Nat.le_of_ble_eq_true rfl) (Nat.le_of_ble_eq_true rfl) ?_
    first
    | exact Or.inl ⟨by omega, rfl, rfl⟩
    | exact Or.inr (Or.inr ⟨by omega, by omega, rfl, rfl⟩)
    | exact Or.inr (Or.inl ⟨by omega, rfl, rfl⟩)
theorem kX0_isText (G : au_G) (t : Int) (mi si hi sl : au_A → Int → Int) (r : au_A → Int → Option au_A) (nx : Nat) (hF : Fix r) (tn : Int) (hTn : mi XNn 1 = tn) (htn : 0 ≤ tn ∧ tn ≤ 4) : au_Ctr G yX0_isText cX0_isText 2 (some .boolean) 1 0 0 [au_r XO, au_i t] (mi, si, hi, sl, r, nx) (au_pure (au_i (au_b (0 ≤ t ∧ t < tn))) (mi, si, hi, sl, r, nx)) := by
  refine au_of (by decide) (Nat.le_of_ble_eq_true rfl) ?_
  show au_Go G _ _ 0 [some (au_r XO), some (au_i t)] [] (mi, si, hi, sl, r, nx) 0 0
  refine au_iload_n dX0_isText_0 rfl ?_
  refine au_iconst dX0_isText_1 rfl rfl ?_
  refine au_aload_n dX0_isText_2 rfl ?_
  refine au_getf (C := RX0) (T := TX0) (N := 15) in_X0 (by decide) rfl 0 (by decide) rfl rfl q245 rfl dX0_isText_3 (v := au_r XN) (congrArg au_q (fx_XO_0 hF)) ?_
  refine au_getN (C := RX1) (T := TX1) (N := 11) in_X1 (by decide) rfl 0 (by decide) rfl rfl q187 rfl dX0_isText_6 (v := au_r XNn) (congrArg au_q (fx_XN_0 hF)) ?_
  refine au_iconst dX0_isText_9 rfl rfl ?_
  refine au_iald dX0_isText_10 rfl (by omega) (by show _ < ((6 : Nat) : Int); omega) (v := au_i (tn)) (congrArg au_i hTn) ?_
  refine au_iconst dX0_isText_11 rfl rfl ?_
  refine au_isub dX0_isText_12 (by omega) (by omega) ?_
  refine au_callSp (n := 3) (kX0_in G t 0 (tn - 1) (mi, si, hi, sl, r, nx)) (lw_S q300 q301 q130 q302) (by decide +kernel) rfl rfl rfl (Nat.le_of_ble_eq_true rfl) (Nat.le_of_ble_eq_true rfl) (Nat.le_of_ble_eq_true rfl) (Nat.le_of_ble_eq_true rfl) (Nat.le_of_ble_eq_true rfl) dX0_isText_13 ?_
  exact au_zret dX0_isText_16 rfl (au_b_01) rfl (Nat.le_of_ble_eq_true rfl) (Nat.le_of_ble_eq_true rfl) (au_pe (au_b_congr (by omega)) rfl)
theorem kX0_by (G : au_G) (t : Int) (mi si hi sl : au_A → Int → Int) (r : au_A → Int → Option au_A) (nx : Nat) (hF : Fix r) (tn : Int) (hTn : mi XNn 1 = tn) (htn : 0 ≤ tn ∧ tn ≤ 4) : au_Ctr G yX0_by cX0_by 2 (some .boolean) 2 0 0 [au_r XO, au_i t] (mi, si, hi, sl, r, nx) (fun rv M' => ((-1 ≤ t ∧ t < tn) ∧ rv = some (au_i 1) ∧ M' = (au_up mi XNn 2 t, si, hi, sl, r, nx)) ∨ (¬ (-1 ≤ t ∧ t < tn) ∧ rv = some (au_i 0) ∧ M' = (mi, si, hi, sl, r, nx))) := by
  refine au_of (by decide) (Nat.le_of_ble_eq_true rfl) ?_
  show au_Go G _ _ 0 [some (au_r XO), some (au_i t)] [] (mi, si, hi, sl, r, nx) 0 0
  refine au_iload_n dX0_by_0 rfl ?_
  refine au_iconst dX0_by_1 rfl rfl ?_
  refine au_icmp_eq (tgt := 15) dX0_by_2 (by decide) (fun c2 => ?_) (fun c2 => ?_)
  · refine au_aload_n dX0_by_15 rfl ?_
    refine au_getf (C := RX0) (T := TX0) (N := 15) in_X0 (by decide) rfl 0 (by decide) rfl rfl q245 rfl dX0_by_16 (v := au_r XN) (congrArg au_q (fx_XO_0 hF)) ?_
    refine au_getN (C := RX1) (T := TX1) (N := 11) in_X1 (by decide) rfl 0 (by decide) rfl rfl q187 rfl dX0_by_19 (v := au_r XNn) (congrArg au_q (fx_XN_0 hF)) ?_
    refine au_iconst dX0_by_22 rfl rfl ?_
    refine au_iload_n dX0_by_23 rfl ?_
    refine au_iast dX0_by_24 rfl (by decide) (by omega) (by show _ < ((6 : Nat) : Int); omega) (M' := ((au_up mi XNn 2 t), si, hi, sl, r, nx)) (by rfl) ?_
    refine au_iconst dX0_by_25 rfl rfl ?_
    exact au_zret dX0_by_26 rfl (Or.inr rfl) rfl (Nat.le_of_ble_eq_true rfl) (Nat.le_of_ble_eq_true rfl) (by first | exact Or.inl ⟨by omega, rfl, rfl⟩ | exact Or.inr ⟨by omega, rfl, rfl⟩)
  · refine au_aload_n dX0_by_5 rfl ?_
    refine au_iload_n dX0_by_6 rfl ?_
    refine au_callVp (n := 1) (kX0_isText G t mi si hi sl r nx hF tn hTn htn) (lw_V q882 q884 qs24 q130 q885) rfl (by decide +kernel) (by decide) (T := TX0) (N := 15) rfl rfl rfl rfl (Nat.le_of_ble_eq_true rfl) (Nat.le_of_ble_eq_true rfl) (Nat.le_of_ble_eq_true rfl) (Nat.le_of_ble_eq_true rfl) (Nat.le_of_ble_eq_true rfl) dX0_by_7 ?_
    refine au_if_ne (tgt := 15) dX0_by_10 (by decide) (fun c10 => ?_) (fun c10 => ?_)
    · have c10 := au_b1 c10
      refine au_aload_n dX0_by_15 rfl ?_
      refine au_getf (C := RX0) (T := TX0) (N := 15) in_X0 (by decide) rfl 0 (by decide) rfl rfl q245 rfl dX0_by_16 (v := au_r XN) (congrArg au_q (fx_XO_0 hF)) ?_
      refine au_getN (C := RX1) (T := TX1) (N := 11) in_X1 (by decide) rfl 0 (by decide) rfl rfl q187 rfl dX0_by_19 (v := au_r XNn) (congrArg au_q (fx_XN_0 hF)) ?_
      refine au_iconst dX0_by_22 rfl rfl ?_
      refine au_iload_n dX0_by_23 rfl ?_
      refine au_iast dX0_by_24 rfl (by decide) (by omega) (by show _ < ((6 : Nat) : Int); omega) (M' := ((au_up mi XNn 2 t), si, hi, sl, r, nx)) (by rfl) ?_
      refine au_iconst dX0_by_25 rfl rfl ?_
      exact au_zret dX0_by_26 rfl (Or.inr rfl) rfl (Nat.le_of_ble_eq_true rfl) (Nat.le_of_ble_eq_true rfl) (by first | exact Or.inl ⟨by omega, rfl, rfl⟩ | exact Or.inr ⟨by omega, rfl, rfl⟩)
    · have c10 := au_b0 c10
      refine au_iconst dX0_by_13 rfl rfl ?_
      exact au_zret dX0_by_14 rfl (Or.inl rfl) rfl (Nat.le_of_ble_eq_true rfl) (Nat.le_of_ble_eq_true rfl) (by first | exact Or.inl ⟨by omega, rfl, rfl⟩ | exact Or.inr ⟨by omega, rfl, rfl⟩)
theorem kX0_end (G : au_G) (t : Int) (mi si hi sl : au_A → Int → Int) (r : au_A → Int → Option au_A) (nx : Nat) (hF : Fix r) : au_Ctr G yX0_end cX0_end 2 (some .int) 1 0 0 [au_r XO, au_i t] (mi, si, hi, sl, r, nx) (fun rv M' => ((0 ≤ t ∧ t ≤ mi XO 3) ∧ rv = some (au_i t) ∧ M' = (au_up mi XO 3 t, si, hi, sl, r, nx)) ∨ (¬ (0 ≤ t ∧ t ≤ mi XO 3) ∧ rv = some (au_i (-1)) ∧ M' = (mi, si, hi, sl, r, nx))) := by
  refine au_of (by decide) (Nat.le_of_ble_eq_true rfl) ?_
  show au_Go G _ _ 0 [some (au_r XO), some (au_i t)] [] (mi, si, hi, sl, r, nx) 0 0
  refine au_iload_n dX0_end_0 rfl ?_
  refine au_iconst dX0_end_1 rfl rfl ?_
  refine au_aload_n dX0_end_2 rfl ?_
  refine au_getf (C := RX0) (T := TX0) (N := 15) in_X0 (by decide) rfl 3 (by decide) rfl rfl q248 rfl dX0_end_3 (v := au_i (mi XO 3)) (by rfl) ?_
  refine au_callSp (n := 3) (kX0_in G t 0 (mi XO 3) (mi, si, hi, sl, r, nx)) (lw_S q300 q301 q130 q302) (by decide +kernel) rfl rfl rfl (Nat.le_of_ble_eq_true rfl) (Nat.le_of_ble_eq_true rfl) (Nat.le_of_ble_eq_true rfl) (Nat.le_of_ble_eq_true rfl) (Nat.le_of_ble_eq_true rfl) dX0_end_6 ?_
  refine au_if_ne (tgt := 14) dX0_end_9 (by decide) (fun c9 => ?_) (fun c9 => ?_)
  · have c9 := au_b1 c9
    refine au_aload_n dX0_end_14 rfl ?_
    refine au_iload_n dX0_end_15 rfl ?_
    refine au_putf (a := XO) (C := RX0) (T := TX0) (N := 15) in_X0 tyX0_ok nmX0 (by decide) rfl 3 (by decide) rfl (by decide) rfl q248 rfl rfl trivial (fun _ _ _ h => au_nf_i h) dX0_end_16 (M' := ((au_up mi XO 3 t), si, hi, sl, r, nx)) (by rfl) ?_
    refine au_iload_n dX0_end_19 rfl ?_
    exact au_iret dX0_end_20 rfl rfl (Nat.le_of_ble_eq_true rfl) (Nat.le_of_ble_eq_true rfl) (by first | exact Or.inl ⟨by omega, rfl, rfl⟩ | exact Or.inr ⟨by omega, rfl, rfl⟩)
  · have c9 := au_b0 c9
    refine au_iconst dX0_end_12 rfl rfl ?_
    exact au_iret dX0_end_13 rfl rfl (Nat.le_of_ble_eq_true rfl) (Nat.le_of_ble_eq_true rfl) (by first | exact Or.inl ⟨by omega, rfl, rfl⟩ | exact Or.inr ⟨by omega, rfl, rfl⟩)
theorem kX0_fault (G : au_G) (w : Int) (mi si hi sl : au_A → Int → Int) (r : au_A → Int → Option au_A) (nx : Nat) (hF : Fix r) : au_Ctr G yX0_fault cX0_fault 2 (some .int) 0 0 0 [au_r XO, au_i w] (mi, si, hi, sl, r, nx) (au_pure (au_i (if w = 0 then mi XO 4 else if w = 1 then mi XO 5 else -1)) (mi, si, hi, sl, r, nx)) := by
  refine au_of (by decide) (Nat.le_of_ble_eq_true rfl) ?_
  show au_Go G _ _ 0 [some (au_r XO), some (au_i w)] [] (mi, si, hi, sl, r, nx) 0 0
  refine au_iload_n dX0_fault_0 rfl ?_
  refine au_if_ne (tgt := 11) dX0_fault_1 (by decide) (fun c1 => ?_) (fun c1 => ?_)
  · refine au_iload_n dX0_fault_11 rfl ?_
    refine au_iconst dX0_fault_12 rfl rfl ?_
    refine au_icmp_ne (tgt := 23) dX0_fault_13 (by decide) (fun c13 => ?_) (fun c13 => ?_)
    · refine au_iconst dX0_fault_23 rfl rfl ?_
      exact au_iret dX0_fault_24 rfl rfl (Nat.le_of_ble_eq_true rfl) (Nat.le_of_ble_eq_true rfl) (by first | exact au_pe (by rw [if_pos (by omega)]) rfl | exact au_pe (by rw [if_neg (by omega), if_pos (by omega)]) rfl | exact au_pe (by rw [if_neg (by omega), if_neg (by omega)]) rfl)
    · refine au_aload_n dX0_fault_16 rfl ?_
      refine au_getf (C := RX0) (T := TX0) (N := 15) in_X0 (by decide) rfl 5 (by decide) rfl rfl q250 rfl dX0_fault_17 (v := au_i (mi XO 5)) (by rfl) ?_
      refine au_goto (tgt := 24) dX0_fault_20 (by decide) ?_
      exact au_iret dX0_fault_24 rfl rfl (Nat.le_of_ble_eq_true rfl) (Nat.le_of_ble_eq_true rfl) (by first | exact au_pe (by rw [if_pos (by omega)]) rfl | exact au_pe (by rw [if_neg (by omega), if_pos (by omega)]) rfl | exact au_pe (by rw [if_neg (by omega), if_neg (by omega)]) rfl)
  · refine au_aload_n dX0_fault_4 rfl ?_
    refine au_getf (C := RX0) (T := TX0) (N := 15) in_X0 (by decide) rfl 4 (by decide) rfl rfl q249 rfl dX0_fault_5 (v := au_i (mi XO 4)) (by rfl) ?_
    refine au_goto (tgt := 24) dX0_fault_8 (by decide) ?_
    exact au_iret dX0_fault_24 rfl rfl (Nat.le_of_ble_eq_true rfl) (Nat.le_of_ble_eq_true rfl) (by first | exact au_pe (by rw [if_pos (by omega)]) rfl | exact au_pe (by rw [if_neg (by omega), if_pos (by omega)]) rfl | exact au_pe (by rw [if_neg (by omega), if_neg (by omega)]) rfl)
theorem kX0_is (G : au_G) (w : Int) (mi si hi sl : au_A → Int → Int) (r : au_A → Int → Option au_A) (nx : Nat) (hF : Fix r) : au_Ctr G yX0_is cX0_is 2 (some .int) 1 0 0 [au_r XO, au_i w] (mi, si, hi, sl, r, nx) (au_pure (au_i (if 0 ≤ w ∧ w ≤ 2 then mi XNrow w else -2)) (mi, si, hi, sl, r, nx)) := by
  refine au_of (by decide) (Nat.le_of_ble_eq_true rfl) ?_
  show au_Go G _ _ 0 [some (au_r XO), some (au_i w)] [] (mi, si, hi, sl, r, nx) 0 0
  refine au_iload_n dX0_is_0 rfl ?_
  refine au_iconst dX0_is_1 rfl rfl ?_
  refine au_iconst dX0_is_2 rfl rfl ?_
  refine au_callSp (n := 3) (kX0_in G w 0 2 (mi, si, hi, sl, r, nx)) (lw_S q300 q301 q130 q302) (by decide +kernel) rfl rfl rfl (Nat.le_of_ble_eq_true rfl) (Nat.le_of_ble_eq_true rfl) (Nat.le_of_ble_eq_true rfl) (Nat.le_of_ble_eq_true rfl) (Nat.le_of_ble_eq_true rfl) dX0_is_3 ?_
  refine au_if_eq (tgt := 21) dX0_is_6 (by decide) (fun c6 => ?_) (fun c6 => ?_)
  · have c6 := au_b0 c6
    refine au_bipush dX0_is_21 rfl rfl ?_
    exact au_iret dX0_is_23 rfl rfl (Nat.le_of_ble_eq_true rfl) (Nat.le_of_ble_eq_true rfl) (by first | exact au_pe (by rw [if_pos (by omega)]) rfl | exact au_pe (by rw [if_neg (by omega)]) rfl)
  · have c6 := au_b1 c6
    refine au_aload_n dX0_is_9 rfl ?_
    refine au_getf (C := RX0) (T := TX0) (N := 15) in_X0 (by decide) rfl 0 (by decide) rfl rfl q245 rfl dX0_is_10 (v := au_r XN) (congrArg au_q (fx_XO_0 hF)) ?_
    refine au_getN (C := RX1) (T := TX1) (N := 11) in_X1 (by decide) rfl 1 (by decide) rfl rfl q189 rfl dX0_is_13 (v := au_r XNrow) (congrArg au_q (fx_XN_1 hF)) ?_
    refine au_iload_n dX0_is_16 rfl ?_
    refine au_iald dX0_is_17 rfl (by omega) (by show _ < ((204 : Nat) : Int); omega) (v := au_i (mi XNrow w)) (by rfl) ?_
    refine au_goto (tgt := 23) dX0_is_18 (by decide) ?_
    exact au_iret dX0_is_23 rfl rfl (Nat.le_of_ble_eq_true rfl) (Nat.le_of_ble_eq_true rfl) (by first | exact au_pe (by rw [if_pos (by omega)]) rfl | exact au_pe (by rw [if_neg (by omega)]) rfl)
theorem kX0_ofApology (G : au_G) (q w : Int) (mi si hi sl : au_A → Int → Int) (r : au_A → Int → Option au_A) (nx : Nat) (hF : Fix r) (sn : Int) (hSn : mi XNrow 2 = sn) (hs : 0 ≤ sn ∧ sn ≤ 10) (Ap : Int → Int → Int) (hAp : ∀ k w, 0 ≤ k → k < 10 → 0 ≤ w → w ≤ 6 → mi XNrow (3 + 7 * k + w) = Ap k w) : au_Ctr G yX0_ofApology cX0_ofApology 3 (some .int) 2 0 0 [au_r XO, au_i q, au_i w] (mi, si, hi, sl, r, nx) (au_pure (au_i (if (0 ≤ q ∧ q < sn) ∧ 0 ≤ w ∧ w ≤ 6 then Ap q w else -2)) (mi, si, hi, sl, r, nx)) := by
  refine au_of (by decide) (Nat.le_of_ble_eq_true rfl) ?_
  show au_Go G _ _ 0 [some (au_r XO), some (au_i q), some (au_i w)] [] (mi, si, hi, sl, r, nx) 0 0
  refine au_aload_n dX0_ofApology_0 rfl ?_
  refine au_iload_n dX0_ofApology_1 rfl ?_
  refine au_callVp (n := 1) (kX0_isApology G q mi si hi sl r nx hF sn hSn hs ) (lw_V q1098 q1100 qs39 q130 q1101) rfl (by decide +kernel) (by decide) (T := TX0) (N := 15) rfl rfl rfl rfl (Nat.le_of_ble_eq_true rfl) (Nat.le_of_ble_eq_true rfl) (Nat.le_of_ble_eq_true rfl) (Nat.le_of_ble_eq_true rfl) (Nat.le_of_ble_eq_true rfl) dX0_ofApology_2 ?_
  refine au_if_eq (tgt := 34) dX0_ofApology_5 (by decide) (fun c5 => ?_) (fun c5 => ?_)
  · have c5 := au_b0 c5
    refine au_bipush dX0_ofApology_34 rfl rfl ?_
    exact au_iret dX0_ofApology_36 rfl rfl (Nat.le_of_ble_eq_true rfl) (Nat.le_of_ble_eq_true rfl) (by first | exact au_pe (by rw [if_pos (by omega)]) rfl | exact au_pe (by rw [if_neg (by omega)]) rfl)
  · have c5 := au_b1 c5
    refine au_iload_n dX0_ofApology_8 rfl ?_
    refine au_iconst dX0_ofApology_9 rfl rfl ?_
    refine au_bipush dX0_ofApology_10 rfl rfl ?_
    refine au_callSp (n := 3) (kX0_in G w 0 6 (mi, si, hi, sl, r, nx)) (lw_S q300 q301 q130 q302) (by decide +kernel) rfl rfl rfl (Nat.le_of_ble_eq_true rfl) (Nat.le_of_ble_eq_true rfl) (Nat.le_of_ble_eq_true rfl) (Nat.le_of_ble_eq_true rfl) (Nat.le_of_ble_eq_true rfl) dX0_ofApology_12 ?_
    refine au_if_eq (tgt := 34) dX0_ofApology_15 (by decide) (fun c15 => ?_) (fun c15 => ?_)
    · have c15 := au_b0 c15
      refine au_bipush dX0_ofApology_34 rfl rfl ?_
      exact au_iret dX0_ofApology_36 rfl rfl (Nat.le_of_ble_eq_true rfl) (Nat.le_of_ble_eq_true rfl) (by first | exact au_pe (by rw [if_pos (by omega)]) rfl | exact au_pe (by rw [if_neg (by omega)]) rfl)
    · have c15 := au_b1 c15
      refine au_aload_n dX0_ofApology_18 rfl ?_
      refine au_getf (C := RX0) (T := TX0) (N := 15) in_X0 (by decide) rfl 0 (by decide) rfl rfl q245 rfl dX0_ofApology_19 (v := au_r XN) (congrArg au_q (fx_XO_0 hF)) ?_
      refine au_getN (C := RX1) (T := TX1) (N := 11) in_X1 (by decide) rfl 1 (by decide) rfl rfl q189 rfl dX0_ofApology_22 (v := au_r XNrow) (congrArg au_q (fx_XN_1 hF)) ?_
      refine au_iload_n dX0_ofApology_25 rfl ?_
      refine au_iload_n dX0_ofApology_26 rfl ?_
      refine au_callSp (n := 2) (kX0_at G q w (mi, si, hi, sl, r, nx) (by omega) (by omega) (by omega) (by omega)) (lw_S q898 q899 q130 q900) (by decide +kernel) rfl rfl rfl (Nat.le_of_ble_eq_true rfl) (Nat.le_of_ble_eq_true rfl) (Nat.le_of_ble_eq_true rfl) (Nat.le_of_ble_eq_true rfl) (Nat.le_of_ble_eq_true rfl) dX0_ofApology_27 ?_
      refine au_iald dX0_ofApology_30 rfl (by omega) (by show _ < ((204 : Nat) : Int); omega) (v := au_i (Ap q w)) (congrArg au_i (hAp _ _ (by omega) (by omega) (by omega) (by omega))) ?_
      refine au_goto (tgt := 36) dX0_ofApology_31 (by decide) ?_
      exact au_iret dX0_ofApology_36 rfl rfl (Nat.le_of_ble_eq_true rfl) (Nat.le_of_ble_eq_true rfl) (by first | exact au_pe (by rw [if_pos (by omega)]) rfl | exact au_pe (by rw [if_neg (by omega)]) rfl)
theorem kX0_owes (G : au_G) (o q c : Int) (mi si hi sl : au_A → Int → Int) (r : au_A → Int → Option au_A) (nx : Nat) (hF : Fix r) : au_Ctr G yX0_owes cX0_owes 4 (some .boolean) 1 0 0 [au_r XO, au_i o, au_i q, au_i c] (mi, si, hi, sl, r, nx) (fun rv M' => ((0 ≤ o ∧ o ≤ 1 ∧ 0 ≤ q ∧ q ≤ 4 ∧ 0 ≤ c ∧ c ≤ 99) ∧ rv = some (au_i 1) ∧ M' = (au_up mi (1010 + o.toNat, 5, 40) q c, si, hi, sl, r, nx)) ∨ (¬ (0 ≤ o ∧ o ≤ 1 ∧ 0 ≤ q ∧ q ≤ 4 ∧ 0 ≤ c ∧ c ≤ 99) ∧ rv = some (au_i 0) ∧ M' = (mi, si, hi, sl, r, nx))) := by
  refine au_of (by decide) (Nat.le_of_ble_eq_true rfl) ?_
  show au_Go G _ _ 0 [some (au_r XO), some (au_i o), some (au_i q), some (au_i c)] [] (mi, si, hi, sl, r, nx) 0 0
  refine au_iload_n dX0_owes_0 rfl ?_
  refine au_iconst dX0_owes_1 rfl rfl ?_
  refine au_iconst dX0_owes_2 rfl rfl ?_
  refine au_callSp (n := 3) (kX0_in G o 0 1 (mi, si, hi, sl, r, nx)) (lw_S q300 q301 q130 q302) (by decide +kernel) rfl rfl rfl (Nat.le_of_ble_eq_true rfl) (Nat.le_of_ble_eq_true rfl) (Nat.le_of_ble_eq_true rfl) (Nat.le_of_ble_eq_true rfl) (Nat.le_of_ble_eq_true rfl) dX0_owes_3 ?_
  refine au_if_eq (tgt := 28) dX0_owes_6 (by decide) (fun c6 => ?_) (fun c6 => ?_)
  · have c6 := au_b0 c6
    refine au_iconst dX0_owes_28 rfl rfl ?_
    exact au_zret dX0_owes_29 rfl (Or.inl rfl) rfl (Nat.le_of_ble_eq_true rfl) (Nat.le_of_ble_eq_true rfl) (by first | exact Or.inl ⟨by omega, rfl, rfl⟩ | exact Or.inr ⟨by omega, rfl, rfl⟩)
  · have c6 := au_b1 c6
    refine au_iload_n dX0_owes_9 rfl ?_
    refine au_iconst dX0_owes_10 rfl rfl ?_
    refine au_iconst dX0_owes_11 rfl rfl ?_
    refine au_callSp (n := 3) (kX0_in G q 0 4 (mi, si, hi, sl, r, nx)) (lw_S q300 q301 q130 q302) (by decide +kernel) rfl rfl rfl (Nat.le_of_ble_eq_true rfl) (Nat.le_of_ble_eq_true rfl) (Nat.le_of_ble_eq_true rfl) (Nat.le_of_ble_eq_true rfl) (Nat.le_of_ble_eq_true rfl) dX0_owes_12 ?_
    refine au_if_eq (tgt := 28) dX0_owes_15 (by decide) (fun c15 => ?_) (fun c15 => ?_)
    · have c15 := au_b0 c15
      refine au_iconst dX0_owes_28 rfl rfl ?_
      exact au_zret dX0_owes_29 rfl (Or.inl rfl) rfl (Nat.le_of_ble_eq_true rfl) (Nat.le_of_ble_eq_true rfl) (by first | exact Or.inl ⟨by omega, rfl, rfl⟩ | exact Or.inr ⟨by omega, rfl, rfl⟩)
    · have c15 := au_b1 c15
      refine au_iload_n dX0_owes_18 rfl ?_
      refine au_iconst dX0_owes_19 rfl rfl ?_
      refine au_bipush dX0_owes_20 rfl rfl ?_
      refine au_callSp (n := 3) (kX0_in G c 0 99 (mi, si, hi, sl, r, nx)) (lw_S q300 q301 q130 q302) (by decide +kernel) rfl rfl rfl (Nat.le_of_ble_eq_true rfl) (Nat.le_of_ble_eq_true rfl) (Nat.le_of_ble_eq_true rfl) (Nat.le_of_ble_eq_true rfl) (Nat.le_of_ble_eq_true rfl) dX0_owes_22 ?_
      refine au_if_ne (tgt := 30) dX0_owes_25 (by decide) (fun c25 => ?_) (fun c25 => ?_)
      · have c25 := au_b1 c25
        refine au_aload_n dX0_owes_30 rfl ?_
        refine au_getf (C := RX0) (T := TX0) (N := 15) in_X0 (by decide) rfl 0 (by decide) rfl rfl q245 rfl dX0_owes_31 (v := au_r XN) (congrArg au_q (fx_XO_0 hF)) ?_
        refine au_getN (C := RX1) (T := TX1) (N := 11) in_X1 (by decide) rfl 7 (by decide) rfl rfl q201 rfl dX0_owes_34 (v := au_r XNturn) (congrArg au_q (fx_XN_7 hF)) ?_
        refine au_iload_n dX0_owes_37 rfl ?_
        refine au_aald dX0_owes_38 (by decide) (by decide) (by omega) (by show _ < ((2 : Nat) : Int); omega) (v := au_r (1010 + o.toNat, 5, 40)) (congrArg au_q (fx_turn hF (by omega) (by omega))) ?_
        refine au_iload_n dX0_owes_39 rfl ?_
        refine au_iload_n dX0_owes_40 rfl ?_
        refine au_iast dX0_owes_41 rfl (by show 1000 ≤ _; omega) (by omega) (by show _ < ((5 : Nat) : Int); omega) (M' := ((au_up mi (1010 + o.toNat, 5, 40) q c), si, hi, sl, r, nx)) (au_wv_m (au_reg_lo (by omega) (by omega) _)) ?_
        refine au_iconst dX0_owes_42 rfl rfl ?_
        exact au_zret dX0_owes_43 rfl (Or.inr rfl) rfl (Nat.le_of_ble_eq_true rfl) (Nat.le_of_ble_eq_true rfl) (by first | exact Or.inl ⟨by omega, rfl, rfl⟩ | exact Or.inr ⟨by omega, rfl, rfl⟩)
      · have c25 := au_b0 c25
        refine au_iconst dX0_owes_28 rfl rfl ?_
        exact au_zret dX0_owes_29 rfl (Or.inl rfl) rfl (Nat.le_of_ble_eq_true rfl) (Nat.le_of_ble_eq_true rfl) (by first | exact Or.inl ⟨by omega, rfl, rfl⟩ | exact Or.inr ⟨by omega, rfl, rfl⟩)
theorem kX0_added (G : au_G) (o b : Int) (mi si hi sl : au_A → Int → Int) (r : au_A → Int → Option au_A) (nx : Nat) (hF : Fix r) (n : Int) (hN : mi XNn 0 = n) (hn : 0 ≤ n ∧ n ≤ 10) (an : Int) (hAn : mi XNn 5 = an) (han : 0 ≤ an ∧ an ≤ 8) : au_Ctr G yX0_added cX0_added 3 (some .int) 2 0 0 [au_r XO, au_i o, au_i b] (mi, si, hi, sl, r, nx) (fun rv M' => (o = -1 ∧ rv = some (au_i 0) ∧ M' = (au_up mi XNn 5 0, si, hi, sl, r, nx)) ∨ (((0 ≤ o ∧ o < n) ∧ 0 ≤ b ∧ b ≤ 999 ∧ an < 8) ∧ rv = some (au_i (an + 1)) ∧ M' = (au_up (au_up (au_up mi (1013 + an.toNat, 2, 40) 0 o) (1013 + an.toNat, 2, 40) 1 b) XNn 5 (an + 1), si, hi, sl, r, nx)) ∨ (¬ o = -1 ∧ ¬ ((0 ≤ o ∧ o < n) ∧ 0 ≤ b ∧ b ≤ 999 ∧ an < 8) ∧ rv = some (au_i (-2)) ∧ M' = (mi, si, hi, sl, r, nx))) := by
  refine au_of (by decide) (Nat.le_of_ble_eq_true rfl) ?_
  show au_Go G _ _ 0 [some (au_r XO), some (au_i o), some (au_i b)] [] (mi, si, hi, sl, r, nx) 0 0
  refine au_iload_n dX0_added_0 rfl ?_
  refine au_iconst dX0_added_1 rfl rfl ?_
  refine au_icmp_ne (tgt := 14) dX0_added_2 (by decide) (fun c2 => ?_) (fun c2 => ?_)
  · refine au_aload_n dX0_added_14 rfl ?_
    refine au_iload_n dX0_added_15 rfl ?_
    refine au_callVp (n := 1) (kX0_isOfficer G o mi si hi sl r nx hF n hN hn ) (lw_V q296 q298 qs0 q130 q299) rfl (by decide +kernel) (by decide) (T := TX0) (N := 15) rfl rfl rfl rfl (Nat.le_of_ble_eq_true rfl) (Nat.le_of_ble_eq_true rfl) (Nat.le_of_ble_eq_true rfl) (Nat.le_of_ble_eq_true rfl) (Nat.le_of_ble_eq_true rfl) dX0_added_16 ?_
    refine au_if_eq (tgt := 47) dX0_added_19 (by decide) (fun c19 => ?_) (fun c19 => ?_)
    · have c19 := au_b0 c19
      refine au_bipush dX0_added_47 rfl rfl ?_
      refine au_iret dX0_added_49 rfl rfl (Nat.le_of_ble_eq_true rfl) (Nat.le_of_ble_eq_true rfl) ?_
      first
      | exact Or.inl ⟨by omega, rfl, rfl⟩
      | exact Or.inr (Or.inr ⟨by omega, by omega, rfl, rfl⟩)
      | exact Or.inr (Or.inl ⟨by omega, rfl, rfl⟩)
    · have c19 := au_b1 c19
      refine au_iload_n dX0_added_22 rfl ?_
      refine au_iconst dX0_added_23 rfl rfl ?_
      refine au_sipush dX0_added_24 rfl rfl ?_
      refine au_callSp (n := 3) (kX0_in G b 0 999 (mi, si, hi, sl, r, nx)) (lw_S q300 q301 q130 q302) (by decide +kernel) rfl rfl rfl (Nat.le_of_ble_eq_true rfl) (Nat.le_of_ble_eq_true rfl) (Nat.le_of_ble_eq_true rfl) (Nat.le_of_ble_eq_true rfl) (Nat.le_of_ble_eq_true rfl) dX0_added_27 ?_
      refine au_if_eq (tgt := 47) dX0_added_30 (by decide) (fun c30 => ?_) (fun c30 => ?_)
      · have c30 := au_b0 c30
        refine au_bipush dX0_added_47 rfl rfl ?_
        refine au_iret dX0_added_49 rfl rfl (Nat.le_of_ble_eq_true rfl) (Nat.le_of_ble_eq_true rfl) ?_
        first
        | exact Or.inl ⟨by omega, rfl, rfl⟩
        | exact Or.inr (Or.inr ⟨by omega, by omega, rfl, rfl⟩)
        | exact Or.inr (Or.inl ⟨by omega, rfl, rfl⟩)
      · have c30 := au_b1 c30
        refine au_aload_n dX0_added_33 rfl ?_
        refine au_getf (C := RX0) (T := TX0) (N := 15) in_X0 (by decide) rfl 0 (by decide) rfl rfl q245 rfl dX0_added_34 (v := au_r XN) (congrArg au_q (fx_XO_0 hF)) ?_
        refine au_getN (C := RX1) (T := TX1) (N := 11) in_X1 (by decide) rfl 0 (by decide) rfl rfl q187 rfl dX0_added_37 (v := au_r XNn) (congrArg au_q (fx_XN_0 hF)) ?_
        refine au_iconst dX0_added_40 rfl rfl ?_
        refine au_iald dX0_added_41 rfl (by omega) (by show _ < ((6 : Nat) : Int); omega) (v := au_i (an)) (congrArg au_i hAn) ?_
        refine au_bipush dX0_added_42 rfl rfl ?_
        refine au_icmp_ne (tgt := 50) dX0_added_44 (by decide) (fun c44 => ?_) (fun c44 => ?_)
        · refine au_aload_n dX0_added_50 rfl ?_
          refine au_getf (C := RX0) (T := TX0) (N := 15) in_X0 (by decide) rfl 0 (by decide) rfl rfl q245 rfl dX0_added_51 (v := au_r XN) (congrArg au_q (fx_XO_0 hF)) ?_
          refine au_getN (C := RX1) (T := TX1) (N := 11) in_X1 (by decide) rfl 8 (by decide) rfl rfl q203 rfl dX0_added_54 (v := au_r XNadded) (congrArg au_q (fx_XN_8 hF)) ?_
          refine au_aload_n dX0_added_57 rfl ?_
          refine au_getf (C := RX0) (T := TX0) (N := 15) in_X0 (by decide) rfl 0 (by decide) rfl rfl q245 rfl dX0_added_58 (v := au_r XN) (congrArg au_q (fx_XO_0 hF)) ?_
          refine au_getN (C := RX1) (T := TX1) (N := 11) in_X1 (by decide) rfl 0 (by decide) rfl rfl q187 rfl dX0_added_61 (v := au_r XNn) (congrArg au_q (fx_XN_0 hF)) ?_
          refine au_iconst dX0_added_64 rfl rfl ?_
          refine au_iald dX0_added_65 rfl (by omega) (by show _ < ((6 : Nat) : Int); omega) (v := au_i (an)) (congrArg au_i hAn) ?_
          refine au_aald dX0_added_66 (by decide) (by decide) (by omega) (by show _ < ((8 : Nat) : Int); omega) (v := au_r (1013 + an.toNat, 2, 40)) (congrArg au_q (fx_added hF (by omega) (by omega))) ?_
          refine au_iconst dX0_added_67 rfl rfl ?_
          refine au_iload_n dX0_added_68 rfl ?_
          refine au_iast dX0_added_69 rfl (by show 1000 ≤ _; omega) (by omega) (by show _ < ((2 : Nat) : Int); omega) (M' := ((au_up mi (1013 + an.toNat, 2, 40) 0 o), si, hi, sl, r, nx)) (au_wv_m (au_reg_lo (by omega) (by omega) _)) ?_
          refine au_aload_n dX0_added_70 rfl ?_
          refine au_getf (C := RX0) (T := TX0) (N := 15) in_X0 (by decide) rfl 0 (by decide) rfl rfl q245 rfl dX0_added_71 (v := au_r XN) (congrArg au_q (fx_XO_0 hF)) ?_
          refine au_getN (C := RX1) (T := TX1) (N := 11) in_X1 (by decide) rfl 8 (by decide) rfl rfl q203 rfl dX0_added_74 (v := au_r XNadded) (congrArg au_q (fx_XN_8 hF)) ?_
          refine au_aload_n dX0_added_77 rfl ?_
          refine au_getf (C := RX0) (T := TX0) (N := 15) in_X0 (by decide) rfl 0 (by decide) rfl rfl q245 rfl dX0_added_78 (v := au_r XN) (congrArg au_q (fx_XO_0 hF)) ?_
          refine au_getN (C := RX1) (T := TX1) (N := 11) in_X1 (by decide) rfl 0 (by decide) rfl rfl q187 rfl dX0_added_81 (v := au_r XNn) (congrArg au_q (fx_XN_0 hF)) ?_
          refine au_iconst dX0_added_84 rfl rfl ?_
          refine au_iald dX0_added_85 rfl (by omega) (by show _ < ((6 : Nat) : Int); omega) (v := au_i (an)) (congrArg au_i ((au_up_ne mi o (fun q => by have := congrArg Prod.fst q.1; simp at this; omega)).trans hAn)) ?_
          refine au_aald dX0_added_86 (by decide) (by decide) (by omega) (by show _ < ((8 : Nat) : Int); omega) (v := au_r (1013 + an.toNat, 2, 40)) (congrArg au_q (fx_added hF (by omega) (by omega))) ?_
          refine au_iconst dX0_added_87 rfl rfl ?_
          refine au_iload_n dX0_added_88 rfl ?_
          refine au_iast dX0_added_89 rfl (by show 1000 ≤ _; omega) (by omega) (by show _ < ((2 : Nat) : Int); omega) (M' := ((au_up (au_up mi (1013 + an.toNat, 2, 40) 0 o) (1013 + an.toNat, 2, 40) 1 b), si, hi, sl, r, nx)) (au_wv_m (au_reg_lo (by omega) (by omega) _)) ?_
          refine au_aload_n dX0_added_90 rfl ?_
          refine au_getf (C := RX0) (T := TX0) (N := 15) in_X0 (by decide) rfl 0 (by decide) rfl rfl q245 rfl dX0_added_91 (v := au_r XN) (congrArg au_q (fx_XO_0 hF)) ?_
          refine au_getN (C := RX1) (T := TX1) (N := 11) in_X1 (by decide) rfl 0 (by decide) rfl rfl q187 rfl dX0_added_94 (v := au_r XNn) (congrArg au_q (fx_XN_0 hF)) ?_
          refine au_iconst dX0_added_97 rfl rfl ?_
          refine au_dup2 dX0_added_98 rfl rfl ?_
          refine au_iald dX0_added_99 rfl (by omega) (by show _ < ((6 : Nat) : Int); omega) (v := au_i (an)) (congrArg au_i ((au_up_ne _ b (fun q => by have := congrArg Prod.fst q.1; simp at this; omega)).trans ((au_up_ne mi o (fun q => by have := congrArg Prod.fst q.1; simp at this; omega)).trans hAn))) ?_
          refine au_iconst dX0_added_100 rfl rfl ?_
          refine au_iadd dX0_added_101 (by omega) (by omega) ?_
          refine au_iast dX0_added_102 rfl (by decide) (by omega) (by show _ < ((6 : Nat) : Int); omega) (M' := ((au_up (au_up (au_up mi (1013 + an.toNat, 2, 40) 0 o) (1013 + an.toNat, 2, 40) 1 b) XNn 5 (an + 1)), si, hi, sl, r, nx)) (by rfl) ?_
          refine au_aload_n dX0_added_103 rfl ?_
          refine au_getf (C := RX0) (T := TX0) (N := 15) in_X0 (by decide) rfl 0 (by decide) rfl rfl q245 rfl dX0_added_104 (v := au_r XN) (congrArg au_q (fx_XO_0 hF)) ?_
          refine au_getN (C := RX1) (T := TX1) (N := 11) in_X1 (by decide) rfl 0 (by decide) rfl rfl q187 rfl dX0_added_107 (v := au_r XNn) (congrArg au_q (fx_XN_0 hF)) ?_
          refine au_iconst dX0_added_110 rfl rfl ?_
          refine au_iald dX0_added_111 rfl (by omega) (by show _ < ((6 : Nat) : Int); omega) (v := au_i (an + 1)) (rfl) ?_
          refine au_iret dX0_added_112 rfl rfl (Nat.le_of_ble_eq_true rfl) (Nat.le_of_ble_eq_true rfl) ?_
          first
          | exact Or.inl ⟨by omega, rfl, rfl⟩
          | exact Or.inr (Or.inr ⟨by omega, by omega, rfl, rfl⟩)
          | exact Or.inr (Or.inl ⟨by omega, rfl, rfl⟩)
        · refine au_bipush dX0_added_47 rfl rfl ?_
          refine au_iret dX0_added_49 rfl rfl (Nat.le_of_ble_eq_true rfl) (Nat.le_of_ble_eq_true rfl) ?_
          first
          | exact Or.inl ⟨by omega, rfl, rfl⟩
          | exact Or.inr (Or.inr ⟨by omega, by omega, rfl, rfl⟩)
          | exact Or.inr (Or.inl ⟨by omega, rfl, rfl⟩)
  · refine au_aload_n dX0_added_5 rfl ?_
    refine au_getf (C := RX0) (T := TX0) (N := 15) in_X0 (by decide) rfl 0 (by decide) rfl rfl q245 rfl dX0_added_6 (v := au_r XN) (congrArg au_q (fx_XO_0 hF)) ?_
    refine au_iconst dX0_added_9 rfl rfl ?_
    refine au_callV (n := 1) (kX1_clears G 5 mi si hi sl r nx hF (by decide) (by decide)) (lw_V q1220 q1221 q1222 q131 q1223) rfl (by decide +kernel) (by decide) (T := TX1) (N := 11) rfl rfl rfl rfl (Nat.le_of_ble_eq_true rfl) (Nat.le_of_ble_eq_true rfl) (Nat.le_of_ble_eq_true rfl) (Nat.le_of_ble_eq_true rfl) (Nat.le_of_ble_eq_true rfl) dX0_added_10 (fun rv_ M_ hp_ => ?_)
    obtain ⟨rfl, rfl⟩ := hp_
    show au_Go G _ _ 13 [some (au_r XO), some (au_i o), some (au_i b)] [au_i 0] ((au_up mi XNn 5 0), si, hi, sl, r, nx) 0 0
    refine au_iret dX0_added_13 rfl rfl (Nat.le_of_ble_eq_true rfl) (Nat.le_of_ble_eq_true rfl) ?_
    first
    | exact Or.inl ⟨by omega, rfl, rfl⟩
    | exact Or.inr (Or.inr ⟨by omega, by omega, rfl, rfl⟩)
    | exact Or.inr (Or.inl ⟨by omega, rfl, rfl⟩)
theorem kX2_pile (G : au_G) (z : Int) (mi si hi sl : au_A → Int → Int) (r : au_A → Int → Option au_A) (nx : Nat) (hF : Fix r) (pn : Int) (hPn : mi MA 4 = pn) (hpn : 0 ≤ pn ∧ pn ≤ 8) : au_Ctr G yX2_pile cX2_pile 2 (some .int) 1 0 0 [au_r MO, au_i z] (mi, si, hi, sl, r, nx) (fun rv M' => (z = -1 ∧ rv = some (au_i 0) ∧ M' = (au_up mi MA 4 0, si, hi, sl, r, nx)) ∨ ((1 ≤ z ∧ z ≤ 999 ∧ pn < 8) ∧ rv = some (au_i (pn + 1)) ∧ M' = (au_up (au_up mi MA (120 + pn) z) MA 4 (pn + 1), si, hi, sl, r, nx)) ∨ (¬ z = -1 ∧ ¬ (1 ≤ z ∧ z ≤ 999 ∧ pn < 8) ∧ rv = some (au_i (-2)) ∧ M' = (mi, si, hi, sl, r, nx))) := by
  refine au_of (by decide) (Nat.le_of_ble_eq_true rfl) ?_
  show au_Go G _ _ 0 [some (au_r MO), some (au_i z)] [] (mi, si, hi, sl, r, nx) 0 0
  refine au_iload_n dX2_pile_0 rfl ?_
  refine au_iconst dX2_pile_1 rfl rfl ?_
  refine au_icmp_ne (tgt := 14) dX2_pile_2 (by decide) (fun c2 => ?_) (fun c2 => ?_)
  · refine au_iload_n dX2_pile_14 rfl ?_
    refine au_iconst dX2_pile_15 rfl rfl ?_
    refine au_sipush dX2_pile_16 rfl rfl ?_
    refine au_callSp (n := 3) (kX2_isIn G z 1 999 (mi, si, hi, sl, r, nx)) (lw_S q1475 q1476 q134 q1477) (by decide +kernel) rfl rfl rfl (Nat.le_of_ble_eq_true rfl) (Nat.le_of_ble_eq_true rfl) (Nat.le_of_ble_eq_true rfl) (Nat.le_of_ble_eq_true rfl) (Nat.le_of_ble_eq_true rfl) dX2_pile_19 ?_
    refine au_if_eq (tgt := 36) dX2_pile_22 (by decide) (fun c22 => ?_) (fun c22 => ?_)
    · have c22 := au_b0 c22
      refine au_bipush dX2_pile_36 rfl rfl ?_
      refine au_iret dX2_pile_38 rfl rfl (Nat.le_of_ble_eq_true rfl) (Nat.le_of_ble_eq_true rfl) ?_
      first
      | exact Or.inl ⟨by omega, rfl, rfl⟩
      | exact Or.inr (Or.inr ⟨by omega, by omega, rfl, rfl⟩)
      | exact Or.inr (Or.inl ⟨by omega, rfl, rfl⟩)
    · have c22 := au_b1 c22
      refine au_aload_n dX2_pile_25 rfl ?_
      refine au_getf (C := RX2) (T := TX2) (N := 35) in_X2 (by decide) rfl 0 (by decide) rfl rfl q1359 rfl dX2_pile_26 (v := au_r MA) (congrArg au_q (fx_MO_0 hF)) ?_
      refine au_iconst dX2_pile_29 rfl rfl ?_
      refine au_iald dX2_pile_30 rfl (by omega) (by show _ < ((4544 : Nat) : Int); omega) (v := au_i (pn)) (congrArg au_i (hPn)) ?_
      refine au_bipush dX2_pile_31 rfl rfl ?_
      refine au_icmp_ne (tgt := 39) dX2_pile_33 (by decide) (fun c33 => ?_) (fun c33 => ?_)
      · refine au_aload_n dX2_pile_39 rfl ?_
        refine au_getf (C := RX2) (T := TX2) (N := 35) in_X2 (by decide) rfl 0 (by decide) rfl rfl q1359 rfl dX2_pile_40 (v := au_r MA) (congrArg au_q (fx_MO_0 hF)) ?_
        refine au_bipush dX2_pile_43 rfl rfl ?_
        refine au_aload_n dX2_pile_45 rfl ?_
        refine au_getf (C := RX2) (T := TX2) (N := 35) in_X2 (by decide) rfl 0 (by decide) rfl rfl q1359 rfl dX2_pile_46 (v := au_r MA) (congrArg au_q (fx_MO_0 hF)) ?_
        refine au_iconst dX2_pile_49 rfl rfl ?_
        refine au_iald dX2_pile_50 rfl (by omega) (by show _ < ((4544 : Nat) : Int); omega) (v := au_i (pn)) (congrArg au_i (hPn)) ?_
        refine au_iadd dX2_pile_51 (by omega) (by omega) ?_
        refine au_iload_n dX2_pile_52 rfl ?_
        refine au_iast dX2_pile_53 rfl (by decide) (by omega) (by show _ < ((4544 : Nat) : Int); omega) (M' := ((au_up mi MA (120 + pn) z), si, hi, sl, r, nx)) (by rfl) ?_
        refine au_aload_n dX2_pile_54 rfl ?_
        refine au_getf (C := RX2) (T := TX2) (N := 35) in_X2 (by decide) rfl 0 (by decide) rfl rfl q1359 rfl dX2_pile_55 (v := au_r MA) (congrArg au_q (fx_MO_0 hF)) ?_
        refine au_iconst dX2_pile_58 rfl rfl ?_
        refine au_dup2 dX2_pile_59 rfl rfl ?_
        refine au_iald dX2_pile_60 rfl (by omega) (by show _ < ((4544 : Nat) : Int); omega) (v := au_i (pn)) (congrArg au_i ((au_up_ne mi z (fun q => by have := q.2; omega)).trans hPn)) ?_
        refine au_iconst dX2_pile_61 rfl rfl ?_
        refine au_iadd dX2_pile_62 (by omega) (by omega) ?_
        refine au_iast dX2_pile_63 rfl (by decide) (by omega) (by show _ < ((4544 : Nat) : Int); omega) (M' := ((au_up (au_up mi MA (120 + pn) z) MA 4 (pn + 1)), si, hi, sl, r, nx)) (by rfl) ?_
        refine au_aload_n dX2_pile_64 rfl ?_
        refine au_getf (C := RX2) (T := TX2) (N := 35) in_X2 (by decide) rfl 0 (by decide) rfl rfl q1359 rfl dX2_pile_65 (v := au_r MA) (congrArg au_q (fx_MO_0 hF)) ?_
        refine au_iconst dX2_pile_68 rfl rfl ?_
        refine au_iald dX2_pile_69 rfl (by omega) (by show _ < ((4544 : Nat) : Int); omega) (v := au_i (pn + 1)) (rfl) ?_
        refine au_iret dX2_pile_70 rfl rfl (Nat.le_of_ble_eq_true rfl) (Nat.le_of_ble_eq_true rfl) ?_
        first
        | exact Or.inl ⟨by omega, rfl, rfl⟩
        | exact Or.inr (Or.inr ⟨by omega, by omega, rfl, rfl⟩)
        | exact Or.inr (Or.inl ⟨by omega, rfl, rfl⟩)
      · refine au_bipush dX2_pile_36 rfl rfl ?_
        refine au_iret dX2_pile_38 rfl rfl (Nat.le_of_ble_eq_true rfl) (Nat.le_of_ble_eq_true rfl) ?_
        first
        | exact Or.inl ⟨by omega, rfl, rfl⟩
        | exact Or.inr (Or.inr ⟨by omega, by omega, rfl, rfl⟩)
        | exact Or.inr (Or.inl ⟨by omega, rfl, rfl⟩)
  · refine au_aload_n dX2_pile_5 rfl ?_
    refine au_getf (C := RX2) (T := TX2) (N := 35) in_X2 (by decide) rfl 0 (by decide) rfl rfl q1359 rfl dX2_pile_6 (v := au_r MA) (congrArg au_q (fx_MO_0 hF)) ?_
    refine au_iconst dX2_pile_9 rfl rfl ?_
    refine au_iconst dX2_pile_10 rfl rfl ?_
    refine au_iast dX2_pile_11 rfl (by decide) (by omega) (by show _ < ((4544 : Nat) : Int); omega) (M' := ((au_up mi MA 4 0), si, hi, sl, r, nx)) (by rfl) ?_
    refine au_iconst dX2_pile_12 rfl rfl ?_
    refine au_iret dX2_pile_13 rfl rfl (Nat.le_of_ble_eq_true rfl) (Nat.le_of_ble_eq_true rfl) ?_
    first
    | exact Or.inl ⟨by omega, rfl, rfl⟩
    | exact Or.inr (Or.inr ⟨by omega, by omega, rfl, rfl⟩)
    | exact Or.inr (Or.inl ⟨by omega, rfl, rfl⟩)
theorem kX2_by (G : au_G) (t : Int) (mi si hi sl : au_A → Int → Int) (r : au_A → Int → Option au_A) (nx : Nat) (hF : Fix r) (tn : Int) (hTn : mi MA 1 = tn) (htn : 0 ≤ tn ∧ tn ≤ 4) : au_Ctr G yX2_by cX2_by 2 (some .boolean) 2 0 0 [au_r MO, au_i t] (mi, si, hi, sl, r, nx) (fun rv M' => ((-1 ≤ t ∧ t < tn) ∧ rv = some (au_i 1) ∧ M' = (au_up mi MA 2 t, si, hi, sl, r, nx)) ∨ (¬ (-1 ≤ t ∧ t < tn) ∧ rv = some (au_i 0) ∧ M' = (mi, si, hi, sl, r, nx))) := by
  refine au_of (by decide) (Nat.le_of_ble_eq_true rfl) ?_
  show au_Go G _ _ 0 [some (au_r MO), some (au_i t)] [] (mi, si, hi, sl, r, nx) 0 0
  refine au_iload_n dX2_by_0 rfl ?_
  refine au_iconst dX2_by_1 rfl rfl ?_
  refine au_aload_n dX2_by_2 rfl ?_
  refine au_getf (C := RX2) (T := TX2) (N := 35) in_X2 (by decide) rfl 0 (by decide) rfl rfl q1359 rfl dX2_by_3 (v := au_r MA) (congrArg au_q (fx_MO_0 hF)) ?_
  refine au_iconst dX2_by_6 rfl rfl ?_
  refine au_iald dX2_by_7 rfl (by omega) (by show _ < ((4544 : Nat) : Int); omega) (v := au_i (tn)) (congrArg au_i hTn) ?_
  refine au_iconst dX2_by_8 rfl rfl ?_
  refine au_isub dX2_by_9 (by omega) (by omega) ?_
  refine au_callSp (n := 3) (kX2_isIn G t (-1) (tn - 1) (mi, si, hi, sl, r, nx)) (lw_S q1475 q1476 q134 q1477) (by decide +kernel) rfl rfl rfl (Nat.le_of_ble_eq_true rfl) (Nat.le_of_ble_eq_true rfl) (Nat.le_of_ble_eq_true rfl) (Nat.le_of_ble_eq_true rfl) (Nat.le_of_ble_eq_true rfl) dX2_by_10 ?_
  refine au_if_ne (tgt := 18) dX2_by_13 (by decide) (fun c13 => ?_) (fun c13 => ?_)
  · have c13 := au_b1 c13
    refine au_aload_n dX2_by_18 rfl ?_
    refine au_getf (C := RX2) (T := TX2) (N := 35) in_X2 (by decide) rfl 0 (by decide) rfl rfl q1359 rfl dX2_by_19 (v := au_r MA) (congrArg au_q (fx_MO_0 hF)) ?_
    refine au_iconst dX2_by_22 rfl rfl ?_
    refine au_iload_n dX2_by_23 rfl ?_
    refine au_iast dX2_by_24 rfl (by decide) (by omega) (by show _ < ((4544 : Nat) : Int); omega) (M' := ((au_up mi MA 2 t), si, hi, sl, r, nx)) (by rfl) ?_
    refine au_iconst dX2_by_25 rfl rfl ?_
    exact au_zret dX2_by_26 rfl (Or.inr rfl) rfl (Nat.le_of_ble_eq_true rfl) (Nat.le_of_ble_eq_true rfl) (by first | exact Or.inl ⟨by omega, rfl, rfl⟩ | exact Or.inr ⟨by omega, rfl, rfl⟩)
  · have c13 := au_b0 c13
    refine au_iconst dX2_by_16 rfl rfl ?_
    exact au_zret dX2_by_17 rfl (Or.inl rfl) rfl (Nat.le_of_ble_eq_true rfl) (Nat.le_of_ble_eq_true rfl) (by first | exact Or.inl ⟨by omega, rfl, rfl⟩ | exact Or.inr ⟨by omega, rfl, rfl⟩)
theorem kX2_end (G : au_G) (t : Int) (mi si hi sl : au_A → Int → Int) (r : au_A → Int → Option au_A) (nx : Nat) (hF : Fix r) : au_Ctr G yX2_end cX2_end 2 (some .int) 1 0 0 [au_r MO, au_i t] (mi, si, hi, sl, r, nx) (fun rv M' => ((0 ≤ t ∧ t ≤ mi MO 4) ∧ rv = some (au_i t) ∧ M' = (au_up mi MO 4 t, si, hi, sl, r, nx)) ∨ (¬ (0 ≤ t ∧ t ≤ mi MO 4) ∧ rv = some (au_i (-1)) ∧ M' = (mi, si, hi, sl, r, nx))) := by
  refine au_of (by decide) (Nat.le_of_ble_eq_true rfl) ?_
  show au_Go G _ _ 0 [some (au_r MO), some (au_i t)] [] (mi, si, hi, sl, r, nx) 0 0
  refine au_iload_n dX2_end_0 rfl ?_
  refine au_iconst dX2_end_1 rfl rfl ?_
  refine au_aload_n dX2_end_2 rfl ?_
  refine au_getf (C := RX2) (T := TX2) (N := 35) in_X2 (by decide) rfl 4 (by decide) rfl rfl q1363 rfl dX2_end_3 (v := au_i (mi MO 4)) (by rfl) ?_
  refine au_callSp (n := 3) (kX2_isIn G t 0 (mi MO 4) (mi, si, hi, sl, r, nx)) (lw_S q1475 q1476 q134 q1477) (by decide +kernel) rfl rfl rfl (Nat.le_of_ble_eq_true rfl) (Nat.le_of_ble_eq_true rfl) (Nat.le_of_ble_eq_true rfl) (Nat.le_of_ble_eq_true rfl) (Nat.le_of_ble_eq_true rfl) dX2_end_6 ?_
  refine au_if_ne (tgt := 14) dX2_end_9 (by decide) (fun c9 => ?_) (fun c9 => ?_)
  · have c9 := au_b1 c9
    refine au_aload_n dX2_end_14 rfl ?_
    refine au_iload_n dX2_end_15 rfl ?_
    refine au_putf (a := MO) (C := RX2) (T := TX2) (N := 35) in_X2 tyX2_ok nmX2 (by decide) rfl 4 (by decide) rfl (by decide) rfl q1363 rfl rfl trivial (fun _ _ _ h => au_nf_i h) dX2_end_16 (M' := ((au_up mi MO 4 t), si, hi, sl, r, nx)) (by rfl) ?_
    refine au_iload_n dX2_end_19 rfl ?_
    exact au_iret dX2_end_20 rfl rfl (Nat.le_of_ble_eq_true rfl) (Nat.le_of_ble_eq_true rfl) (by first | exact Or.inl ⟨by omega, rfl, rfl⟩ | exact Or.inr ⟨by omega, rfl, rfl⟩)
  · have c9 := au_b0 c9
    refine au_iconst dX2_end_12 rfl rfl ?_
    exact au_iret dX2_end_13 rfl rfl (Nat.le_of_ble_eq_true rfl) (Nat.le_of_ble_eq_true rfl) (by first | exact Or.inl ⟨by omega, rfl, rfl⟩ | exact Or.inr ⟨by omega, rfl, rfl⟩)
theorem kX2_fault (G : au_G) (w : Int) (mi si hi sl : au_A → Int → Int) (r : au_A → Int → Option au_A) (nx : Nat) (hF : Fix r) : au_Ctr G yX2_fault cX2_fault 2 (some .int) 0 0 0 [au_r MO, au_i w] (mi, si, hi, sl, r, nx) (au_pure (au_i (if w = 0 then mi MO 5 else if w = 1 then mi MO 6 else -1)) (mi, si, hi, sl, r, nx)) := by
  refine au_of (by decide) (Nat.le_of_ble_eq_true rfl) ?_
  show au_Go G _ _ 0 [some (au_r MO), some (au_i w)] [] (mi, si, hi, sl, r, nx) 0 0
  refine au_iload_n dX2_fault_0 rfl ?_
  refine au_if_ne (tgt := 11) dX2_fault_1 (by decide) (fun c1 => ?_) (fun c1 => ?_)
  · refine au_iload_n dX2_fault_11 rfl ?_
    refine au_iconst dX2_fault_12 rfl rfl ?_
    refine au_icmp_ne (tgt := 23) dX2_fault_13 (by decide) (fun c13 => ?_) (fun c13 => ?_)
    · refine au_iconst dX2_fault_23 rfl rfl ?_
      exact au_iret dX2_fault_24 rfl rfl (Nat.le_of_ble_eq_true rfl) (Nat.le_of_ble_eq_true rfl) (by first | exact au_pe (by rw [if_pos (by omega)]) rfl | exact au_pe (by rw [if_neg (by omega), if_pos (by omega)]) rfl | exact au_pe (by rw [if_neg (by omega), if_neg (by omega)]) rfl)
    · refine au_aload_n dX2_fault_16 rfl ?_
      refine au_getf (C := RX2) (T := TX2) (N := 35) in_X2 (by decide) rfl 6 (by decide) rfl rfl q1365 rfl dX2_fault_17 (v := au_i (mi MO 6)) (by rfl) ?_
      refine au_goto (tgt := 24) dX2_fault_20 (by decide) ?_
      exact au_iret dX2_fault_24 rfl rfl (Nat.le_of_ble_eq_true rfl) (Nat.le_of_ble_eq_true rfl) (by first | exact au_pe (by rw [if_pos (by omega)]) rfl | exact au_pe (by rw [if_neg (by omega), if_pos (by omega)]) rfl | exact au_pe (by rw [if_neg (by omega), if_neg (by omega)]) rfl)
  · refine au_aload_n dX2_fault_4 rfl ?_
    refine au_getf (C := RX2) (T := TX2) (N := 35) in_X2 (by decide) rfl 5 (by decide) rfl rfl q1364 rfl dX2_fault_5 (v := au_i (mi MO 5)) (by rfl) ?_
    refine au_goto (tgt := 24) dX2_fault_8 (by decide) ?_
    exact au_iret dX2_fault_24 rfl rfl (Nat.le_of_ble_eq_true rfl) (Nat.le_of_ble_eq_true rfl) (by first | exact au_pe (by rw [if_pos (by omega)]) rfl | exact au_pe (by rw [if_neg (by omega), if_pos (by omega)]) rfl | exact au_pe (by rw [if_neg (by omega), if_neg (by omega)]) rfl)
theorem kX2_is (G : au_G) (w : Int) (mi si hi sl : au_A → Int → Int) (r : au_A → Int → Option au_A) (nx : Nat) (hF : Fix r) : au_Ctr G yX2_is cX2_is 2 (some .int) 1 0 0 [au_r MO, au_i w] (mi, si, hi, sl, r, nx) (au_pure (au_i (if 0 ≤ w ∧ w ≤ 2 then mi MA (6 + w) else -2)) (mi, si, hi, sl, r, nx)) := by
  refine au_of (by decide) (Nat.le_of_ble_eq_true rfl) ?_
  show au_Go G _ _ 0 [some (au_r MO), some (au_i w)] [] (mi, si, hi, sl, r, nx) 0 0
  refine au_iload_n dX2_is_0 rfl ?_
  refine au_iconst dX2_is_1 rfl rfl ?_
  refine au_iconst dX2_is_2 rfl rfl ?_
  refine au_callSp (n := 3) (kX2_isIn G w 0 2 (mi, si, hi, sl, r, nx)) (lw_S q1475 q1476 q134 q1477) (by decide +kernel) rfl rfl rfl (Nat.le_of_ble_eq_true rfl) (Nat.le_of_ble_eq_true rfl) (Nat.le_of_ble_eq_true rfl) (Nat.le_of_ble_eq_true rfl) (Nat.le_of_ble_eq_true rfl) dX2_is_3 ?_
  refine au_if_eq (tgt := 21) dX2_is_6 (by decide) (fun c6 => ?_) (fun c6 => ?_)
  · have c6 := au_b0 c6
    refine au_bipush dX2_is_21 rfl rfl ?_
    exact au_iret dX2_is_23 rfl rfl (Nat.le_of_ble_eq_true rfl) (Nat.le_of_ble_eq_true rfl) (by first | exact au_pe (by rw [if_pos (by omega)]) rfl | exact au_pe (by rw [if_neg (by omega)]) rfl)
  · have c6 := au_b1 c6
    refine au_aload_n dX2_is_9 rfl ?_
    refine au_getf (C := RX2) (T := TX2) (N := 35) in_X2 (by decide) rfl 0 (by decide) rfl rfl q1359 rfl dX2_is_10 (v := au_r MA) (congrArg au_q (fx_MO_0 hF)) ?_
    refine au_bipush dX2_is_13 rfl rfl ?_
    refine au_iload_n dX2_is_15 rfl ?_
    refine au_iadd dX2_is_16 (by omega) (by omega) ?_
    refine au_iald dX2_is_17 rfl (by omega) (by show _ < ((4544 : Nat) : Int); omega) (v := au_i (mi MA (6 + w))) (by rfl) ?_
    refine au_goto (tgt := 23) dX2_is_18 (by decide) ?_
    exact au_iret dX2_is_23 rfl rfl (Nat.le_of_ble_eq_true rfl) (Nat.le_of_ble_eq_true rfl) (by first | exact au_pe (by rw [if_pos (by omega)]) rfl | exact au_pe (by rw [if_neg (by omega)]) rfl)
theorem kX2_ofApology (G : au_G) (q w : Int) (mi si hi sl : au_A → Int → Int) (r : au_A → Int → Option au_A) (nx : Nat) (hF : Fix r) (sn : Int) (hSn : mi MA 8 = sn) (hs : 0 ≤ sn ∧ sn ≤ 10) (Ap : Int → Int → Int) (hAp : ∀ k w, 0 ≤ k → k < 10 → 0 ≤ w → w ≤ 6 → mi MA (20 + 7 * k + w) = Ap k w) : au_Ctr G yX2_ofApology cX2_ofApology 3 (some .int) 2 0 0 [au_r MO, au_i q, au_i w] (mi, si, hi, sl, r, nx) (au_pure (au_i (if (0 ≤ q ∧ q < sn) ∧ 0 ≤ w ∧ w ≤ 6 then Ap q w else -2)) (mi, si, hi, sl, r, nx)) := by
  refine au_of (by decide) (Nat.le_of_ble_eq_true rfl) ?_
  show au_Go G _ _ 0 [some (au_r MO), some (au_i q), some (au_i w)] [] (mi, si, hi, sl, r, nx) 0 0
  refine au_aload_n dX2_ofApology_0 rfl ?_
  refine au_iload_n dX2_ofApology_1 rfl ?_
  refine au_callVp (n := 1) (kX2_isApology G q mi si hi sl r nx hF sn hSn hs ) (lw_V q1690 q1692 qs92 q134 q1693) rfl (by decide +kernel) (by decide) (T := TX2) (N := 35) rfl rfl rfl rfl (Nat.le_of_ble_eq_true rfl) (Nat.le_of_ble_eq_true rfl) (Nat.le_of_ble_eq_true rfl) (Nat.le_of_ble_eq_true rfl) (Nat.le_of_ble_eq_true rfl) dX2_ofApology_2 ?_
  refine au_if_eq (tgt := 27) dX2_ofApology_5 (by decide) (fun c5 => ?_) (fun c5 => ?_)
  · have c5 := au_b0 c5
    refine au_bipush dX2_ofApology_27 rfl rfl ?_
    exact au_iret dX2_ofApology_29 rfl rfl (Nat.le_of_ble_eq_true rfl) (Nat.le_of_ble_eq_true rfl) (by first | exact au_pe (by rw [if_pos (by omega)]) rfl | exact au_pe (by rw [if_neg (by omega)]) rfl)
  · have c5 := au_b1 c5
    refine au_iload_n dX2_ofApology_8 rfl ?_
    refine au_iconst dX2_ofApology_9 rfl rfl ?_
    refine au_bipush dX2_ofApology_10 rfl rfl ?_
    refine au_callSp (n := 3) (kX2_isIn G w 0 6 (mi, si, hi, sl, r, nx)) (lw_S q1475 q1476 q134 q1477) (by decide +kernel) rfl rfl rfl (Nat.le_of_ble_eq_true rfl) (Nat.le_of_ble_eq_true rfl) (Nat.le_of_ble_eq_true rfl) (Nat.le_of_ble_eq_true rfl) (Nat.le_of_ble_eq_true rfl) dX2_ofApology_12 ?_
    refine au_if_eq (tgt := 27) dX2_ofApology_15 (by decide) (fun c15 => ?_) (fun c15 => ?_)
    · have c15 := au_b0 c15
      refine au_bipush dX2_ofApology_27 rfl rfl ?_
      exact au_iret dX2_ofApology_29 rfl rfl (Nat.le_of_ble_eq_true rfl) (Nat.le_of_ble_eq_true rfl) (by first | exact au_pe (by rw [if_pos (by omega)]) rfl | exact au_pe (by rw [if_neg (by omega)]) rfl)
    · have c15 := au_b1 c15
      refine au_aload_n dX2_ofApology_18 rfl ?_
      refine au_iload_n dX2_ofApology_19 rfl ?_
      refine au_iload_n dX2_ofApology_20 rfl ?_
      refine au_callVp (n := 2) (kX2_getA G q w mi si hi sl r nx hF Ap hAp (by omega) (by omega) (by omega) (by omega)) (lw_V q1694 q1696 qs93 q134 q1697) rfl (by decide +kernel) (by decide) (T := TX2) (N := 35) rfl rfl rfl rfl (Nat.le_of_ble_eq_true rfl) (Nat.le_of_ble_eq_true rfl) (Nat.le_of_ble_eq_true rfl) (Nat.le_of_ble_eq_true rfl) (Nat.le_of_ble_eq_true rfl) dX2_ofApology_21 ?_
      refine au_goto (tgt := 29) dX2_ofApology_24 (by decide) ?_
      exact au_iret dX2_ofApology_29 rfl rfl (Nat.le_of_ble_eq_true rfl) (Nat.le_of_ble_eq_true rfl) (by first | exact au_pe (by rw [if_pos (by omega)]) rfl | exact au_pe (by rw [if_neg (by omega)]) rfl)
theorem kX2_owes (G : au_G) (o q c : Int) (mi si hi sl : au_A → Int → Int) (r : au_A → Int → Option au_A) (nx : Nat) (hF : Fix r) : au_Ctr G yX2_owes cX2_owes 4 (some .boolean) 1 0 0 [au_r MO, au_i o, au_i q, au_i c] (mi, si, hi, sl, r, nx) (fun rv M' => ((0 ≤ o ∧ o ≤ 1 ∧ 0 ≤ q ∧ q ≤ 4 ∧ 0 ≤ c ∧ c ≤ 99) ∧ rv = some (au_i 1) ∧ M' = (au_up mi MA (138 + 5 * o + q) c, si, hi, sl, r, nx)) ∨ (¬ (0 ≤ o ∧ o ≤ 1 ∧ 0 ≤ q ∧ q ≤ 4 ∧ 0 ≤ c ∧ c ≤ 99) ∧ rv = some (au_i 0) ∧ M' = (mi, si, hi, sl, r, nx))) := by
  refine au_of (by decide) (Nat.le_of_ble_eq_true rfl) ?_
  show au_Go G _ _ 0 [some (au_r MO), some (au_i o), some (au_i q), some (au_i c)] [] (mi, si, hi, sl, r, nx) 0 0
  refine au_iload_n dX2_owes_0 rfl ?_
  refine au_iconst dX2_owes_1 rfl rfl ?_
  refine au_iconst dX2_owes_2 rfl rfl ?_
  refine au_callSp (n := 3) (kX2_isIn G o 0 1 (mi, si, hi, sl, r, nx)) (lw_S q1475 q1476 q134 q1477) (by decide +kernel) rfl rfl rfl (Nat.le_of_ble_eq_true rfl) (Nat.le_of_ble_eq_true rfl) (Nat.le_of_ble_eq_true rfl) (Nat.le_of_ble_eq_true rfl) (Nat.le_of_ble_eq_true rfl) dX2_owes_3 ?_
  refine au_if_eq (tgt := 28) dX2_owes_6 (by decide) (fun c6 => ?_) (fun c6 => ?_)
  · have c6 := au_b0 c6
    refine au_iconst dX2_owes_28 rfl rfl ?_
    exact au_zret dX2_owes_29 rfl (Or.inl rfl) rfl (Nat.le_of_ble_eq_true rfl) (Nat.le_of_ble_eq_true rfl) (by first | exact Or.inl ⟨by omega, rfl, rfl⟩ | exact Or.inr ⟨by omega, rfl, rfl⟩)
  · have c6 := au_b1 c6
    refine au_iload_n dX2_owes_9 rfl ?_
    refine au_iconst dX2_owes_10 rfl rfl ?_
    refine au_iconst dX2_owes_11 rfl rfl ?_
    refine au_callSp (n := 3) (kX2_isIn G q 0 4 (mi, si, hi, sl, r, nx)) (lw_S q1475 q1476 q134 q1477) (by decide +kernel) rfl rfl rfl (Nat.le_of_ble_eq_true rfl) (Nat.le_of_ble_eq_true rfl) (Nat.le_of_ble_eq_true rfl) (Nat.le_of_ble_eq_true rfl) (Nat.le_of_ble_eq_true rfl) dX2_owes_12 ?_
    refine au_if_eq (tgt := 28) dX2_owes_15 (by decide) (fun c15 => ?_) (fun c15 => ?_)
    · have c15 := au_b0 c15
      refine au_iconst dX2_owes_28 rfl rfl ?_
      exact au_zret dX2_owes_29 rfl (Or.inl rfl) rfl (Nat.le_of_ble_eq_true rfl) (Nat.le_of_ble_eq_true rfl) (by first | exact Or.inl ⟨by omega, rfl, rfl⟩ | exact Or.inr ⟨by omega, rfl, rfl⟩)
    · have c15 := au_b1 c15
      refine au_iload_n dX2_owes_18 rfl ?_
      refine au_iconst dX2_owes_19 rfl rfl ?_
      refine au_bipush dX2_owes_20 rfl rfl ?_
      refine au_callSp (n := 3) (kX2_isIn G c 0 99 (mi, si, hi, sl, r, nx)) (lw_S q1475 q1476 q134 q1477) (by decide +kernel) rfl rfl rfl (Nat.le_of_ble_eq_true rfl) (Nat.le_of_ble_eq_true rfl) (Nat.le_of_ble_eq_true rfl) (Nat.le_of_ble_eq_true rfl) (Nat.le_of_ble_eq_true rfl) dX2_owes_22 ?_
      refine au_if_ne (tgt := 30) dX2_owes_25 (by decide) (fun c25 => ?_) (fun c25 => ?_)
      · have c25 := au_b1 c25
        refine au_aload_n dX2_owes_30 rfl ?_
        refine au_getf (C := RX2) (T := TX2) (N := 35) in_X2 (by decide) rfl 0 (by decide) rfl rfl q1359 rfl dX2_owes_31 (v := au_r MA) (congrArg au_q (fx_MO_0 hF)) ?_
        refine au_sipush dX2_owes_34 rfl rfl ?_
        refine au_iconst dX2_owes_37 rfl rfl ?_
        refine au_iload_n dX2_owes_38 rfl ?_
        refine au_imul dX2_owes_39 (by omega) (by omega) ?_
        refine au_iadd dX2_owes_40 (by omega) (by omega) ?_
        refine au_iload_n dX2_owes_41 rfl ?_
        refine au_iadd dX2_owes_42 (by omega) (by omega) ?_
        refine au_iload_n dX2_owes_43 rfl ?_
        refine au_iast dX2_owes_44 rfl (by decide) (by omega) (by show _ < ((4544 : Nat) : Int); omega) (M' := ((au_up mi MA ((138 + (5 * o)) + q) c), si, hi, sl, r, nx)) (by rfl) ?_
        refine au_iconst dX2_owes_45 rfl rfl ?_
        exact au_zret dX2_owes_46 rfl (Or.inr rfl) rfl (Nat.le_of_ble_eq_true rfl) (Nat.le_of_ble_eq_true rfl) (by first | exact Or.inl ⟨by omega, rfl, rfl⟩ | exact Or.inr ⟨by omega, rfl, rfl⟩)
      · have c25 := au_b0 c25
        refine au_iconst dX2_owes_28 rfl rfl ?_
        exact au_zret dX2_owes_29 rfl (Or.inl rfl) rfl (Nat.le_of_ble_eq_true rfl) (Nat.le_of_ble_eq_true rfl) (by first | exact Or.inl ⟨by omega, rfl, rfl⟩ | exact Or.inr ⟨by omega, rfl, rfl⟩)
theorem kX2_added (G : au_G) (o b : Int) (mi si hi sl : au_A → Int → Int) (r : au_A → Int → Option au_A) (nx : Nat) (hF : Fix r) (n : Int) (hN : mi MA 0 = n) (hn : 0 ≤ n ∧ n ≤ 10) (an : Int) (hAn : mi MA 5 = an) (han : 0 ≤ an ∧ an ≤ 8) : au_Ctr G yX2_added cX2_added 3 (some .int) 2 0 0 [au_r MO, au_i o, au_i b] (mi, si, hi, sl, r, nx) (fun rv M' => (o = -1 ∧ rv = some (au_i 0) ∧ M' = (au_up mi MA 5 0, si, hi, sl, r, nx)) ∨ (((0 ≤ o ∧ o < n) ∧ 0 ≤ b ∧ b ≤ 999 ∧ an < 8) ∧ rv = some (au_i (an + 1)) ∧ M' = (au_up (au_up (au_up mi MA (148 + 2 * an) o) MA (148 + 2 * an + 1) b) MA 5 (an + 1), si, hi, sl, r, nx)) ∨ (¬ o = -1 ∧ ¬ ((0 ≤ o ∧ o < n) ∧ 0 ≤ b ∧ b ≤ 999 ∧ an < 8) ∧ rv = some (au_i (-2)) ∧ M' = (mi, si, hi, sl, r, nx))) := by
  refine au_of (by decide) (Nat.le_of_ble_eq_true rfl) ?_
  show au_Go G _ _ 0 [some (au_r MO), some (au_i o), some (au_i b)] [] (mi, si, hi, sl, r, nx) 0 0
  refine au_iload_n dX2_added_0 rfl ?_
  refine au_iconst dX2_added_1 rfl rfl ?_
  refine au_icmp_ne (tgt := 14) dX2_added_2 (by decide) (fun c2 => ?_) (fun c2 => ?_)
  · refine au_aload_n dX2_added_14 rfl ?_
    refine au_iload_n dX2_added_15 rfl ?_
    refine au_callVp (n := 1) (kX2_isOfficer G o mi si hi sl r nx hF n hN hn ) (lw_V q1471 q1473 qs56 q134 q1474) rfl (by decide +kernel) (by decide) (T := TX2) (N := 35) rfl rfl rfl rfl (Nat.le_of_ble_eq_true rfl) (Nat.le_of_ble_eq_true rfl) (Nat.le_of_ble_eq_true rfl) (Nat.le_of_ble_eq_true rfl) (Nat.le_of_ble_eq_true rfl) dX2_added_16 ?_
    refine au_if_eq (tgt := 44) dX2_added_19 (by decide) (fun c19 => ?_) (fun c19 => ?_)
    · have c19 := au_b0 c19
      refine au_bipush dX2_added_44 rfl rfl ?_
      refine au_iret dX2_added_46 rfl rfl (Nat.le_of_ble_eq_true rfl) (Nat.le_of_ble_eq_true rfl) ?_
      first
      | exact Or.inl ⟨by omega, rfl, rfl⟩
      | exact Or.inr (Or.inr ⟨by omega, by omega, rfl, rfl⟩)
      | exact Or.inr (Or.inl ⟨by omega, rfl, rfl⟩)
    · have c19 := au_b1 c19
      refine au_iload_n dX2_added_22 rfl ?_
      refine au_iconst dX2_added_23 rfl rfl ?_
      refine au_sipush dX2_added_24 rfl rfl ?_
      refine au_callSp (n := 3) (kX2_isIn G b 0 999 (mi, si, hi, sl, r, nx)) (lw_S q1475 q1476 q134 q1477) (by decide +kernel) rfl rfl rfl (Nat.le_of_ble_eq_true rfl) (Nat.le_of_ble_eq_true rfl) (Nat.le_of_ble_eq_true rfl) (Nat.le_of_ble_eq_true rfl) (Nat.le_of_ble_eq_true rfl) dX2_added_27 ?_
      refine au_if_eq (tgt := 44) dX2_added_30 (by decide) (fun c30 => ?_) (fun c30 => ?_)
      · have c30 := au_b0 c30
        refine au_bipush dX2_added_44 rfl rfl ?_
        refine au_iret dX2_added_46 rfl rfl (Nat.le_of_ble_eq_true rfl) (Nat.le_of_ble_eq_true rfl) ?_
        first
        | exact Or.inl ⟨by omega, rfl, rfl⟩
        | exact Or.inr (Or.inr ⟨by omega, by omega, rfl, rfl⟩)
        | exact Or.inr (Or.inl ⟨by omega, rfl, rfl⟩)
      · have c30 := au_b1 c30
        refine au_aload_n dX2_added_33 rfl ?_
        refine au_getf (C := RX2) (T := TX2) (N := 35) in_X2 (by decide) rfl 0 (by decide) rfl rfl q1359 rfl dX2_added_34 (v := au_r MA) (congrArg au_q (fx_MO_0 hF)) ?_
        refine au_iconst dX2_added_37 rfl rfl ?_
        refine au_iald dX2_added_38 rfl (by omega) (by show _ < ((4544 : Nat) : Int); omega) (v := au_i (an)) (congrArg au_i hAn) ?_
        refine au_bipush dX2_added_39 rfl rfl ?_
        refine au_icmp_ne (tgt := 47) dX2_added_41 (by decide) (fun c41 => ?_) (fun c41 => ?_)
        · refine au_aload_n dX2_added_47 rfl ?_
          refine au_getf (C := RX2) (T := TX2) (N := 35) in_X2 (by decide) rfl 0 (by decide) rfl rfl q1359 rfl dX2_added_48 (v := au_r MA) (congrArg au_q (fx_MO_0 hF)) ?_
          refine au_sipush dX2_added_51 rfl rfl ?_
          refine au_iconst dX2_added_54 rfl rfl ?_
          refine au_aload_n dX2_added_55 rfl ?_
          refine au_getf (C := RX2) (T := TX2) (N := 35) in_X2 (by decide) rfl 0 (by decide) rfl rfl q1359 rfl dX2_added_56 (v := au_r MA) (congrArg au_q (fx_MO_0 hF)) ?_
          refine au_iconst dX2_added_59 rfl rfl ?_
          refine au_iald dX2_added_60 rfl (by omega) (by show _ < ((4544 : Nat) : Int); omega) (v := au_i (an)) (congrArg au_i hAn) ?_
          refine au_imul dX2_added_61 (by omega) (by omega) ?_
          refine au_iadd dX2_added_62 (by omega) (by omega) ?_
          refine au_iload_n dX2_added_63 rfl ?_
          refine au_iast dX2_added_64 rfl (by decide) (by omega) (by show _ < ((4544 : Nat) : Int); omega) (M' := ((au_up mi MA (148 + (2 * an)) o), si, hi, sl, r, nx)) (by rfl) ?_
          refine au_aload_n dX2_added_65 rfl ?_
          refine au_getf (C := RX2) (T := TX2) (N := 35) in_X2 (by decide) rfl 0 (by decide) rfl rfl q1359 rfl dX2_added_66 (v := au_r MA) (congrArg au_q (fx_MO_0 hF)) ?_
          refine au_sipush dX2_added_69 rfl rfl ?_
          refine au_iconst dX2_added_72 rfl rfl ?_
          refine au_aload_n dX2_added_73 rfl ?_
          refine au_getf (C := RX2) (T := TX2) (N := 35) in_X2 (by decide) rfl 0 (by decide) rfl rfl q1359 rfl dX2_added_74 (v := au_r MA) (congrArg au_q (fx_MO_0 hF)) ?_
          refine au_iconst dX2_added_77 rfl rfl ?_
          refine au_iald dX2_added_78 rfl (by omega) (by show _ < ((4544 : Nat) : Int); omega) (v := au_i (an)) (congrArg au_i ((au_up_ne mi o (fun q => by have := q.2; omega)).trans hAn)) ?_
          refine au_imul dX2_added_79 (by omega) (by omega) ?_
          refine au_iadd dX2_added_80 (by omega) (by omega) ?_
          refine au_iconst dX2_added_81 rfl rfl ?_
          refine au_iadd dX2_added_82 (by omega) (by omega) ?_
          refine au_iload_n dX2_added_83 rfl ?_
          refine au_iast dX2_added_84 rfl (by decide) (by omega) (by show _ < ((4544 : Nat) : Int); omega) (M' := ((au_up (au_up mi MA (148 + (2 * an)) o) MA ((148 + (2 * an)) + 1) b), si, hi, sl, r, nx)) (by rfl) ?_
          refine au_aload_n dX2_added_85 rfl ?_
          refine au_getf (C := RX2) (T := TX2) (N := 35) in_X2 (by decide) rfl 0 (by decide) rfl rfl q1359 rfl dX2_added_86 (v := au_r MA) (congrArg au_q (fx_MO_0 hF)) ?_
          refine au_iconst dX2_added_89 rfl rfl ?_
          refine au_dup2 dX2_added_90 rfl rfl ?_
          refine au_iald dX2_added_91 rfl (by omega) (by show _ < ((4544 : Nat) : Int); omega) (v := au_i (an)) (congrArg au_i ((au_up_ne _ b (fun q => by have := q.2; omega)).trans ((au_up_ne mi o (fun q => by have := q.2; omega)).trans hAn))) ?_
          refine au_iconst dX2_added_92 rfl rfl ?_
          refine au_iadd dX2_added_93 (by omega) (by omega) ?_
          refine au_iast dX2_added_94 rfl (by decide) (by omega) (by show _ < ((4544 : Nat) : Int); omega) (M' := ((au_up (au_up (au_up mi MA (148 + (2 * an)) o) MA ((148 + (2 * an)) + 1) b) MA 5 (an + 1)), si, hi, sl, r, nx)) (by rfl) ?_
          refine au_aload_n dX2_added_95 rfl ?_
          refine au_getf (C := RX2) (T := TX2) (N := 35) in_X2 (by decide) rfl 0 (by decide) rfl rfl q1359 rfl dX2_added_96 (v := au_r MA) (congrArg au_q (fx_MO_0 hF)) ?_
          refine au_iconst dX2_added_99 rfl rfl ?_
          refine au_iald dX2_added_100 rfl (by omega) (by show _ < ((4544 : Nat) : Int); omega) (v := au_i (an + 1)) (rfl) ?_
          refine au_iret dX2_added_101 rfl rfl (Nat.le_of_ble_eq_true rfl) (Nat.le_of_ble_eq_true rfl) ?_
          first
          | exact Or.inl ⟨by omega, rfl, rfl⟩
          | exact Or.inr (Or.inr ⟨by omega, by omega, rfl, rfl⟩)
          | exact Or.inr (Or.inl ⟨by omega, rfl, rfl⟩)
        · refine au_bipush dX2_added_44 rfl rfl ?_
          refine au_iret dX2_added_46 rfl rfl (Nat.le_of_ble_eq_true rfl) (Nat.le_of_ble_eq_true rfl) ?_
          first
          | exact Or.inl ⟨by omega, rfl, rfl⟩
          | exact Or.inr (Or.inr ⟨by omega, by omega, rfl, rfl⟩)
          | exact Or.inr (Or.inl ⟨by omega, rfl, rfl⟩)
  · refine au_aload_n dX2_added_5 rfl ?_
    refine au_getf (C := RX2) (T := TX2) (N := 35) in_X2 (by decide) rfl 0 (by decide) rfl rfl q1359 rfl dX2_added_6 (v := au_r MA) (congrArg au_q (fx_MO_0 hF)) ?_
    refine au_iconst dX2_added_9 rfl rfl ?_
    refine au_iconst dX2_added_10 rfl rfl ?_
    refine au_iast dX2_added_11 rfl (by decide) (by omega) (by show _ < ((4544 : Nat) : Int); omega) (M' := ((au_up mi MA 5 0), si, hi, sl, r, nx)) (by rfl) ?_
    refine au_iconst dX2_added_12 rfl rfl ?_
    refine au_iret dX2_added_13 rfl rfl (Nat.le_of_ble_eq_true rfl) (Nat.le_of_ble_eq_true rfl) ?_
    first
    | exact Or.inl ⟨by omega, rfl, rfl⟩
    | exact Or.inr (Or.inr ⟨by omega, by omega, rfl, rfl⟩)
    | exact Or.inr (Or.inl ⟨by omega, rfl, rfl⟩)
