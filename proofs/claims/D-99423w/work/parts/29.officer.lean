/-! OFFICERS, cousins, a play, of both systems (printed by tools/m29.py) -/
set_option maxRecDepth 100000
set_option maxHeartbeats 4000000

/-- a play from its end: what the one pays, what the other, who bows -/
def plyF (Tc : Int → Int → Int) (o : Int) : Int → Int → Nat → Int × Int × Int
  | f, s, 0 => (f, s, -1)
  | f, s, j + 1 =>
    let w := plyF Tc o f s j
    let t : Int := 8 - (j : Int)
    if t % 2 = 0 then (if w.1 < Tc o (t / 2) then w else (Tc o (t / 2), 0, o))
    else (if w.2.1 < Tc (1 - o) (t / 2) then w else (0, Tc (1 - o) (t / 2), 1 - o))

theorem kX0_officer (G : au_G) (b q : Int) (mi si hi sl : au_A → Int → Int) (r : au_A → Int → Option au_A) (nx : Nat) (hF : Fix r) (n : Int) (hN : mi XNn 0 = n) (hn : 0 ≤ n ∧ n ≤ 10) : au_Ctr G yX0_officer cX0_officer 4 (some .int) 2 0 0 [au_r XO, au_i b, au_i q] (mi, si, hi, sl, r, nx) (fun rv M' => ((((n = 0 ∧ b = -1) ∨ (¬ n = 0 ∧ 0 ≤ b ∧ b < n)) ∧ (0 ≤ q ∧ q ≤ 9) ∧ n < 10) ∧ rv = some (au_i n) ∧ M' = (au_up (au_up (au_up mi XNboss n b) XNpride n q) XNn 0 (n + 1), si, hi, sl, r, nx)) ∨ (¬ (((n = 0 ∧ b = -1) ∨ (¬ n = 0 ∧ 0 ≤ b ∧ b < n)) ∧ (0 ≤ q ∧ q ≤ 9) ∧ n < 10) ∧ rv = some (au_i (-1)) ∧ M' = (mi, si, hi, sl, r, nx))) := by
  refine au_of (by decide) (Nat.le_of_ble_eq_true rfl) ?_
  show au_Go G _ _ 0 [some (au_r XO), some (au_i b), some (au_i q), none] [] (mi, si, hi, sl, r, nx) 0 0
  refine au_aload_n dX0_officer_0 rfl ?_
  refine au_getf (C := RX0) (T := TX0) (N := 15) in_X0 (by decide) rfl 0 (by decide) rfl rfl q245 rfl dX0_officer_1 (v := au_r XN) (congrArg au_q (fx_XO_0 hF)) ?_
  refine au_getN (C := RX1) (T := TX1) (N := 11) in_X1 (by decide) rfl 0 (by decide) rfl rfl q187 rfl dX0_officer_4 (v := au_r XNn) (congrArg au_q (fx_XN_0 hF)) ?_
  refine au_iconst dX0_officer_7 rfl rfl ?_
  refine au_iald dX0_officer_8 rfl (by omega) (by show _ < ((6 : Nat) : Int); omega) (v := au_i (n)) (congrArg au_i (hN)) ?_
  refine au_istore_n dX0_officer_9 (show 3 < 4 by decide) ?_
  show au_Go G _ _ 10 [some (au_r XO), some (au_i b), some (au_i q), some (au_i n)] [] (mi, si, hi, sl, r, nx) 0 0
  refine au_iload_n dX0_officer_10 rfl ?_
  refine au_if_ne (tgt := 22) dX0_officer_11 (by decide) (fun c11 => ?_) (fun c11 => ?_)
  · refine au_aload_n dX0_officer_22 rfl ?_
    refine au_iload_n dX0_officer_23 rfl ?_
    refine au_callVp (n := 1) (kX0_isOfficer G b mi si hi sl r nx hF n hN hn ) (lw_V q296 q298 qs0 q130 q299) rfl (by decide +kernel) (by decide) (T := TX0) (N := 15) rfl rfl rfl rfl (Nat.le_of_ble_eq_true rfl) (Nat.le_of_ble_eq_true rfl) (Nat.le_of_ble_eq_true rfl) (Nat.le_of_ble_eq_true rfl) (Nat.le_of_ble_eq_true rfl) dX0_officer_24 ?_
    refine au_if_eq (tgt := 46) dX0_officer_27 (by decide) (fun c27 => ?_) (fun c27 => ?_)
    · have c27 := au_b0 c27
      refine au_iconst dX0_officer_46 rfl rfl ?_
      exact au_iret dX0_officer_47 rfl rfl (Nat.le_of_ble_eq_true rfl) (Nat.le_of_ble_eq_true rfl) (by first | exact Or.inl ⟨by omega, rfl, rfl⟩ | exact Or.inr ⟨by omega, rfl, rfl⟩)
    · have c27 := au_b1 c27
      refine au_iload_n dX0_officer_30 rfl ?_
      refine au_iconst dX0_officer_31 rfl rfl ?_
      refine au_bipush dX0_officer_32 rfl rfl ?_
      refine au_callSp (n := 3) (kX0_in G q 0 9 (mi, si, hi, sl, r, nx)) (lw_S q300 q301 q130 q302) (by decide +kernel) rfl rfl rfl (Nat.le_of_ble_eq_true rfl) (Nat.le_of_ble_eq_true rfl) (Nat.le_of_ble_eq_true rfl) (Nat.le_of_ble_eq_true rfl) (Nat.le_of_ble_eq_true rfl) dX0_officer_34 ?_
      refine au_if_eq (tgt := 46) dX0_officer_37 (by decide) (fun c37 => ?_) (fun c37 => ?_)
      · have c37 := au_b0 c37
        refine au_iconst dX0_officer_46 rfl rfl ?_
        exact au_iret dX0_officer_47 rfl rfl (Nat.le_of_ble_eq_true rfl) (Nat.le_of_ble_eq_true rfl) (by first | exact Or.inl ⟨by omega, rfl, rfl⟩ | exact Or.inr ⟨by omega, rfl, rfl⟩)
      · have c37 := au_b1 c37
        refine au_iload_n dX0_officer_40 rfl ?_
        refine au_bipush dX0_officer_41 rfl rfl ?_
        refine au_icmp_ne (tgt := 48) dX0_officer_43 (by decide) (fun c43 => ?_) (fun c43 => ?_)
        · refine au_aload_n dX0_officer_48 rfl ?_
          refine au_getf (C := RX0) (T := TX0) (N := 15) in_X0 (by decide) rfl 0 (by decide) rfl rfl q245 rfl dX0_officer_49 (v := au_r XN) (congrArg au_q (fx_XO_0 hF)) ?_
          refine au_getN (C := RX1) (T := TX1) (N := 11) in_X1 (by decide) rfl 2 (by decide) rfl rfl q191 rfl dX0_officer_52 (v := au_r XNboss) (congrArg au_q (fx_XN_2 hF)) ?_
          refine au_iload_n dX0_officer_55 rfl ?_
          refine au_iload_n dX0_officer_56 rfl ?_
          refine au_iast dX0_officer_57 rfl (by decide) (by omega) (by show _ < ((10 : Nat) : Int); omega) (M' := ((au_up mi XNboss n b), si, hi, sl, r, nx)) (by rfl) ?_
          refine au_aload_n dX0_officer_58 rfl ?_
          refine au_getf (C := RX0) (T := TX0) (N := 15) in_X0 (by decide) rfl 0 (by decide) rfl rfl q245 rfl dX0_officer_59 (v := au_r XN) (congrArg au_q (fx_XO_0 hF)) ?_
          refine au_getN (C := RX1) (T := TX1) (N := 11) in_X1 (by decide) rfl 3 (by decide) rfl rfl q193 rfl dX0_officer_62 (v := au_r XNpride) (congrArg au_q (fx_XN_3 hF)) ?_
          refine au_iload_n dX0_officer_65 rfl ?_
          refine au_iload_n dX0_officer_66 rfl ?_
          refine au_iast dX0_officer_67 rfl (by decide) (by omega) (by show _ < ((10 : Nat) : Int); omega) (M' := ((au_up (au_up mi XNboss n b) XNpride n q), si, hi, sl, r, nx)) (by rfl) ?_
          refine au_aload_n dX0_officer_68 rfl ?_
          refine au_getf (C := RX0) (T := TX0) (N := 15) in_X0 (by decide) rfl 0 (by decide) rfl rfl q245 rfl dX0_officer_69 (v := au_r XN) (congrArg au_q (fx_XO_0 hF)) ?_
          refine au_getN (C := RX1) (T := TX1) (N := 11) in_X1 (by decide) rfl 0 (by decide) rfl rfl q187 rfl dX0_officer_72 (v := au_r XNn) (congrArg au_q (fx_XN_0 hF)) ?_
          refine au_iconst dX0_officer_75 rfl rfl ?_
          refine au_dup2 dX0_officer_76 rfl rfl ?_
          refine au_iald dX0_officer_77 rfl (by omega) (by show _ < ((6 : Nat) : Int); omega) (v := au_i (n)) (congrArg au_i (hN)) ?_
          refine au_iconst dX0_officer_78 rfl rfl ?_
          refine au_iadd dX0_officer_79 (by omega) (by omega) ?_
          refine au_iast dX0_officer_80 rfl (by decide) (by omega) (by show _ < ((6 : Nat) : Int); omega) (M' := ((au_up (au_up (au_up mi XNboss n b) XNpride n q) XNn 0 (n + 1)), si, hi, sl, r, nx)) (by rfl) ?_
          refine au_iload_n dX0_officer_81 rfl ?_
          exact au_iret dX0_officer_82 rfl rfl (Nat.le_of_ble_eq_true rfl) (Nat.le_of_ble_eq_true rfl) (by first | exact Or.inl ⟨by omega, rfl, rfl⟩ | exact Or.inr ⟨by omega, rfl, rfl⟩)
        · refine au_iconst dX0_officer_46 rfl rfl ?_
          exact au_iret dX0_officer_47 rfl rfl (Nat.le_of_ble_eq_true rfl) (Nat.le_of_ble_eq_true rfl) (by first | exact Or.inl ⟨by omega, rfl, rfl⟩ | exact Or.inr ⟨by omega, rfl, rfl⟩)
  · refine au_iload_n dX0_officer_14 rfl ?_
    refine au_iconst dX0_officer_15 rfl rfl ?_
    refine au_icmp_eq (tgt := 30) dX0_officer_16 (by decide) (fun c16 => ?_) (fun c16 => ?_)
    · refine au_iload_n dX0_officer_30 rfl ?_
      refine au_iconst dX0_officer_31 rfl rfl ?_
      refine au_bipush dX0_officer_32 rfl rfl ?_
      refine au_callSp (n := 3) (kX0_in G q 0 9 (mi, si, hi, sl, r, nx)) (lw_S q300 q301 q130 q302) (by decide +kernel) rfl rfl rfl (Nat.le_of_ble_eq_true rfl) (Nat.le_of_ble_eq_true rfl) (Nat.le_of_ble_eq_true rfl) (Nat.le_of_ble_eq_true rfl) (Nat.le_of_ble_eq_true rfl) dX0_officer_34 ?_
      refine au_if_eq (tgt := 46) dX0_officer_37 (by decide) (fun c37 => ?_) (fun c37 => ?_)
      · have c37 := au_b0 c37
        refine au_iconst dX0_officer_46 rfl rfl ?_
        exact au_iret dX0_officer_47 rfl rfl (Nat.le_of_ble_eq_true rfl) (Nat.le_of_ble_eq_true rfl) (by first | exact Or.inl ⟨by omega, rfl, rfl⟩ | exact Or.inr ⟨by omega, rfl, rfl⟩)
      · have c37 := au_b1 c37
        refine au_iload_n dX0_officer_40 rfl ?_
        refine au_bipush dX0_officer_41 rfl rfl ?_
        refine au_icmp_ne (tgt := 48) dX0_officer_43 (by decide) (fun c43 => ?_) (fun c43 => ?_)
        · refine au_aload_n dX0_officer_48 rfl ?_
          refine au_getf (C := RX0) (T := TX0) (N := 15) in_X0 (by decide) rfl 0 (by decide) rfl rfl q245 rfl dX0_officer_49 (v := au_r XN) (congrArg au_q (fx_XO_0 hF)) ?_
          refine au_getN (C := RX1) (T := TX1) (N := 11) in_X1 (by decide) rfl 2 (by decide) rfl rfl q191 rfl dX0_officer_52 (v := au_r XNboss) (congrArg au_q (fx_XN_2 hF)) ?_
          refine au_iload_n dX0_officer_55 rfl ?_
          refine au_iload_n dX0_officer_56 rfl ?_
          refine au_iast dX0_officer_57 rfl (by decide) (by omega) (by show _ < ((10 : Nat) : Int); omega) (M' := ((au_up mi XNboss n b), si, hi, sl, r, nx)) (by rfl) ?_
          refine au_aload_n dX0_officer_58 rfl ?_
          refine au_getf (C := RX0) (T := TX0) (N := 15) in_X0 (by decide) rfl 0 (by decide) rfl rfl q245 rfl dX0_officer_59 (v := au_r XN) (congrArg au_q (fx_XO_0 hF)) ?_
          refine au_getN (C := RX1) (T := TX1) (N := 11) in_X1 (by decide) rfl 3 (by decide) rfl rfl q193 rfl dX0_officer_62 (v := au_r XNpride) (congrArg au_q (fx_XN_3 hF)) ?_
          refine au_iload_n dX0_officer_65 rfl ?_
          refine au_iload_n dX0_officer_66 rfl ?_
          refine au_iast dX0_officer_67 rfl (by decide) (by omega) (by show _ < ((10 : Nat) : Int); omega) (M' := ((au_up (au_up mi XNboss n b) XNpride n q), si, hi, sl, r, nx)) (by rfl) ?_
          refine au_aload_n dX0_officer_68 rfl ?_
          refine au_getf (C := RX0) (T := TX0) (N := 15) in_X0 (by decide) rfl 0 (by decide) rfl rfl q245 rfl dX0_officer_69 (v := au_r XN) (congrArg au_q (fx_XO_0 hF)) ?_
          refine au_getN (C := RX1) (T := TX1) (N := 11) in_X1 (by decide) rfl 0 (by decide) rfl rfl q187 rfl dX0_officer_72 (v := au_r XNn) (congrArg au_q (fx_XN_0 hF)) ?_
          refine au_iconst dX0_officer_75 rfl rfl ?_
          refine au_dup2 dX0_officer_76 rfl rfl ?_
          refine au_iald dX0_officer_77 rfl (by omega) (by show _ < ((6 : Nat) : Int); omega) (v := au_i (n)) (congrArg au_i (hN)) ?_
          refine au_iconst dX0_officer_78 rfl rfl ?_
          refine au_iadd dX0_officer_79 (by omega) (by omega) ?_
          refine au_iast dX0_officer_80 rfl (by decide) (by omega) (by show _ < ((6 : Nat) : Int); omega) (M' := ((au_up (au_up (au_up mi XNboss n b) XNpride n q) XNn 0 (n + 1)), si, hi, sl, r, nx)) (by rfl) ?_
          refine au_iload_n dX0_officer_81 rfl ?_
          exact au_iret dX0_officer_82 rfl rfl (Nat.le_of_ble_eq_true rfl) (Nat.le_of_ble_eq_true rfl) (by first | exact Or.inl ⟨by omega, rfl, rfl⟩ | exact Or.inr ⟨by omega, rfl, rfl⟩)
        · refine au_iconst dX0_officer_46 rfl rfl ?_
          exact au_iret dX0_officer_47 rfl rfl (Nat.le_of_ble_eq_true rfl) (Nat.le_of_ble_eq_true rfl) (by first | exact Or.inl ⟨by omega, rfl, rfl⟩ | exact Or.inr ⟨by omega, rfl, rfl⟩)
    · refine au_goto (tgt := 46) dX0_officer_19 (by decide) ?_
      refine au_iconst dX0_officer_46 rfl rfl ?_
      exact au_iret dX0_officer_47 rfl rfl (Nat.le_of_ble_eq_true rfl) (Nat.le_of_ble_eq_true rfl) (by first | exact Or.inl ⟨by omega, rfl, rfl⟩ | exact Or.inr ⟨by omega, rfl, rfl⟩)
theorem kX0_cousin (G : au_G) (o t : Int) (mi si hi sl : au_A → Int → Int) (r : au_A → Int → Option au_A) (nx : Nat) (hF : Fix r) (n : Int) (hN : mi XNn 0 = n) (hn : 0 ≤ n ∧ n ≤ 10) (Co : Int → Int) (hCo : ∀ o, 0 ≤ o → o < 10 → mi XNcousin o = Co o) : au_Ctr G yX0_cousin cX0_cousin 3 (some .boolean) 2 0 0 [au_r XO, au_i o, au_i t] (mi, si, hi, sl, r, nx) (fun rv M' => (((0 ≤ o ∧ o < n) ∧ (0 ≤ t ∧ t < n) ∧ ¬ o = t ∧ ¬ hs (Co o) t) ∧ rv = some (au_i 1) ∧ M' = (au_up (au_up mi XNcousin o (au_or (Co o) (au_shl 1 t))) XNcousin t (au_or (Co t) (au_shl 1 o)), si, hi, sl, r, nx)) ∨ (¬ ((0 ≤ o ∧ o < n) ∧ (0 ≤ t ∧ t < n) ∧ ¬ o = t ∧ ¬ hs (Co o) t) ∧ rv = some (au_i 0) ∧ M' = (mi, si, hi, sl, r, nx))) := by
  refine au_of (by decide) (Nat.le_of_ble_eq_true rfl) ?_
  show au_Go G _ _ 0 [some (au_r XO), some (au_i o), some (au_i t)] [] (mi, si, hi, sl, r, nx) 0 0
  refine au_aload_n dX0_cousin_0 rfl ?_
  refine au_iload_n dX0_cousin_1 rfl ?_
  refine au_callVp (n := 1) (kX0_isOfficer G o mi si hi sl r nx hF n hN hn ) (lw_V q296 q298 qs0 q130 q299) rfl (by decide +kernel) (by decide) (T := TX0) (N := 15) rfl rfl rfl rfl (Nat.le_of_ble_eq_true rfl) (Nat.le_of_ble_eq_true rfl) (Nat.le_of_ble_eq_true rfl) (Nat.le_of_ble_eq_true rfl) (Nat.le_of_ble_eq_true rfl) dX0_cousin_2 ?_
  refine au_if_eq (tgt := 37) dX0_cousin_5 (by decide) (fun c5 => ?_) (fun c5 => ?_)
  · have c5 := au_b0 c5
    refine au_iconst dX0_cousin_37 rfl rfl ?_
    exact au_zret dX0_cousin_38 rfl (Or.inl rfl) rfl (Nat.le_of_ble_eq_true rfl) (Nat.le_of_ble_eq_true rfl) (by first | exact Or.inl ⟨⟨by omega, by omega, by assumption, by assumption⟩, rfl, rfl⟩ | exact Or.inr ⟨fun z => by obtain ⟨z1, z2, z3, z4⟩ := z; first | omega | exact absurd (by assumption) z4, rfl, rfl⟩)
  · have c5 := au_b1 c5
    refine au_aload_n dX0_cousin_8 rfl ?_
    refine au_iload_n dX0_cousin_9 rfl ?_
    refine au_callVp (n := 1) (kX0_isOfficer G t mi si hi sl r nx hF n hN hn ) (lw_V q296 q298 qs0 q130 q299) rfl (by decide +kernel) (by decide) (T := TX0) (N := 15) rfl rfl rfl rfl (Nat.le_of_ble_eq_true rfl) (Nat.le_of_ble_eq_true rfl) (Nat.le_of_ble_eq_true rfl) (Nat.le_of_ble_eq_true rfl) (Nat.le_of_ble_eq_true rfl) dX0_cousin_10 ?_
    refine au_if_eq (tgt := 37) dX0_cousin_13 (by decide) (fun c13 => ?_) (fun c13 => ?_)
    · have c13 := au_b0 c13
      refine au_iconst dX0_cousin_37 rfl rfl ?_
      exact au_zret dX0_cousin_38 rfl (Or.inl rfl) rfl (Nat.le_of_ble_eq_true rfl) (Nat.le_of_ble_eq_true rfl) (by first | exact Or.inl ⟨⟨by omega, by omega, by assumption, by assumption⟩, rfl, rfl⟩ | exact Or.inr ⟨fun z => by obtain ⟨z1, z2, z3, z4⟩ := z; first | omega | exact absurd (by assumption) z4, rfl, rfl⟩)
    · have c13 := au_b1 c13
      refine au_iload_n dX0_cousin_16 rfl ?_
      refine au_iload_n dX0_cousin_17 rfl ?_
      refine au_icmp_eq (tgt := 37) dX0_cousin_18 (by decide) (fun c18 => ?_) (fun c18 => ?_)
      · refine au_iconst dX0_cousin_37 rfl rfl ?_
        exact au_zret dX0_cousin_38 rfl (Or.inl rfl) rfl (Nat.le_of_ble_eq_true rfl) (Nat.le_of_ble_eq_true rfl) (by first | exact Or.inl ⟨⟨by omega, by omega, by assumption, by assumption⟩, rfl, rfl⟩ | exact Or.inr ⟨fun z => by obtain ⟨z1, z2, z3, z4⟩ := z; first | omega | exact absurd (by assumption) z4, rfl, rfl⟩)
      · refine au_aload_n dX0_cousin_21 rfl ?_
        refine au_getf (C := RX0) (T := TX0) (N := 15) in_X0 (by decide) rfl 0 (by decide) rfl rfl q245 rfl dX0_cousin_22 (v := au_r XN) (congrArg au_q (fx_XO_0 hF)) ?_
        refine au_getN (C := RX1) (T := TX1) (N := 11) in_X1 (by decide) rfl 4 (by decide) rfl rfl q195 rfl dX0_cousin_25 (v := au_r XNcousin) (congrArg au_q (fx_XN_4 hF)) ?_
        refine au_iload_n dX0_cousin_28 rfl ?_
        refine au_iald dX0_cousin_29 rfl (by omega) (by show _ < ((10 : Nat) : Int); omega) (v := au_i (Co o)) (congrArg au_i (hCo _ (by omega) (by omega))) ?_
        refine au_iload_n dX0_cousin_30 rfl ?_
        refine au_callSp (n := 2) (kX0_has G (Co o) t (mi, si, hi, sl, r, nx)) (lw_S q307 q308 q130 q309) (by decide +kernel) rfl rfl rfl (Nat.le_of_ble_eq_true rfl) (Nat.le_of_ble_eq_true rfl) (Nat.le_of_ble_eq_true rfl) (Nat.le_of_ble_eq_true rfl) (Nat.le_of_ble_eq_true rfl) dX0_cousin_31 ?_
        refine au_if_eq (tgt := 39) dX0_cousin_34 (by decide) (fun c34 => ?_) (fun c34 => ?_)
        · have c34 := au_b0 c34
          refine au_aload_n dX0_cousin_39 rfl ?_
          refine au_getf (C := RX0) (T := TX0) (N := 15) in_X0 (by decide) rfl 0 (by decide) rfl rfl q245 rfl dX0_cousin_40 (v := au_r XN) (congrArg au_q (fx_XO_0 hF)) ?_
          refine au_getN (C := RX1) (T := TX1) (N := 11) in_X1 (by decide) rfl 4 (by decide) rfl rfl q195 rfl dX0_cousin_43 (v := au_r XNcousin) (congrArg au_q (fx_XN_4 hF)) ?_
          refine au_iload_n dX0_cousin_46 rfl ?_
          refine au_dup2 dX0_cousin_47 rfl rfl ?_
          refine au_iald dX0_cousin_48 rfl (by omega) (by show _ < ((10 : Nat) : Int); omega) (v := au_i (Co o)) (congrArg au_i (hCo _ (by omega) (by omega))) ?_
          refine au_iconst dX0_cousin_49 rfl rfl ?_
          refine au_iload_n dX0_cousin_50 rfl ?_
          refine au_ishl dX0_cousin_51 ?_
          refine au_ior dX0_cousin_52 ?_
          refine au_iast dX0_cousin_53 rfl (by decide) (by omega) (by show _ < ((10 : Nat) : Int); omega) (M' := ((au_up mi XNcousin o (au_or (Co o) (au_shl 1 t))), si, hi, sl, r, nx)) (by rfl) ?_
          refine au_aload_n dX0_cousin_54 rfl ?_
          refine au_getf (C := RX0) (T := TX0) (N := 15) in_X0 (by decide) rfl 0 (by decide) rfl rfl q245 rfl dX0_cousin_55 (v := au_r XN) (congrArg au_q (fx_XO_0 hF)) ?_
          refine au_getN (C := RX1) (T := TX1) (N := 11) in_X1 (by decide) rfl 4 (by decide) rfl rfl q195 rfl dX0_cousin_58 (v := au_r XNcousin) (congrArg au_q (fx_XN_4 hF)) ?_
          refine au_iload_n dX0_cousin_61 rfl ?_
          refine au_dup2 dX0_cousin_62 rfl rfl ?_
          refine au_iald dX0_cousin_63 rfl (by omega) (by show _ < ((10 : Nat) : Int); omega) (v := au_i (Co t)) (congrArg au_i ((au_up_ne mi _ (fun q => by have := q.2; omega)).trans (hCo t (by omega) (by omega)))) ?_
          refine au_iconst dX0_cousin_64 rfl rfl ?_
          refine au_iload_n dX0_cousin_65 rfl ?_
          refine au_ishl dX0_cousin_66 ?_
          refine au_ior dX0_cousin_67 ?_
          refine au_iast dX0_cousin_68 rfl (by decide) (by omega) (by show _ < ((10 : Nat) : Int); omega) (M' := ((au_up (au_up mi XNcousin o (au_or (Co o) (au_shl 1 t))) XNcousin t (au_or (Co t) (au_shl 1 o))), si, hi, sl, r, nx)) (by rfl) ?_
          refine au_iconst dX0_cousin_69 rfl rfl ?_
          exact au_zret dX0_cousin_70 rfl (Or.inr rfl) rfl (Nat.le_of_ble_eq_true rfl) (Nat.le_of_ble_eq_true rfl) (by first | exact Or.inl ⟨⟨by omega, by omega, by assumption, by assumption⟩, rfl, rfl⟩ | exact Or.inr ⟨fun z => by obtain ⟨z1, z2, z3, z4⟩ := z; first | omega | exact absurd (by assumption) z4, rfl, rfl⟩)
        · have c34 := au_b1 c34
          refine au_iconst dX0_cousin_37 rfl rfl ?_
          exact au_zret dX0_cousin_38 rfl (Or.inl rfl) rfl (Nat.le_of_ble_eq_true rfl) (Nat.le_of_ble_eq_true rfl) (by first | exact Or.inl ⟨⟨by omega, by omega, by assumption, by assumption⟩, rfl, rfl⟩ | exact Or.inr ⟨fun z => by obtain ⟨z1, z2, z3, z4⟩ := z; first | omega | exact absurd (by assumption) z4, rfl, rfl⟩)
theorem kX2_officer (G : au_G) (b q : Int) (mi si hi sl : au_A → Int → Int) (r : au_A → Int → Option au_A) (nx : Nat) (hF : Fix r) (n : Int) (hN : mi MA 0 = n) (hn : 0 ≤ n ∧ n ≤ 10) : au_Ctr G yX2_officer cX2_officer 4 (some .int) 2 0 0 [au_r MO, au_i b, au_i q] (mi, si, hi, sl, r, nx) (fun rv M' => ((((n = 0 ∧ b = -1) ∨ (¬ n = 0 ∧ 0 ≤ b ∧ b < n)) ∧ (0 ≤ q ∧ q ≤ 9) ∧ n < 10) ∧ rv = some (au_i n) ∧ M' = (au_up (au_up (au_up (au_up mi MA (90 + n) b) MA (100 + n) q) MA (110 + n) 0) MA 0 (n + 1), si, hi, sl, r, nx)) ∨ (¬ (((n = 0 ∧ b = -1) ∨ (¬ n = 0 ∧ 0 ≤ b ∧ b < n)) ∧ (0 ≤ q ∧ q ≤ 9) ∧ n < 10) ∧ rv = some (au_i (-1)) ∧ M' = (mi, si, hi, sl, r, nx))) := by
  refine au_of (by decide) (Nat.le_of_ble_eq_true rfl) ?_
  show au_Go G _ _ 0 [some (au_r MO), some (au_i b), some (au_i q), none] [] (mi, si, hi, sl, r, nx) 0 0
  refine au_aload_n dX2_officer_0 rfl ?_
  refine au_getf (C := RX2) (T := TX2) (N := 35) in_X2 (by decide) rfl 0 (by decide) rfl rfl q1359 rfl dX2_officer_1 (v := au_r MA) (congrArg au_q (fx_MO_0 hF)) ?_
  refine au_iconst dX2_officer_4 rfl rfl ?_
  refine au_iald dX2_officer_5 rfl (by omega) (by show _ < ((4544 : Nat) : Int); omega) (v := au_i (n)) (congrArg au_i (hN)) ?_
  refine au_istore_n dX2_officer_6 (show 3 < 4 by decide) ?_
  show au_Go G _ _ 7 [some (au_r MO), some (au_i b), some (au_i q), some (au_i n)] [] (mi, si, hi, sl, r, nx) 0 0
  refine au_iload_n dX2_officer_7 rfl ?_
  refine au_bipush dX2_officer_8 rfl rfl ?_
  refine au_icmp_eq (tgt := 43) dX2_officer_10 (by decide) (fun c10 => ?_) (fun c10 => ?_)
  · refine au_iconst dX2_officer_43 rfl rfl ?_
    exact au_iret dX2_officer_44 rfl rfl (Nat.le_of_ble_eq_true rfl) (Nat.le_of_ble_eq_true rfl) (by first | exact Or.inl ⟨by omega, rfl, rfl⟩ | exact Or.inr ⟨by omega, rfl, rfl⟩)
  · refine au_iload_n dX2_officer_13 rfl ?_
    refine au_if_ne (tgt := 25) dX2_officer_14 (by decide) (fun c14 => ?_) (fun c14 => ?_)
    · refine au_aload_n dX2_officer_25 rfl ?_
      refine au_iload_n dX2_officer_26 rfl ?_
      refine au_callVp (n := 1) (kX2_isOfficer G b mi si hi sl r nx hF n hN hn ) (lw_V q1471 q1473 qs56 q134 q1474) rfl (by decide +kernel) (by decide) (T := TX2) (N := 35) rfl rfl rfl rfl (Nat.le_of_ble_eq_true rfl) (Nat.le_of_ble_eq_true rfl) (Nat.le_of_ble_eq_true rfl) (Nat.le_of_ble_eq_true rfl) (Nat.le_of_ble_eq_true rfl) dX2_officer_27 ?_
      refine au_if_eq (tgt := 43) dX2_officer_30 (by decide) (fun c30 => ?_) (fun c30 => ?_)
      · have c30 := au_b0 c30
        refine au_iconst dX2_officer_43 rfl rfl ?_
        exact au_iret dX2_officer_44 rfl rfl (Nat.le_of_ble_eq_true rfl) (Nat.le_of_ble_eq_true rfl) (by first | exact Or.inl ⟨by omega, rfl, rfl⟩ | exact Or.inr ⟨by omega, rfl, rfl⟩)
      · have c30 := au_b1 c30
        refine au_iload_n dX2_officer_33 rfl ?_
        refine au_iconst dX2_officer_34 rfl rfl ?_
        refine au_bipush dX2_officer_35 rfl rfl ?_
        refine au_callSp (n := 3) (kX2_isIn G q 0 9 (mi, si, hi, sl, r, nx)) (lw_S q1475 q1476 q134 q1477) (by decide +kernel) rfl rfl rfl (Nat.le_of_ble_eq_true rfl) (Nat.le_of_ble_eq_true rfl) (Nat.le_of_ble_eq_true rfl) (Nat.le_of_ble_eq_true rfl) (Nat.le_of_ble_eq_true rfl) dX2_officer_37 ?_
        refine au_if_ne (tgt := 45) dX2_officer_40 (by decide) (fun c40 => ?_) (fun c40 => ?_)
        · have c40 := au_b1 c40
          refine au_aload_n dX2_officer_45 rfl ?_
          refine au_getf (C := RX2) (T := TX2) (N := 35) in_X2 (by decide) rfl 0 (by decide) rfl rfl q1359 rfl dX2_officer_46 (v := au_r MA) (congrArg au_q (fx_MO_0 hF)) ?_
          refine au_bipush dX2_officer_49 rfl rfl ?_
          refine au_iload_n dX2_officer_51 rfl ?_
          refine au_iadd dX2_officer_52 (by omega) (by omega) ?_
          refine au_iload_n dX2_officer_53 rfl ?_
          refine au_iast dX2_officer_54 rfl (by decide) (by omega) (by show _ < ((4544 : Nat) : Int); omega) (M' := ((au_up mi MA (90 + n) b), si, hi, sl, r, nx)) (by rfl) ?_
          refine au_aload_n dX2_officer_55 rfl ?_
          refine au_getf (C := RX2) (T := TX2) (N := 35) in_X2 (by decide) rfl 0 (by decide) rfl rfl q1359 rfl dX2_officer_56 (v := au_r MA) (congrArg au_q (fx_MO_0 hF)) ?_
          refine au_bipush dX2_officer_59 rfl rfl ?_
          refine au_iload_n dX2_officer_61 rfl ?_
          refine au_iadd dX2_officer_62 (by omega) (by omega) ?_
          refine au_iload_n dX2_officer_63 rfl ?_
          refine au_iast dX2_officer_64 rfl (by decide) (by omega) (by show _ < ((4544 : Nat) : Int); omega) (M' := ((au_up (au_up mi MA (90 + n) b) MA (100 + n) q), si, hi, sl, r, nx)) (by rfl) ?_
          refine au_aload_n dX2_officer_65 rfl ?_
          refine au_getf (C := RX2) (T := TX2) (N := 35) in_X2 (by decide) rfl 0 (by decide) rfl rfl q1359 rfl dX2_officer_66 (v := au_r MA) (congrArg au_q (fx_MO_0 hF)) ?_
          refine au_bipush dX2_officer_69 rfl rfl ?_
          refine au_iload_n dX2_officer_71 rfl ?_
          refine au_iadd dX2_officer_72 (by omega) (by omega) ?_
          refine au_iconst dX2_officer_73 rfl rfl ?_
          refine au_iast dX2_officer_74 rfl (by decide) (by omega) (by show _ < ((4544 : Nat) : Int); omega) (M' := ((au_up (au_up (au_up mi MA (90 + n) b) MA (100 + n) q) MA (110 + n) 0), si, hi, sl, r, nx)) (by rfl) ?_
          refine au_aload_n dX2_officer_75 rfl ?_
          refine au_getf (C := RX2) (T := TX2) (N := 35) in_X2 (by decide) rfl 0 (by decide) rfl rfl q1359 rfl dX2_officer_76 (v := au_r MA) (congrArg au_q (fx_MO_0 hF)) ?_
          refine au_iconst dX2_officer_79 rfl rfl ?_
          refine au_dup2 dX2_officer_80 rfl rfl ?_
          refine au_iald dX2_officer_81 rfl (by omega) (by show _ < ((4544 : Nat) : Int); omega) (v := au_i (n)) (congrArg au_i ((au_up_ne _ 0 (fun q => by have := q.2; omega)).trans ((au_up_ne _ q (fun q => by have := q.2; omega)).trans ((au_up_ne mi b (fun q => by have := q.2; omega)).trans hN)))) ?_
          refine au_iconst dX2_officer_82 rfl rfl ?_
          refine au_iadd dX2_officer_83 (by omega) (by omega) ?_
          refine au_iast dX2_officer_84 rfl (by decide) (by omega) (by show _ < ((4544 : Nat) : Int); omega) (M' := ((au_up (au_up (au_up (au_up mi MA (90 + n) b) MA (100 + n) q) MA (110 + n) 0) MA 0 (n + 1)), si, hi, sl, r, nx)) (by rfl) ?_
          refine au_iload_n dX2_officer_85 rfl ?_
          exact au_iret dX2_officer_86 rfl rfl (Nat.le_of_ble_eq_true rfl) (Nat.le_of_ble_eq_true rfl) (by first | exact Or.inl ⟨by omega, rfl, rfl⟩ | exact Or.inr ⟨by omega, rfl, rfl⟩)
        · have c40 := au_b0 c40
          refine au_iconst dX2_officer_43 rfl rfl ?_
          exact au_iret dX2_officer_44 rfl rfl (Nat.le_of_ble_eq_true rfl) (Nat.le_of_ble_eq_true rfl) (by first | exact Or.inl ⟨by omega, rfl, rfl⟩ | exact Or.inr ⟨by omega, rfl, rfl⟩)
    · refine au_iload_n dX2_officer_17 rfl ?_
      refine au_iconst dX2_officer_18 rfl rfl ?_
      refine au_icmp_eq (tgt := 33) dX2_officer_19 (by decide) (fun c19 => ?_) (fun c19 => ?_)
      · refine au_iload_n dX2_officer_33 rfl ?_
        refine au_iconst dX2_officer_34 rfl rfl ?_
        refine au_bipush dX2_officer_35 rfl rfl ?_
        refine au_callSp (n := 3) (kX2_isIn G q 0 9 (mi, si, hi, sl, r, nx)) (lw_S q1475 q1476 q134 q1477) (by decide +kernel) rfl rfl rfl (Nat.le_of_ble_eq_true rfl) (Nat.le_of_ble_eq_true rfl) (Nat.le_of_ble_eq_true rfl) (Nat.le_of_ble_eq_true rfl) (Nat.le_of_ble_eq_true rfl) dX2_officer_37 ?_
        refine au_if_ne (tgt := 45) dX2_officer_40 (by decide) (fun c40 => ?_) (fun c40 => ?_)
        · have c40 := au_b1 c40
          refine au_aload_n dX2_officer_45 rfl ?_
          refine au_getf (C := RX2) (T := TX2) (N := 35) in_X2 (by decide) rfl 0 (by decide) rfl rfl q1359 rfl dX2_officer_46 (v := au_r MA) (congrArg au_q (fx_MO_0 hF)) ?_
          refine au_bipush dX2_officer_49 rfl rfl ?_
          refine au_iload_n dX2_officer_51 rfl ?_
          refine au_iadd dX2_officer_52 (by omega) (by omega) ?_
          refine au_iload_n dX2_officer_53 rfl ?_
          refine au_iast dX2_officer_54 rfl (by decide) (by omega) (by show _ < ((4544 : Nat) : Int); omega) (M' := ((au_up mi MA (90 + n) b), si, hi, sl, r, nx)) (by rfl) ?_
          refine au_aload_n dX2_officer_55 rfl ?_
          refine au_getf (C := RX2) (T := TX2) (N := 35) in_X2 (by decide) rfl 0 (by decide) rfl rfl q1359 rfl dX2_officer_56 (v := au_r MA) (congrArg au_q (fx_MO_0 hF)) ?_
          refine au_bipush dX2_officer_59 rfl rfl ?_
          refine au_iload_n dX2_officer_61 rfl ?_
          refine au_iadd dX2_officer_62 (by omega) (by omega) ?_
          refine au_iload_n dX2_officer_63 rfl ?_
          refine au_iast dX2_officer_64 rfl (by decide) (by omega) (by show _ < ((4544 : Nat) : Int); omega) (M' := ((au_up (au_up mi MA (90 + n) b) MA (100 + n) q), si, hi, sl, r, nx)) (by rfl) ?_
          refine au_aload_n dX2_officer_65 rfl ?_
          refine au_getf (C := RX2) (T := TX2) (N := 35) in_X2 (by decide) rfl 0 (by decide) rfl rfl q1359 rfl dX2_officer_66 (v := au_r MA) (congrArg au_q (fx_MO_0 hF)) ?_
          refine au_bipush dX2_officer_69 rfl rfl ?_
          refine au_iload_n dX2_officer_71 rfl ?_
          refine au_iadd dX2_officer_72 (by omega) (by omega) ?_
          refine au_iconst dX2_officer_73 rfl rfl ?_
          refine au_iast dX2_officer_74 rfl (by decide) (by omega) (by show _ < ((4544 : Nat) : Int); omega) (M' := ((au_up (au_up (au_up mi MA (90 + n) b) MA (100 + n) q) MA (110 + n) 0), si, hi, sl, r, nx)) (by rfl) ?_
          refine au_aload_n dX2_officer_75 rfl ?_
          refine au_getf (C := RX2) (T := TX2) (N := 35) in_X2 (by decide) rfl 0 (by decide) rfl rfl q1359 rfl dX2_officer_76 (v := au_r MA) (congrArg au_q (fx_MO_0 hF)) ?_
          refine au_iconst dX2_officer_79 rfl rfl ?_
          refine au_dup2 dX2_officer_80 rfl rfl ?_
          refine au_iald dX2_officer_81 rfl (by omega) (by show _ < ((4544 : Nat) : Int); omega) (v := au_i (n)) (congrArg au_i ((au_up_ne _ 0 (fun q => by have := q.2; omega)).trans ((au_up_ne _ q (fun q => by have := q.2; omega)).trans ((au_up_ne mi b (fun q => by have := q.2; omega)).trans hN)))) ?_
          refine au_iconst dX2_officer_82 rfl rfl ?_
          refine au_iadd dX2_officer_83 (by omega) (by omega) ?_
          refine au_iast dX2_officer_84 rfl (by decide) (by omega) (by show _ < ((4544 : Nat) : Int); omega) (M' := ((au_up (au_up (au_up (au_up mi MA (90 + n) b) MA (100 + n) q) MA (110 + n) 0) MA 0 (n + 1)), si, hi, sl, r, nx)) (by rfl) ?_
          refine au_iload_n dX2_officer_85 rfl ?_
          exact au_iret dX2_officer_86 rfl rfl (Nat.le_of_ble_eq_true rfl) (Nat.le_of_ble_eq_true rfl) (by first | exact Or.inl ⟨by omega, rfl, rfl⟩ | exact Or.inr ⟨by omega, rfl, rfl⟩)
        · have c40 := au_b0 c40
          refine au_iconst dX2_officer_43 rfl rfl ?_
          exact au_iret dX2_officer_44 rfl rfl (Nat.le_of_ble_eq_true rfl) (Nat.le_of_ble_eq_true rfl) (by first | exact Or.inl ⟨by omega, rfl, rfl⟩ | exact Or.inr ⟨by omega, rfl, rfl⟩)
      · refine au_goto (tgt := 43) dX2_officer_22 (by decide) ?_
        refine au_iconst dX2_officer_43 rfl rfl ?_
        exact au_iret dX2_officer_44 rfl rfl (Nat.le_of_ble_eq_true rfl) (Nat.le_of_ble_eq_true rfl) (by first | exact Or.inl ⟨by omega, rfl, rfl⟩ | exact Or.inr ⟨by omega, rfl, rfl⟩)
theorem kX2_cousin (G : au_G) (o t : Int) (mi si hi sl : au_A → Int → Int) (r : au_A → Int → Option au_A) (nx : Nat) (hF : Fix r) (n : Int) (hN : mi MA 0 = n) (hn : 0 ≤ n ∧ n ≤ 10) (Co : Int → Int) (hCo : ∀ o, 0 ≤ o → o < 10 → mi MA (110 + o) = Co o) : au_Ctr G yX2_cousin cX2_cousin 3 (some .boolean) 2 0 0 [au_r MO, au_i o, au_i t] (mi, si, hi, sl, r, nx) (fun rv M' => (((0 ≤ o ∧ o < n) ∧ (0 ≤ t ∧ t < n) ∧ ¬ o = t ∧ ¬ hs (Co o) t) ∧ rv = some (au_i 1) ∧ M' = (au_up (au_up mi MA (110 + o) (au_or (Co o) (au_shl 1 t))) MA (110 + t) (au_or (Co t) (au_shl 1 o)), si, hi, sl, r, nx)) ∨ (¬ ((0 ≤ o ∧ o < n) ∧ (0 ≤ t ∧ t < n) ∧ ¬ o = t ∧ ¬ hs (Co o) t) ∧ rv = some (au_i 0) ∧ M' = (mi, si, hi, sl, r, nx))) := by
  refine au_of (by decide) (Nat.le_of_ble_eq_true rfl) ?_
  show au_Go G _ _ 0 [some (au_r MO), some (au_i o), some (au_i t)] [] (mi, si, hi, sl, r, nx) 0 0
  refine au_aload_n dX2_cousin_0 rfl ?_
  refine au_iload_n dX2_cousin_1 rfl ?_
  refine au_callVp (n := 1) (kX2_isOfficer G o mi si hi sl r nx hF n hN hn ) (lw_V q1471 q1473 qs56 q134 q1474) rfl (by decide +kernel) (by decide) (T := TX2) (N := 35) rfl rfl rfl rfl (Nat.le_of_ble_eq_true rfl) (Nat.le_of_ble_eq_true rfl) (Nat.le_of_ble_eq_true rfl) (Nat.le_of_ble_eq_true rfl) (Nat.le_of_ble_eq_true rfl) dX2_cousin_2 ?_
  refine au_if_eq (tgt := 37) dX2_cousin_5 (by decide) (fun c5 => ?_) (fun c5 => ?_)
  · have c5 := au_b0 c5
    refine au_iconst dX2_cousin_37 rfl rfl ?_
    exact au_zret dX2_cousin_38 rfl (Or.inl rfl) rfl (Nat.le_of_ble_eq_true rfl) (Nat.le_of_ble_eq_true rfl) (by first | exact Or.inl ⟨⟨by omega, by omega, by assumption, by assumption⟩, rfl, rfl⟩ | exact Or.inr ⟨fun z => by obtain ⟨z1, z2, z3, z4⟩ := z; first | omega | exact absurd (by assumption) z4, rfl, rfl⟩)
  · have c5 := au_b1 c5
    refine au_aload_n dX2_cousin_8 rfl ?_
    refine au_iload_n dX2_cousin_9 rfl ?_
    refine au_callVp (n := 1) (kX2_isOfficer G t mi si hi sl r nx hF n hN hn ) (lw_V q1471 q1473 qs56 q134 q1474) rfl (by decide +kernel) (by decide) (T := TX2) (N := 35) rfl rfl rfl rfl (Nat.le_of_ble_eq_true rfl) (Nat.le_of_ble_eq_true rfl) (Nat.le_of_ble_eq_true rfl) (Nat.le_of_ble_eq_true rfl) (Nat.le_of_ble_eq_true rfl) dX2_cousin_10 ?_
    refine au_if_eq (tgt := 37) dX2_cousin_13 (by decide) (fun c13 => ?_) (fun c13 => ?_)
    · have c13 := au_b0 c13
      refine au_iconst dX2_cousin_37 rfl rfl ?_
      exact au_zret dX2_cousin_38 rfl (Or.inl rfl) rfl (Nat.le_of_ble_eq_true rfl) (Nat.le_of_ble_eq_true rfl) (by first | exact Or.inl ⟨⟨by omega, by omega, by assumption, by assumption⟩, rfl, rfl⟩ | exact Or.inr ⟨fun z => by obtain ⟨z1, z2, z3, z4⟩ := z; first | omega | exact absurd (by assumption) z4, rfl, rfl⟩)
    · have c13 := au_b1 c13
      refine au_iload_n dX2_cousin_16 rfl ?_
      refine au_iload_n dX2_cousin_17 rfl ?_
      refine au_icmp_eq (tgt := 37) dX2_cousin_18 (by decide) (fun c18 => ?_) (fun c18 => ?_)
      · refine au_iconst dX2_cousin_37 rfl rfl ?_
        exact au_zret dX2_cousin_38 rfl (Or.inl rfl) rfl (Nat.le_of_ble_eq_true rfl) (Nat.le_of_ble_eq_true rfl) (by first | exact Or.inl ⟨⟨by omega, by omega, by assumption, by assumption⟩, rfl, rfl⟩ | exact Or.inr ⟨fun z => by obtain ⟨z1, z2, z3, z4⟩ := z; first | omega | exact absurd (by assumption) z4, rfl, rfl⟩)
      · refine au_aload_n dX2_cousin_21 rfl ?_
        refine au_getf (C := RX2) (T := TX2) (N := 35) in_X2 (by decide) rfl 0 (by decide) rfl rfl q1359 rfl dX2_cousin_22 (v := au_r MA) (congrArg au_q (fx_MO_0 hF)) ?_
        refine au_bipush dX2_cousin_25 rfl rfl ?_
        refine au_iload_n dX2_cousin_27 rfl ?_
        refine au_iadd dX2_cousin_28 (by omega) (by omega) ?_
        refine au_iald dX2_cousin_29 rfl (by omega) (by show _ < ((4544 : Nat) : Int); omega) (v := au_i (Co o)) (congrArg au_i (hCo _ (by omega) (by omega))) ?_
        refine au_iload_n dX2_cousin_30 rfl ?_
        refine au_callSp (n := 2) (kX2_has G (Co o) t (mi, si, hi, sl, r, nx)) (lw_S q1482 q1483 q134 q1484) (by decide +kernel) rfl rfl rfl (Nat.le_of_ble_eq_true rfl) (Nat.le_of_ble_eq_true rfl) (Nat.le_of_ble_eq_true rfl) (Nat.le_of_ble_eq_true rfl) (Nat.le_of_ble_eq_true rfl) dX2_cousin_31 ?_
        refine au_if_eq (tgt := 39) dX2_cousin_34 (by decide) (fun c34 => ?_) (fun c34 => ?_)
        · have c34 := au_b0 c34
          refine au_aload_n dX2_cousin_39 rfl ?_
          refine au_getf (C := RX2) (T := TX2) (N := 35) in_X2 (by decide) rfl 0 (by decide) rfl rfl q1359 rfl dX2_cousin_40 (v := au_r MA) (congrArg au_q (fx_MO_0 hF)) ?_
          refine au_bipush dX2_cousin_43 rfl rfl ?_
          refine au_iload_n dX2_cousin_45 rfl ?_
          refine au_iadd dX2_cousin_46 (by omega) (by omega) ?_
          refine au_dup2 dX2_cousin_47 rfl rfl ?_
          refine au_iald dX2_cousin_48 rfl (by omega) (by show _ < ((4544 : Nat) : Int); omega) (v := au_i (Co o)) (congrArg au_i (hCo _ (by omega) (by omega))) ?_
          refine au_iconst dX2_cousin_49 rfl rfl ?_
          refine au_iload_n dX2_cousin_50 rfl ?_
          refine au_ishl dX2_cousin_51 ?_
          refine au_ior dX2_cousin_52 ?_
          refine au_iast dX2_cousin_53 rfl (by decide) (by omega) (by show _ < ((4544 : Nat) : Int); omega) (M' := ((au_up mi MA (110 + o) (au_or (Co o) (au_shl 1 t))), si, hi, sl, r, nx)) (by rfl) ?_
          refine au_aload_n dX2_cousin_54 rfl ?_
          refine au_getf (C := RX2) (T := TX2) (N := 35) in_X2 (by decide) rfl 0 (by decide) rfl rfl q1359 rfl dX2_cousin_55 (v := au_r MA) (congrArg au_q (fx_MO_0 hF)) ?_
          refine au_bipush dX2_cousin_58 rfl rfl ?_
          refine au_iload_n dX2_cousin_60 rfl ?_
          refine au_iadd dX2_cousin_61 (by omega) (by omega) ?_
          refine au_dup2 dX2_cousin_62 rfl rfl ?_
          refine au_iald dX2_cousin_63 rfl (by omega) (by show _ < ((4544 : Nat) : Int); omega) (v := au_i (Co t)) (congrArg au_i ((au_up_ne mi _ (fun q => by have := q.2; omega)).trans (hCo t (by omega) (by omega)))) ?_
          refine au_iconst dX2_cousin_64 rfl rfl ?_
          refine au_iload_n dX2_cousin_65 rfl ?_
          refine au_ishl dX2_cousin_66 ?_
          refine au_ior dX2_cousin_67 ?_
          refine au_iast dX2_cousin_68 rfl (by decide) (by omega) (by show _ < ((4544 : Nat) : Int); omega) (M' := ((au_up (au_up mi MA (110 + o) (au_or (Co o) (au_shl 1 t))) MA (110 + t) (au_or (Co t) (au_shl 1 o))), si, hi, sl, r, nx)) (by rfl) ?_
          refine au_iconst dX2_cousin_69 rfl rfl ?_
          exact au_zret dX2_cousin_70 rfl (Or.inr rfl) rfl (Nat.le_of_ble_eq_true rfl) (Nat.le_of_ble_eq_true rfl) (by first | exact Or.inl ⟨⟨by omega, by omega, by assumption, by assumption⟩, rfl, rfl⟩ | exact Or.inr ⟨fun z => by obtain ⟨z1, z2, z3, z4⟩ := z; first | omega | exact absurd (by assumption) z4, rfl, rfl⟩)
        · have c34 := au_b1 c34
          refine au_iconst dX2_cousin_37 rfl rfl ?_
          exact au_zret dX2_cousin_38 rfl (Or.inl rfl) rfl (Nat.le_of_ble_eq_true rfl) (Nat.le_of_ble_eq_true rfl) (by first | exact Or.inl ⟨⟨by omega, by omega, by assumption, by assumption⟩, rfl, rfl⟩ | exact Or.inr ⟨fun z => by obtain ⟨z1, z2, z3, z4⟩ := z; first | omega | exact absurd (by assumption) z4, rfl, rfl⟩)
