/-! LAWS about an apology of a row (printed by tools/m47.py) -/
set_option maxRecDepth 100000
set_option maxHeartbeats 4000000

/-- an apology's numbers within bounds -/
def ApIn (R : Int → Int) (n a : Int) : Prop :=
  (0 ≤ R (3 + 7 * a + 0) ∧ R (3 + 7 * a + 0) < n) ∧ (0 ≤ R (3 + 7 * a + 1) ∧ R (3 + 7 * a + 1) < n) ∧ (0 ≤ R (3 + 7 * a + 2) ∧ R (3 + 7 * a + 2) < n) ∧ (0 ≤ R (3 + 7 * a + 3) ∧ R (3 + 7 * a + 3) ≤ 9999) ∧ (0 ≤ R (3 + 7 * a + 4) ∧ R (3 + 7 * a + 4) ≤ 2) ∧ (0 ≤ R (3 + 7 * a + 5) ∧ R (3 + 7 * a + 5) ≤ 9999)
/-- who is above whom in an apology -/
def ApBel (R : Int → Int) (B : Int → Int) (a : Int) : Prop :=
  below B (R (3 + 7 * a + 0)) (R (3 + 7 * a + 1)) ∧ (R (3 + 7 * a + 4) = 0 → below B (R (3 + 7 * a + 2)) (R (3 + 7 * a + 1))) ∧ (R (3 + 7 * a + 4) = 1 → below B (R (3 + 7 * a + 0)) (R (3 + 7 * a + 2)))
/-- a row's numbers within bounds -/
def RowIn (R : Int → Int) (n : Int) : Prop :=
  (0 ≤ R 0 ∧ R 0 ≤ 9999) ∧ (0 ≤ R 1 ∧ R 1 < 30539) ∧ (0 ≤ R 2 ∧ R 2 ≤ 10) ∧ (0 ≤ R 83 ∧ R 83 ≤ 30) ∧ ∀ a, 0 ≤ a → a < R 2 → ApIn R n a
/-- a row that is well formed -/
def RowOK (R : Int → Int) (n : Int) (B : Int → Int) : Prop := RowIn R n ∧ ∀ a, 0 ≤ a → a < R 2 → ApBel R B a
/-- the names by which a law about an apology is asked -/
def nmA (B Pr : Int → Int) (n : Int) (R : Int → Int) (a who : Int) : Int → Int := nmF B Pr n (R 0) (R (3 + 7 * a + 3)) who (R (3 + 7 * a + 0)) (R (3 + 7 * a + 1)) (R 0 - R (3 + 7 * a + 5)) (dkN (fun k w => R (3 + 7 * k + w)) who a (R 2).toNat)
def lawA (n : Int) (B Pr : Int → Int) (Lw : au_Lw) (R : Int → Int) (a who : Int) : Int := lawV Lw 0 (nmA B Pr n R a who) (Pr who + 1) 999
def lawP (n : Int) (B Pr : Int → Int) (Lw : au_Lw) (R : Int → Int) (a who : Int) : Int := lawV Lw 1 (nmA B Pr n R a who) (10 - Pr who) 10
def lawW (n : Int) (B Pr : Int → Int) (Lw : au_Lw) (R : Int → Int) (a who : Int) : Int := lawV Lw 2 (nmA B Pr n R a who) (R (3 + 7 * a + 3) / 2) 9999
theorem lawV_bd (Lw : au_Lw) (l : Nat) (nm : Int → Int) (w : Int) {top : Int} (h : 0 ≤ top) : 0 ≤ lawV Lw l nm w top ∧ lawV Lw l nm w top ≤ top := by
  unfold lawV; omega
/-- the text that is chosen -/
def RuAt (r : au_A → Int → Option au_A) (mi : au_A → Int → Int) (t : au_A) : Prop := (mi XNn 2 = -1 ∧ t = (190, 0, 60)) ∨ ((0 ≤ mi XNn 2 ∧ mi XNn 2 < 4) ∧ r XNtext (mi XNn 2) = some t)
/-- what laws stand on, of ApologyUp -/
def EnX (r : au_A → Int → Option au_A) (hi mi : au_A → Int → Int) (d : Nat) (n : Int) (B Pr : Int → Int) (Lw : au_Lw) : Prop :=
  mi XNn 0 = n ∧ (∀ o, 0 ≤ o → o < 10 → mi XNboss o = B o) ∧ Bs B n ∧ (∀ o, 0 ≤ o → o < 10 → mi XNpride o = Pr o) ∧ (∀ o, 0 ≤ o → o < n → 0 ≤ Pr o ∧ Pr o ≤ 9) ∧ ∃ t, RuAt r mi t ∧ TxN r hi d t Lw
theorem EnX.row {r : au_A → Int → Option au_A} {hi mi : au_A → Int → Int} {d : Nat} {n : Int} {B Pr : Int → Int} {Lw : au_Lw} (h : EnX r hi mi d n B Pr Lw) (q : Nat) (hq : q = 1003 ∨ q = 1107) (R : Int → Int) : EnX r hi (rowS mi (q, 204, 40) R) d n B Pr Lw := by
  have e1 : rowS mi (q, 204, 40) R XNn = mi XNn := rowS_neF _ _ (by rcases hq with rfl | rfl <;> decide)
  have e2 : rowS mi (q, 204, 40) R XNboss = mi XNboss := rowS_neF _ _ (by rcases hq with rfl | rfl <;> decide)
  have e3 : rowS mi (q, 204, 40) R XNpride = mi XNpride := rowS_neF _ _ (by rcases hq with rfl | rfl <;> decide)
  unfold EnX RuAt
  rw [e1, e2, e3]
  exact h

theorem kX0_rules (G : au_G) (t : au_A) (mi si hi sl : au_A → Int → Int) (r : au_A → Int → Option au_A) (nx : Nat) (hF : Fix r) (hRu : RuAt r mi t) : au_Ctr G yX0_rules cX0_rules 1 (some (.object "ApologyUp$Text")) 0 0 0 [au_r XO] (mi, si, hi, sl, r, nx) (au_pure (au_r t) (mi, si, hi, sl, r, nx)) := by
  refine au_of (by decide) (Nat.le_of_ble_eq_true rfl) ?_
  show au_Go G _ _ 0 [some (au_r XO)] [] (mi, si, hi, sl, r, nx) 0 0
  rcases hRu with ⟨hu, rfl⟩ | ⟨⟨hu1, hu2⟩, hu3⟩
  · refine au_aload_n dX0_rules_0 rfl ?_
    refine au_getf (C := RX0) (T := TX0) (N := 15) in_X0 (by decide) rfl 0 (by decide) rfl rfl q245 rfl dX0_rules_1 (v := au_r XN) (congrArg au_q (fx_XO_0 hF)) ?_
    refine au_getN (C := RX1) (T := TX1) (N := 11) in_X1 (by decide) rfl 0 (by decide) rfl rfl q187 rfl dX0_rules_4 (v := au_r XNn) (congrArg au_q (fx_XN_0 hF)) ?_
    refine au_iconst dX0_rules_7 rfl rfl ?_
    refine au_iald dX0_rules_8 rfl (by omega) (by show _ < ((6 : Nat) : Int); omega) (v := au_i (mi XNn 2)) (by rfl) ?_
    refine au_iconst dX0_rules_9 rfl rfl ?_
    refine au_icmp_ne (tgt := 19) dX0_rules_10 (by decide) (fun c10 => ?_) (fun c10 => ?_)
    · exact absurd hu c10
    · refine au_gets (C := "ApologyUp") (n := "NOTHING") (d := "LApologyUp$Text;") (v := au_r (190, 0, 60)) (List.mem_of_getElem? (i := 0) rfl) (by exact ⟨by decide, by decide⟩) rfl q924 dX0_rules_13 ?_
      show au_Go G _ _ 16 [some (au_r XO)] [au_r (190, 0, 60)] (mi, si, hi, sl, r, nx) 0 0
      refine au_goto (tgt := 36) dX0_rules_16 (by decide) ?_
      exact au_aret dX0_rules_36 rfl (Or.inl ⟨_, rfl⟩) rfl (Nat.le_of_ble_eq_true rfl) (Nat.le_of_ble_eq_true rfl) (⟨rfl, rfl⟩)
  · refine au_aload_n dX0_rules_0 rfl ?_
    refine au_getf (C := RX0) (T := TX0) (N := 15) in_X0 (by decide) rfl 0 (by decide) rfl rfl q245 rfl dX0_rules_1 (v := au_r XN) (congrArg au_q (fx_XO_0 hF)) ?_
    refine au_getN (C := RX1) (T := TX1) (N := 11) in_X1 (by decide) rfl 0 (by decide) rfl rfl q187 rfl dX0_rules_4 (v := au_r XNn) (congrArg au_q (fx_XN_0 hF)) ?_
    refine au_iconst dX0_rules_7 rfl rfl ?_
    refine au_iald dX0_rules_8 rfl (by omega) (by show _ < ((6 : Nat) : Int); omega) (v := au_i (mi XNn 2)) (by rfl) ?_
    refine au_iconst dX0_rules_9 rfl rfl ?_
    refine au_icmp_ne (tgt := 19) dX0_rules_10 (by decide) (fun c10 => ?_) (fun c10 => ?_)
    · refine au_aload_n dX0_rules_19 rfl ?_
      refine au_getf (C := RX0) (T := TX0) (N := 15) in_X0 (by decide) rfl 0 (by decide) rfl rfl q245 rfl dX0_rules_20 (v := au_r XN) (congrArg au_q (fx_XO_0 hF)) ?_
      refine au_getN (C := RX1) (T := TX1) (N := 11) in_X1 (by decide) rfl 10 (by decide) rfl rfl q207 rfl dX0_rules_23 (v := au_r XNtext) (congrArg au_q (fx_XN_10 hF)) ?_
      refine au_aload_n dX0_rules_26 rfl ?_
      refine au_getf (C := RX0) (T := TX0) (N := 15) in_X0 (by decide) rfl 0 (by decide) rfl rfl q245 rfl dX0_rules_27 (v := au_r XN) (congrArg au_q (fx_XO_0 hF)) ?_
      refine au_getN (C := RX1) (T := TX1) (N := 11) in_X1 (by decide) rfl 0 (by decide) rfl rfl q187 rfl dX0_rules_30 (v := au_r XNn) (congrArg au_q (fx_XN_0 hF)) ?_
      refine au_iconst dX0_rules_33 rfl rfl ?_
      refine au_iald dX0_rules_34 rfl (by omega) (by show _ < ((6 : Nat) : Int); omega) (v := au_i (mi XNn 2)) (by rfl) ?_
      refine au_aald dX0_rules_35 (by decide) (by decide) (by omega) (by show _ < ((4 : Nat) : Int); omega) (v := au_r t) (congrArg au_q (hu3)) ?_
      exact au_aret dX0_rules_36 rfl (Or.inl ⟨_, rfl⟩) rfl (Nat.le_of_ble_eq_true rfl) (Nat.le_of_ble_eq_true rfl) (⟨rfl, rfl⟩)
    · exfalso; omega
theorem kX0_lawOf0 (G : au_G) (d : Nat) (n : Int) (B Pr : Int → Int) (Lw : au_Lw) (a who : Int) (q : Nat) (hq : q = 1003 ∨ q = 1107) (mi si hi sl : au_A → Int → Int) (r : au_A → Int → Option au_A) (nx : Nat) (hF : Fix r) (hX : EnX r hi mi d n B Pr Lw) (hR : RowIn (mi (q, 204, 40)) n) (ha : 0 ≤ a) (ha2 : a < (mi (q, 204, 40)) 2) (hw : 0 ≤ who) (hw2 : who < n) : au_Ctr G yX0_lawOf cX0_lawOf 6 (some .int) (d + 7) 0 0 [au_r XO, au_r (q, 204, 40), au_i a, au_i who, au_i 0] (mi, si, hi, sl, r, nx) (fun rv M' => rv = some (au_i (lawA n B Pr Lw (mi (q, 204, 40)) a who)) ∧ ∃ sj : au_A → Int → Int, M' = (mi, sj, hi, sl, r, nx) ∧ ∀ A, A ≠ XNames → sj A = si A) := by
  refine au_of (by decide) (Nat.le_of_ble_eq_true rfl) ?_
  obtain ⟨hN, hE, hB, hPr, hP9, tx, hRu, hTx⟩ := id hX
  have hb1 := hB.1
  have hb0 := hB.2.1
  obtain ⟨⟨r0, r0b⟩, ⟨r1, r1b⟩, ⟨r2, r2b⟩, ⟨r83, r83b⟩, rA⟩ := id hR
  obtain ⟨⟨f0, f0b⟩, ⟨t0, t0b⟩, ⟨p0, p0b⟩, ⟨s0, s0b⟩, ⟨w0, w0b⟩, ⟨g0, g0b⟩⟩ := id (rA a ha ha2)
  have hpw := hP9 who hw hw2
  have hdk := dkN_bd (fun k w => (mi (q, 204, 40)) (3 + 7 * k + w)) who a ((mi (q, 204, 40)) 2).toNat
  have hnI : ∀ k, 0 ≤ k → k < 19 → I32 (nmA B Pr n (mi (q, 204, 40)) a who k) := nmF_I hB hw hw2 hpw (by unfold I32; omega) (by unfold I32; omega) (by unfold I32; omega) (by unfold I32; omega) (by unfold I32; omega) (by unfold I32; omega)
  show au_Go G _ _ 0 [some (au_r XO), some (au_r (q, 204, 40)), some (au_i a), some (au_i who), some (au_i 0), none] [] (mi, si, hi, sl, r, nx) 0 0
  refine au_aload_n dX0_lawOf_0 rfl ?_
  refine au_aload_n dX0_lawOf_1 rfl ?_
  refine au_iconst dX0_lawOf_2 rfl rfl ?_
  refine au_iald dX0_lawOf_3 rfl (by omega) (by show _ < ((204 : Nat) : Int); omega) (v := au_i (mi (q, 204, 40) 0)) (congrArg au_i (au_gi_m (au_reg_row hq _))) ?_
  refine au_iload_n dX0_lawOf_4 rfl ?_
  refine au_aload_n dX0_lawOf_5 rfl ?_
  refine au_iload_n dX0_lawOf_6 rfl ?_
  refine au_iconst dX0_lawOf_7 rfl rfl ?_
  refine au_callSp (n := 2) (kX0_at G a 3 (mi, si, hi, sl, r, nx) (by omega) (by omega) (by omega) (by omega)) (lw_S q898 q899 q130 q900) (by decide +kernel) rfl rfl rfl (Nat.le_of_ble_eq_true rfl) (by show _ ≤ d + 7; omega) (by show _ ≤ 80 * (d + 7); omega) (Nat.le_of_ble_eq_true rfl) (Nat.le_of_ble_eq_true rfl) dX0_lawOf_8 ?_
  refine au_iald dX0_lawOf_11 rfl (by omega) (by show _ < ((204 : Nat) : Int); omega) (v := au_i (mi (q, 204, 40) (3 + 7 * a + 3))) (congrArg au_i (au_gi_m (au_reg_row hq _))) ?_
  refine au_aload_n dX0_lawOf_12 rfl ?_
  refine au_iload_n dX0_lawOf_13 rfl ?_
  refine au_iconst dX0_lawOf_14 rfl rfl ?_
  refine au_callSp (n := 2) (kX0_at G a 0 (mi, si, hi, sl, r, nx) (by omega) (by omega) (by omega) (by omega)) (lw_S q898 q899 q130 q900) (by decide +kernel) rfl rfl rfl (Nat.le_of_ble_eq_true rfl) (by show _ ≤ d + 7; omega) (by show _ ≤ 80 * (d + 7); omega) (Nat.le_of_ble_eq_true rfl) (Nat.le_of_ble_eq_true rfl) dX0_lawOf_15 ?_
  refine au_iald dX0_lawOf_18 rfl (by omega) (by show _ < ((204 : Nat) : Int); omega) (v := au_i (mi (q, 204, 40) (3 + 7 * a + 0))) (congrArg au_i (au_gi_m (au_reg_row hq _))) ?_
  refine au_aload_n dX0_lawOf_19 rfl ?_
  refine au_iload_n dX0_lawOf_20 rfl ?_
  refine au_iconst dX0_lawOf_21 rfl rfl ?_
  refine au_callSp (n := 2) (kX0_at G a 1 (mi, si, hi, sl, r, nx) (by omega) (by omega) (by omega) (by omega)) (lw_S q898 q899 q130 q900) (by decide +kernel) rfl rfl rfl (Nat.le_of_ble_eq_true rfl) (by show _ ≤ d + 7; omega) (by show _ ≤ 80 * (d + 7); omega) (Nat.le_of_ble_eq_true rfl) (Nat.le_of_ble_eq_true rfl) dX0_lawOf_22 ?_
  refine au_iald dX0_lawOf_25 rfl (by omega) (by show _ < ((204 : Nat) : Int); omega) (v := au_i (mi (q, 204, 40) (3 + 7 * a + 1))) (congrArg au_i (au_gi_m (au_reg_row hq _))) ?_
  refine au_callV (n := 5) (kX0_namesOf G ((mi (q, 204, 40)) 0) ((mi (q, 204, 40)) (3 + 7 * a + 3)) who ((mi (q, 204, 40)) (3 + 7 * a + 0)) ((mi (q, 204, 40)) (3 + 7 * a + 1)) mi si hi sl r nx hF n hN B hE hB Pr hPr hw hw2) (lw_V q912 q914 qs28 q130 q915) rfl (by decide +kernel) (by decide) (T := TX0) (N := 15) rfl rfl rfl rfl (Nat.le_of_ble_eq_true rfl) (by show _ ≤ d + 7; omega) (by show _ ≤ 80 * (d + 7); omega) (Nat.le_of_ble_eq_true rfl) (Nat.le_of_ble_eq_true rfl) dX0_lawOf_26 (fun rv_ M_ hp_ => ?_)
  obtain ⟨rfl, s1, rfl, hg1, hg2⟩ := hp_
  show au_Go G _ _ 29 [some (au_r XO), some (au_r (q, 204, 40)), some (au_i a), some (au_i who), some (au_i 0), none] [] (mi, s1, hi, sl, r, nx) 0 0
  refine au_aload_n dX0_lawOf_29 rfl ?_
  refine au_getf (C := RX0) (T := TX0) (N := 15) in_X0 (by decide) rfl 6 (by decide) rfl rfl q251 rfl dX0_lawOf_30 (v := au_r XNames) (congrArg au_q (fx_XO_6 hF)) ?_
  refine au_bipush dX0_lawOf_33 rfl rfl ?_
  refine au_aload_n dX0_lawOf_35 rfl ?_
  refine au_iconst dX0_lawOf_36 rfl rfl ?_
  refine au_iald dX0_lawOf_37 rfl (by omega) (by show _ < ((204 : Nat) : Int); omega) (v := au_i (mi (q, 204, 40) 0)) (congrArg au_i (au_gi_m (au_reg_row hq _))) ?_
  refine au_aload_n dX0_lawOf_38 rfl ?_
  refine au_iload_n dX0_lawOf_39 rfl ?_
  refine au_iconst dX0_lawOf_40 rfl rfl ?_
  refine au_callSp (n := 2) (kX0_at G a 5 (mi, s1, hi, sl, r, nx) (by omega) (by omega) (by omega) (by omega)) (lw_S q898 q899 q130 q900) (by decide +kernel) rfl rfl rfl (Nat.le_of_ble_eq_true rfl) (by show _ ≤ d + 7; omega) (by show _ ≤ 80 * (d + 7); omega) (Nat.le_of_ble_eq_true rfl) (Nat.le_of_ble_eq_true rfl) dX0_lawOf_41 ?_
  refine au_iald dX0_lawOf_44 rfl (by omega) (by show _ < ((204 : Nat) : Int); omega) (v := au_i (mi (q, 204, 40) (3 + 7 * a + 5))) (congrArg au_i (au_gi_m (au_reg_row hq _))) ?_
  refine au_isub dX0_lawOf_45 (by omega) (by omega) ?_
  refine au_iast dX0_lawOf_46 rfl (by decide) (by omega) (by show _ < ((19 : Nat) : Int); omega) (M' := (mi, (au_up s1 XNames 7 ((mi (q, 204, 40) 0) - (mi (q, 204, 40) (3 + 7 * a + 5)))), hi, sl, r, nx)) (by rfl) ?_
  refine au_aload_n dX0_lawOf_47 rfl ?_
  refine au_getf (C := RX0) (T := TX0) (N := 15) in_X0 (by decide) rfl 6 (by decide) rfl rfl q251 rfl dX0_lawOf_48 (v := au_r XNames) (congrArg au_q (fx_XO_6 hF)) ?_
  refine au_bipush dX0_lawOf_51 rfl rfl ?_
  refine au_iconst dX0_lawOf_53 rfl rfl ?_
  refine au_iast dX0_lawOf_54 rfl (by decide) (by omega) (by show _ < ((19 : Nat) : Int); omega) (M' := (mi, (au_up (au_up s1 XNames 7 ((mi (q, 204, 40) 0) - (mi (q, 204, 40) (3 + 7 * a + 5)))) XNames 8 0), hi, sl, r, nx)) (by rfl) ?_
  refine au_iconst dX0_lawOf_55 rfl rfl ?_
  refine au_istore dX0_lawOf_56 (show 5 < 6 by decide) ?_
  show au_Go G _ _ 58 [some (au_r XO), some (au_r (q, 204, 40)), some (au_i a), some (au_i who), some (au_i 0), some (au_i 0)] [] (mi, (au_up (au_up s1 XNames 7 ((mi (q, 204, 40) 0) - (mi (q, 204, 40) (3 + 7 * a + 5)))) XNames 8 0), hi, sl, r, nx) 0 0
  have hl : ∀ (f : Nat) (j : Nat) (sj : au_A → Int → Int), (j : Int) ≤ (mi (q, 204, 40)) 2 → (∀ a, a ≠ XNames → sj a = si a) → (∀ k, 0 ≤ k → k < 19 → k ≠ 8 → sj XNames k = nmA B Pr n (mi (q, 204, 40)) a who k) → sj XNames 8 = dkN (fun k w => (mi (q, 204, 40)) (3 + 7 * k + w)) who a j → 10 - j < f → au_Go G (yX0_lawOf.cls, cX0_lawOf, 6, (some .int), au_rm (d + 7) 0 0, yX0_lawOf.name) (au_QM G (au_rm (d + 7) 0 0) (fun rv M' => rv = some (au_i (lawA n B Pr Lw (mi (q, 204, 40)) a who)) ∧ ∃ sj : au_A → Int → Int, M' = (mi, sj, hi, sl, r, nx) ∧ ∀ A, A ≠ XNames → sj A = si A)) 58 [some (au_r XO), some (au_r (q, 204, 40)), some (au_i a), some (au_i who), some (au_i 0), some (au_i (j : Int))] [] (mi, sj, hi, sl, r, nx) 0 0 := by
    intro f
    induction f with
    | zero => intro j sj hj g1 g2 g8 hf; exfalso; omega
    | succ f ih =>
      intro j sj hj g1 g2 g8 hf
      have hdj := dkN_bd (fun k w => (mi (q, 204, 40)) (3 + 7 * k + w)) who a j
      refine au_iload dX0_lawOf_58 rfl ?_
      refine au_aload_n dX0_lawOf_60 rfl ?_
      refine au_iconst dX0_lawOf_61 rfl rfl ?_
      refine au_iald dX0_lawOf_62 rfl (by omega) (by show _ < ((204 : Nat) : Int); omega) (v := au_i (mi (q, 204, 40) 2)) (congrArg au_i (au_gi_m (au_reg_row hq _))) ?_
      refine au_icmp_ge (tgt := 117) dX0_lawOf_63 (by decide) (fun c63 => ?_) (fun c63 => ?_)
      · have hj2 : j = ((mi (q, 204, 40)) 2).toNat := by omega
        have hnm : ∀ k, 0 ≤ k → k < 19 → sj XNames k = nmA B Pr n (mi (q, 204, 40)) a who k := fun k k0 k1 => by
          by_cases e8 : k = 8
          · rw [e8, g8, hj2]; rfl
          · exact g2 k k0 k1 e8
        have hIC : ICm mi := trivial
        refine au_iload dX0_lawOf_117 rfl ?_
        refine au_if_ne (tgt := 147) dX0_lawOf_119 (by decide) (fun c119 => ?_) (fun c119 => ?_)
        · exact absurd c119 (by decide)
        · refine au_aload_n dX0_lawOf_122 rfl ?_
          refine au_aload_n dX0_lawOf_123 rfl ?_
          refine au_callVp (n := 0) (kX0_rules G tx mi sj hi sl r nx hF hRu) (lw_V q920 q922 qs30 q130 q923) rfl (by decide +kernel) (by decide) (T := TX0) (N := 15) rfl rfl rfl rfl (Nat.le_of_ble_eq_true rfl) (by show _ ≤ d + 7; omega) (by show _ ≤ 80 * (d + 7); omega) (Nat.le_of_ble_eq_true rfl) (Nat.le_of_ble_eq_true rfl) dX0_lawOf_124 ?_
          refine au_iload dX0_lawOf_127 rfl ?_
          refine au_aload_n dX0_lawOf_129 rfl ?_
          refine au_getf (C := RX0) (T := TX0) (N := 15) in_X0 (by decide) rfl 6 (by decide) rfl rfl q251 rfl dX0_lawOf_130 (v := au_r XNames) (congrArg au_q (fx_XO_6 hF)) ?_
          refine au_iconst dX0_lawOf_133 rfl rfl ?_
          refine au_iald dX0_lawOf_134 rfl (by omega) (by show _ < ((19 : Nat) : Int); omega) (v := au_i (Pr who)) (congrArg au_i (g2 3 (by decide) (by decide) (by decide))) ?_
          refine au_iconst dX0_lawOf_135 rfl rfl ?_
          refine au_iadd dX0_lawOf_136 (by omega) (by omega) ?_
          refine au_iconst dX0_lawOf_137 rfl rfl ?_
          refine au_sipush dX0_lawOf_138 rfl rfl ?_
          refine au_callVp (n := 5) (kX0_law G d 0 tx (Pr who + 1) 999 Lw mi sj hi sl r nx hF hIC (nmA B Pr n (mi (q, 204, 40)) a who) hnm hnI hTx (by decide) (by decide) (by decide)) (lw_V q926 q928 qs31 q130 q929) rfl (by decide +kernel) (by decide) (T := TX0) (N := 15) rfl rfl rfl rfl (Nat.le_of_ble_eq_true rfl) (by show _ ≤ d + 7; omega) (by show _ ≤ 80 * (d + 7); omega) (Nat.le_of_ble_eq_true rfl) (Nat.le_of_ble_eq_true rfl) dX0_lawOf_141 ?_
          refine au_goto (tgt := 200) dX0_lawOf_144 (by decide) ?_
          exact au_iret dX0_lawOf_200 rfl rfl (Nat.le_of_ble_eq_true rfl) (Nat.le_of_ble_eq_true rfl) (⟨rfl, sj, rfl, g1⟩)
      · refine au_aload_n dX0_lawOf_66 rfl ?_
        refine au_getf (C := RX0) (T := TX0) (N := 15) in_X0 (by decide) rfl 6 (by decide) rfl rfl q251 rfl dX0_lawOf_67 (v := au_r XNames) (congrArg au_q (fx_XO_6 hF)) ?_
        refine au_bipush dX0_lawOf_70 rfl rfl ?_
        refine au_dup2 dX0_lawOf_72 rfl rfl ?_
        refine au_iald dX0_lawOf_73 rfl (by omega) (by show _ < ((19 : Nat) : Int); omega) (v := au_i (dkN (fun k w => (mi (q, 204, 40)) (3 + 7 * k + w)) who a j)) (congrArg au_i g8) ?_
        refine au_iload dX0_lawOf_74 rfl ?_
        refine au_iload_n dX0_lawOf_76 rfl ?_
        refine au_icmp_eq (tgt := 108) dX0_lawOf_77 (by decide) (fun c77 => ?_) (fun c77 => ?_)
        · refine au_iconst dX0_lawOf_108 rfl rfl ?_
          refine au_iadd dX0_lawOf_109 (by omega) (by omega) ?_
          refine au_iast dX0_lawOf_110 rfl (by decide) (by omega) (by show _ < ((19 : Nat) : Int); omega) (M' := (mi, (au_up sj XNames 8 ((dkN (fun k w => (mi (q, 204, 40)) (3 + 7 * k + w)) who a j) + 0)), hi, sl, r, nx)) (by rfl) ?_
          refine au_iinc dX0_lawOf_111 rfl (show 5 < 6 by decide) (by omega) (by omega) (by decide) (by decide) ?_
          show au_Go G _ _ 114 [some (au_r XO), some (au_r (q, 204, 40)), some (au_i a), some (au_i who), some (au_i 0), some (au_i ((j : Int) + 1))] [] (mi, (au_up sj XNames 8 ((dkN (fun k w => (mi (q, 204, 40)) (3 + 7 * k + w)) who a j) + 0)), hi, sl, r, nx) 0 0
          refine au_goto (tgt := 58) dX0_lawOf_114 (by decide) ?_
          refine ih (j + 1) _ (by omega) (fun a ha => ?_) (fun k k0 k1 k8 => ?_) ?_ (by omega)
          · rw [← g1 a ha]; funext q; exact au_up_ne _ _ (fun z => ha z.1)
          · exact (au_up_ne _ _ (fun z => k8 z.2)).trans (g2 k k0 k1 k8)
          · refine (up_at' _ _ _ rfl).trans ?_
            show _ = _ + _
            first
            | rw [if_pos ⟨by omega, by omega, by omega⟩]
            | rw [if_neg (by intro z; have z1 := z.1; have z2 := z.2.1; have z3 := z.2.2; simp only at z1 z2 z3; omega)]
        · refine au_aload_n dX0_lawOf_80 rfl ?_
          refine au_iload dX0_lawOf_81 rfl ?_
          refine au_iconst dX0_lawOf_83 rfl rfl ?_
          refine au_callSp (n := 2) (kX0_at G (j : Int) 4 (mi, sj, hi, sl, r, nx) (by omega) (by omega) (by omega) (by omega)) (lw_S q898 q899 q130 q900) (by decide +kernel) rfl rfl rfl (Nat.le_of_ble_eq_true rfl) (by show _ ≤ d + 7; omega) (by show _ ≤ 80 * (d + 7); omega) (Nat.le_of_ble_eq_true rfl) (Nat.le_of_ble_eq_true rfl) dX0_lawOf_84 ?_
          refine au_iald dX0_lawOf_87 rfl (by omega) (by show _ < ((204 : Nat) : Int); omega) (v := au_i (mi (q, 204, 40) (3 + 7 * (j : Int) + 4))) (congrArg au_i (au_gi_m (au_reg_row hq _))) ?_
          refine au_iconst dX0_lawOf_88 rfl rfl ?_
          refine au_icmp_eq (tgt := 108) dX0_lawOf_89 (by decide) (fun c89 => ?_) (fun c89 => ?_)
          · refine au_iconst dX0_lawOf_108 rfl rfl ?_
            refine au_iadd dX0_lawOf_109 (by omega) (by omega) ?_
            refine au_iast dX0_lawOf_110 rfl (by decide) (by omega) (by show _ < ((19 : Nat) : Int); omega) (M' := (mi, (au_up sj XNames 8 ((dkN (fun k w => (mi (q, 204, 40)) (3 + 7 * k + w)) who a j) + 0)), hi, sl, r, nx)) (by rfl) ?_
            refine au_iinc dX0_lawOf_111 rfl (show 5 < 6 by decide) (by omega) (by omega) (by decide) (by decide) ?_
            show au_Go G _ _ 114 [some (au_r XO), some (au_r (q, 204, 40)), some (au_i a), some (au_i who), some (au_i 0), some (au_i ((j : Int) + 1))] [] (mi, (au_up sj XNames 8 ((dkN (fun k w => (mi (q, 204, 40)) (3 + 7 * k + w)) who a j) + 0)), hi, sl, r, nx) 0 0
            refine au_goto (tgt := 58) dX0_lawOf_114 (by decide) ?_
            refine ih (j + 1) _ (by omega) (fun a ha => ?_) (fun k k0 k1 k8 => ?_) ?_ (by omega)
            · rw [← g1 a ha]; funext q; exact au_up_ne _ _ (fun z => ha z.1)
            · exact (au_up_ne _ _ (fun z => k8 z.2)).trans (g2 k k0 k1 k8)
            · refine (up_at' _ _ _ rfl).trans ?_
              show _ = _ + _
              first
              | rw [if_pos ⟨by omega, by omega, by omega⟩]
              | rw [if_neg (by intro z; have z1 := z.1; have z2 := z.2.1; have z3 := z.2.2; simp only at z1 z2 z3; omega)]
          · refine au_aload_n dX0_lawOf_92 rfl ?_
            refine au_iload dX0_lawOf_93 rfl ?_
            refine au_iconst dX0_lawOf_95 rfl rfl ?_
            refine au_callSp (n := 2) (kX0_at G (j : Int) 2 (mi, sj, hi, sl, r, nx) (by omega) (by omega) (by omega) (by omega)) (lw_S q898 q899 q130 q900) (by decide +kernel) rfl rfl rfl (Nat.le_of_ble_eq_true rfl) (by show _ ≤ d + 7; omega) (by show _ ≤ 80 * (d + 7); omega) (Nat.le_of_ble_eq_true rfl) (Nat.le_of_ble_eq_true rfl) dX0_lawOf_96 ?_
            refine au_iald dX0_lawOf_99 rfl (by omega) (by show _ < ((204 : Nat) : Int); omega) (v := au_i (mi (q, 204, 40) (3 + 7 * (j : Int) + 2))) (congrArg au_i (au_gi_m (au_reg_row hq _))) ?_
            refine au_iload_n dX0_lawOf_100 rfl ?_
            refine au_icmp_ne (tgt := 108) dX0_lawOf_101 (by decide) (fun c101 => ?_) (fun c101 => ?_)
            · refine au_iconst dX0_lawOf_108 rfl rfl ?_
              refine au_iadd dX0_lawOf_109 (by omega) (by omega) ?_
              refine au_iast dX0_lawOf_110 rfl (by decide) (by omega) (by show _ < ((19 : Nat) : Int); omega) (M' := (mi, (au_up sj XNames 8 ((dkN (fun k w => (mi (q, 204, 40)) (3 + 7 * k + w)) who a j) + 0)), hi, sl, r, nx)) (by rfl) ?_
              refine au_iinc dX0_lawOf_111 rfl (show 5 < 6 by decide) (by omega) (by omega) (by decide) (by decide) ?_
              show au_Go G _ _ 114 [some (au_r XO), some (au_r (q, 204, 40)), some (au_i a), some (au_i who), some (au_i 0), some (au_i ((j : Int) + 1))] [] (mi, (au_up sj XNames 8 ((dkN (fun k w => (mi (q, 204, 40)) (3 + 7 * k + w)) who a j) + 0)), hi, sl, r, nx) 0 0
              refine au_goto (tgt := 58) dX0_lawOf_114 (by decide) ?_
              refine ih (j + 1) _ (by omega) (fun a ha => ?_) (fun k k0 k1 k8 => ?_) ?_ (by omega)
              · rw [← g1 a ha]; funext q; exact au_up_ne _ _ (fun z => ha z.1)
              · exact (au_up_ne _ _ (fun z => k8 z.2)).trans (g2 k k0 k1 k8)
              · refine (up_at' _ _ _ rfl).trans ?_
                show _ = _ + _
                first
                | rw [if_pos ⟨by omega, by omega, by omega⟩]
                | rw [if_neg (by intro z; have z1 := z.1; have z2 := z.2.1; have z3 := z.2.2; simp only at z1 z2 z3; omega)]
            · refine au_iconst dX0_lawOf_104 rfl rfl ?_
              refine au_goto (tgt := 109) dX0_lawOf_105 (by decide) ?_
              refine au_iadd dX0_lawOf_109 (by omega) (by omega) ?_
              refine au_iast dX0_lawOf_110 rfl (by decide) (by omega) (by show _ < ((19 : Nat) : Int); omega) (M' := (mi, (au_up sj XNames 8 ((dkN (fun k w => (mi (q, 204, 40)) (3 + 7 * k + w)) who a j) + 1)), hi, sl, r, nx)) (by rfl) ?_
              refine au_iinc dX0_lawOf_111 rfl (show 5 < 6 by decide) (by omega) (by omega) (by decide) (by decide) ?_
              show au_Go G _ _ 114 [some (au_r XO), some (au_r (q, 204, 40)), some (au_i a), some (au_i who), some (au_i 0), some (au_i ((j : Int) + 1))] [] (mi, (au_up sj XNames 8 ((dkN (fun k w => (mi (q, 204, 40)) (3 + 7 * k + w)) who a j) + 1)), hi, sl, r, nx) 0 0
              refine au_goto (tgt := 58) dX0_lawOf_114 (by decide) ?_
              refine ih (j + 1) _ (by omega) (fun a ha => ?_) (fun k k0 k1 k8 => ?_) ?_ (by omega)
              · rw [← g1 a ha]; funext q; exact au_up_ne _ _ (fun z => ha z.1)
              · exact (au_up_ne _ _ (fun z => k8 z.2)).trans (g2 k k0 k1 k8)
              · refine (up_at' _ _ _ rfl).trans ?_
                show _ = _ + _
                first
                | rw [if_pos ⟨by omega, by omega, by omega⟩]
                | rw [if_neg (by intro z; have z1 := z.1; have z2 := z.2.1; have z3 := z.2.2; simp only at z1 z2 z3; omega)]
  refine hl 11 0 _ (by omega) (fun A hA => ?_) (fun k k0 k1 k8 => ?_) ?_ (by omega)
  · rw [← hg1 A hA]
    funext q
    simp only [au_up]
    rw [if_neg (fun z => hA z.1), if_neg (fun z => hA z.1)]
  · simp only [au_up, true_and]
    rw [if_neg k8]
    by_cases e7 : k = 7
    · rw [if_pos e7, e7]; rfl
    · rw [if_neg e7]
      have := hg2 k k0 k1 e7 k8
      rw [this]
      unfold nmA nmF
      simp only [if_neg e7, if_neg k8]
  · simp only [au_up, true_and, if_true]
    rfl
theorem kX0_lawOf1 (G : au_G) (d : Nat) (n : Int) (B Pr : Int → Int) (Lw : au_Lw) (a who : Int) (q : Nat) (hq : q = 1003 ∨ q = 1107) (mi si hi sl : au_A → Int → Int) (r : au_A → Int → Option au_A) (nx : Nat) (hF : Fix r) (hX : EnX r hi mi d n B Pr Lw) (hR : RowIn (mi (q, 204, 40)) n) (ha : 0 ≤ a) (ha2 : a < (mi (q, 204, 40)) 2) (hw : 0 ≤ who) (hw2 : who < n) : au_Ctr G yX0_lawOf cX0_lawOf 6 (some .int) (d + 7) 0 0 [au_r XO, au_r (q, 204, 40), au_i a, au_i who, au_i 1] (mi, si, hi, sl, r, nx) (fun rv M' => rv = some (au_i (lawP n B Pr Lw (mi (q, 204, 40)) a who)) ∧ ∃ sj : au_A → Int → Int, M' = (mi, sj, hi, sl, r, nx) ∧ ∀ A, A ≠ XNames → sj A = si A) := by
  refine au_of (by decide) (Nat.le_of_ble_eq_true rfl) ?_
  obtain ⟨hN, hE, hB, hPr, hP9, tx, hRu, hTx⟩ := id hX
  have hb1 := hB.1
  have hb0 := hB.2.1
  obtain ⟨⟨r0, r0b⟩, ⟨r1, r1b⟩, ⟨r2, r2b⟩, ⟨r83, r83b⟩, rA⟩ := id hR
  obtain ⟨⟨f0, f0b⟩, ⟨t0, t0b⟩, ⟨p0, p0b⟩, ⟨s0, s0b⟩, ⟨w0, w0b⟩, ⟨g0, g0b⟩⟩ := id (rA a ha ha2)
  have hpw := hP9 who hw hw2
  have hdk := dkN_bd (fun k w => (mi (q, 204, 40)) (3 + 7 * k + w)) who a ((mi (q, 204, 40)) 2).toNat
  have hnI : ∀ k, 0 ≤ k → k < 19 → I32 (nmA B Pr n (mi (q, 204, 40)) a who k) := nmF_I hB hw hw2 hpw (by unfold I32; omega) (by unfold I32; omega) (by unfold I32; omega) (by unfold I32; omega) (by unfold I32; omega) (by unfold I32; omega)
  show au_Go G _ _ 0 [some (au_r XO), some (au_r (q, 204, 40)), some (au_i a), some (au_i who), some (au_i 1), none] [] (mi, si, hi, sl, r, nx) 0 0
  refine au_aload_n dX0_lawOf_0 rfl ?_
  refine au_aload_n dX0_lawOf_1 rfl ?_
  refine au_iconst dX0_lawOf_2 rfl rfl ?_
  refine au_iald dX0_lawOf_3 rfl (by omega) (by show _ < ((204 : Nat) : Int); omega) (v := au_i (mi (q, 204, 40) 0)) (congrArg au_i (au_gi_m (au_reg_row hq _))) ?_
  refine au_iload_n dX0_lawOf_4 rfl ?_
  refine au_aload_n dX0_lawOf_5 rfl ?_
  refine au_iload_n dX0_lawOf_6 rfl ?_
  refine au_iconst dX0_lawOf_7 rfl rfl ?_
  refine au_callSp (n := 2) (kX0_at G a 3 (mi, si, hi, sl, r, nx) (by omega) (by omega) (by omega) (by omega)) (lw_S q898 q899 q130 q900) (by decide +kernel) rfl rfl rfl (Nat.le_of_ble_eq_true rfl) (by show _ ≤ d + 7; omega) (by show _ ≤ 80 * (d + 7); omega) (Nat.le_of_ble_eq_true rfl) (Nat.le_of_ble_eq_true rfl) dX0_lawOf_8 ?_
  refine au_iald dX0_lawOf_11 rfl (by omega) (by show _ < ((204 : Nat) : Int); omega) (v := au_i (mi (q, 204, 40) (3 + 7 * a + 3))) (congrArg au_i (au_gi_m (au_reg_row hq _))) ?_
  refine au_aload_n dX0_lawOf_12 rfl ?_
  refine au_iload_n dX0_lawOf_13 rfl ?_
  refine au_iconst dX0_lawOf_14 rfl rfl ?_
  refine au_callSp (n := 2) (kX0_at G a 0 (mi, si, hi, sl, r, nx) (by omega) (by omega) (by omega) (by omega)) (lw_S q898 q899 q130 q900) (by decide +kernel) rfl rfl rfl (Nat.le_of_ble_eq_true rfl) (by show _ ≤ d + 7; omega) (by show _ ≤ 80 * (d + 7); omega) (Nat.le_of_ble_eq_true rfl) (Nat.le_of_ble_eq_true rfl) dX0_lawOf_15 ?_
  refine au_iald dX0_lawOf_18 rfl (by omega) (by show _ < ((204 : Nat) : Int); omega) (v := au_i (mi (q, 204, 40) (3 + 7 * a + 0))) (congrArg au_i (au_gi_m (au_reg_row hq _))) ?_
  refine au_aload_n dX0_lawOf_19 rfl ?_
  refine au_iload_n dX0_lawOf_20 rfl ?_
  refine au_iconst dX0_lawOf_21 rfl rfl ?_
  refine au_callSp (n := 2) (kX0_at G a 1 (mi, si, hi, sl, r, nx) (by omega) (by omega) (by omega) (by omega)) (lw_S q898 q899 q130 q900) (by decide +kernel) rfl rfl rfl (Nat.le_of_ble_eq_true rfl) (by show _ ≤ d + 7; omega) (by show _ ≤ 80 * (d + 7); omega) (Nat.le_of_ble_eq_true rfl) (Nat.le_of_ble_eq_true rfl) dX0_lawOf_22 ?_
  refine au_iald dX0_lawOf_25 rfl (by omega) (by show _ < ((204 : Nat) : Int); omega) (v := au_i (mi (q, 204, 40) (3 + 7 * a + 1))) (congrArg au_i (au_gi_m (au_reg_row hq _))) ?_
  refine au_callV (n := 5) (kX0_namesOf G ((mi (q, 204, 40)) 0) ((mi (q, 204, 40)) (3 + 7 * a + 3)) who ((mi (q, 204, 40)) (3 + 7 * a + 0)) ((mi (q, 204, 40)) (3 + 7 * a + 1)) mi si hi sl r nx hF n hN B hE hB Pr hPr hw hw2) (lw_V q912 q914 qs28 q130 q915) rfl (by decide +kernel) (by decide) (T := TX0) (N := 15) rfl rfl rfl rfl (Nat.le_of_ble_eq_true rfl) (by show _ ≤ d + 7; omega) (by show _ ≤ 80 * (d + 7); omega) (Nat.le_of_ble_eq_true rfl) (Nat.le_of_ble_eq_true rfl) dX0_lawOf_26 (fun rv_ M_ hp_ => ?_)
  obtain ⟨rfl, s1, rfl, hg1, hg2⟩ := hp_
  show au_Go G _ _ 29 [some (au_r XO), some (au_r (q, 204, 40)), some (au_i a), some (au_i who), some (au_i 1), none] [] (mi, s1, hi, sl, r, nx) 0 0
  refine au_aload_n dX0_lawOf_29 rfl ?_
  refine au_getf (C := RX0) (T := TX0) (N := 15) in_X0 (by decide) rfl 6 (by decide) rfl rfl q251 rfl dX0_lawOf_30 (v := au_r XNames) (congrArg au_q (fx_XO_6 hF)) ?_
  refine au_bipush dX0_lawOf_33 rfl rfl ?_
  refine au_aload_n dX0_lawOf_35 rfl ?_
  refine au_iconst dX0_lawOf_36 rfl rfl ?_
  refine au_iald dX0_lawOf_37 rfl (by omega) (by show _ < ((204 : Nat) : Int); omega) (v := au_i (mi (q, 204, 40) 0)) (congrArg au_i (au_gi_m (au_reg_row hq _))) ?_
  refine au_aload_n dX0_lawOf_38 rfl ?_
  refine au_iload_n dX0_lawOf_39 rfl ?_
  refine au_iconst dX0_lawOf_40 rfl rfl ?_
  refine au_callSp (n := 2) (kX0_at G a 5 (mi, s1, hi, sl, r, nx) (by omega) (by omega) (by omega) (by omega)) (lw_S q898 q899 q130 q900) (by decide +kernel) rfl rfl rfl (Nat.le_of_ble_eq_true rfl) (by show _ ≤ d + 7; omega) (by show _ ≤ 80 * (d + 7); omega) (Nat.le_of_ble_eq_true rfl) (Nat.le_of_ble_eq_true rfl) dX0_lawOf_41 ?_
  refine au_iald dX0_lawOf_44 rfl (by omega) (by show _ < ((204 : Nat) : Int); omega) (v := au_i (mi (q, 204, 40) (3 + 7 * a + 5))) (congrArg au_i (au_gi_m (au_reg_row hq _))) ?_
  refine au_isub dX0_lawOf_45 (by omega) (by omega) ?_
  refine au_iast dX0_lawOf_46 rfl (by decide) (by omega) (by show _ < ((19 : Nat) : Int); omega) (M' := (mi, (au_up s1 XNames 7 ((mi (q, 204, 40) 0) - (mi (q, 204, 40) (3 + 7 * a + 5)))), hi, sl, r, nx)) (by rfl) ?_
  refine au_aload_n dX0_lawOf_47 rfl ?_
  refine au_getf (C := RX0) (T := TX0) (N := 15) in_X0 (by decide) rfl 6 (by decide) rfl rfl q251 rfl dX0_lawOf_48 (v := au_r XNames) (congrArg au_q (fx_XO_6 hF)) ?_
  refine au_bipush dX0_lawOf_51 rfl rfl ?_
  refine au_iconst dX0_lawOf_53 rfl rfl ?_
  refine au_iast dX0_lawOf_54 rfl (by decide) (by omega) (by show _ < ((19 : Nat) : Int); omega) (M' := (mi, (au_up (au_up s1 XNames 7 ((mi (q, 204, 40) 0) - (mi (q, 204, 40) (3 + 7 * a + 5)))) XNames 8 0), hi, sl, r, nx)) (by rfl) ?_
  refine au_iconst dX0_lawOf_55 rfl rfl ?_
  refine au_istore dX0_lawOf_56 (show 5 < 6 by decide) ?_
  show au_Go G _ _ 58 [some (au_r XO), some (au_r (q, 204, 40)), some (au_i a), some (au_i who), some (au_i 1), some (au_i 0)] [] (mi, (au_up (au_up s1 XNames 7 ((mi (q, 204, 40) 0) - (mi (q, 204, 40) (3 + 7 * a + 5)))) XNames 8 0), hi, sl, r, nx) 0 0
  have hl : ∀ (f : Nat) (j : Nat) (sj : au_A → Int → Int), (j : Int) ≤ (mi (q, 204, 40)) 2 → (∀ a, a ≠ XNames → sj a = si a) → (∀ k, 0 ≤ k → k < 19 → k ≠ 8 → sj XNames k = nmA B Pr n (mi (q, 204, 40)) a who k) → sj XNames 8 = dkN (fun k w => (mi (q, 204, 40)) (3 + 7 * k + w)) who a j → 10 - j < f → au_Go G (yX0_lawOf.cls, cX0_lawOf, 6, (some .int), au_rm (d + 7) 0 0, yX0_lawOf.name) (au_QM G (au_rm (d + 7) 0 0) (fun rv M' => rv = some (au_i (lawP n B Pr Lw (mi (q, 204, 40)) a who)) ∧ ∃ sj : au_A → Int → Int, M' = (mi, sj, hi, sl, r, nx) ∧ ∀ A, A ≠ XNames → sj A = si A)) 58 [some (au_r XO), some (au_r (q, 204, 40)), some (au_i a), some (au_i who), some (au_i 1), some (au_i (j : Int))] [] (mi, sj, hi, sl, r, nx) 0 0 := by
    intro f
    induction f with
    | zero => intro j sj hj g1 g2 g8 hf; exfalso; omega
    | succ f ih =>
      intro j sj hj g1 g2 g8 hf
      have hdj := dkN_bd (fun k w => (mi (q, 204, 40)) (3 + 7 * k + w)) who a j
      refine au_iload dX0_lawOf_58 rfl ?_
      refine au_aload_n dX0_lawOf_60 rfl ?_
      refine au_iconst dX0_lawOf_61 rfl rfl ?_
      refine au_iald dX0_lawOf_62 rfl (by omega) (by show _ < ((204 : Nat) : Int); omega) (v := au_i (mi (q, 204, 40) 2)) (congrArg au_i (au_gi_m (au_reg_row hq _))) ?_
      refine au_icmp_ge (tgt := 117) dX0_lawOf_63 (by decide) (fun c63 => ?_) (fun c63 => ?_)
      · have hj2 : j = ((mi (q, 204, 40)) 2).toNat := by omega
        have hnm : ∀ k, 0 ≤ k → k < 19 → sj XNames k = nmA B Pr n (mi (q, 204, 40)) a who k := fun k k0 k1 => by
          by_cases e8 : k = 8
          · rw [e8, g8, hj2]; rfl
          · exact g2 k k0 k1 e8
        have hIC : ICm mi := trivial
        refine au_iload dX0_lawOf_117 rfl ?_
        refine au_if_ne (tgt := 147) dX0_lawOf_119 (by decide) (fun c119 => ?_) (fun c119 => ?_)
        · refine au_iload dX0_lawOf_147 rfl ?_
          refine au_iconst dX0_lawOf_149 rfl rfl ?_
          refine au_icmp_ne (tgt := 178) dX0_lawOf_150 (by decide) (fun c150 => ?_) (fun c150 => ?_)
          · exact absurd c150 (by decide)
          · refine au_aload_n dX0_lawOf_153 rfl ?_
            refine au_aload_n dX0_lawOf_154 rfl ?_
            refine au_callVp (n := 0) (kX0_rules G tx mi sj hi sl r nx hF hRu) (lw_V q920 q922 qs30 q130 q923) rfl (by decide +kernel) (by decide) (T := TX0) (N := 15) rfl rfl rfl rfl (Nat.le_of_ble_eq_true rfl) (by show _ ≤ d + 7; omega) (by show _ ≤ 80 * (d + 7); omega) (Nat.le_of_ble_eq_true rfl) (Nat.le_of_ble_eq_true rfl) dX0_lawOf_155 ?_
            refine au_iload dX0_lawOf_158 rfl ?_
            refine au_bipush dX0_lawOf_160 rfl rfl ?_
            refine au_aload_n dX0_lawOf_162 rfl ?_
            refine au_getf (C := RX0) (T := TX0) (N := 15) in_X0 (by decide) rfl 6 (by decide) rfl rfl q251 rfl dX0_lawOf_163 (v := au_r XNames) (congrArg au_q (fx_XO_6 hF)) ?_
            refine au_iconst dX0_lawOf_166 rfl rfl ?_
            refine au_iald dX0_lawOf_167 rfl (by omega) (by show _ < ((19 : Nat) : Int); omega) (v := au_i (Pr who)) (congrArg au_i (g2 3 (by decide) (by decide) (by decide))) ?_
            refine au_isub dX0_lawOf_168 (by omega) (by omega) ?_
            refine au_iconst dX0_lawOf_169 rfl rfl ?_
            refine au_bipush dX0_lawOf_170 rfl rfl ?_
            refine au_callVp (n := 5) (kX0_law G d 1 tx (10 - Pr who) 10 Lw mi sj hi sl r nx hF hIC (nmA B Pr n (mi (q, 204, 40)) a who) hnm hnI hTx (by decide) (by decide) (by decide)) (lw_V q926 q928 qs31 q130 q929) rfl (by decide +kernel) (by decide) (T := TX0) (N := 15) rfl rfl rfl rfl (Nat.le_of_ble_eq_true rfl) (by show _ ≤ d + 7; omega) (by show _ ≤ 80 * (d + 7); omega) (Nat.le_of_ble_eq_true rfl) (Nat.le_of_ble_eq_true rfl) dX0_lawOf_172 ?_
            refine au_goto (tgt := 200) dX0_lawOf_175 (by decide) ?_
            exact au_iret dX0_lawOf_200 rfl rfl (Nat.le_of_ble_eq_true rfl) (Nat.le_of_ble_eq_true rfl) (⟨rfl, sj, rfl, g1⟩)
        · exact absurd c119 (by decide)
      · refine au_aload_n dX0_lawOf_66 rfl ?_
        refine au_getf (C := RX0) (T := TX0) (N := 15) in_X0 (by decide) rfl 6 (by decide) rfl rfl q251 rfl dX0_lawOf_67 (v := au_r XNames) (congrArg au_q (fx_XO_6 hF)) ?_
        refine au_bipush dX0_lawOf_70 rfl rfl ?_
        refine au_dup2 dX0_lawOf_72 rfl rfl ?_
        refine au_iald dX0_lawOf_73 rfl (by omega) (by show _ < ((19 : Nat) : Int); omega) (v := au_i (dkN (fun k w => (mi (q, 204, 40)) (3 + 7 * k + w)) who a j)) (congrArg au_i g8) ?_
        refine au_iload dX0_lawOf_74 rfl ?_
        refine au_iload_n dX0_lawOf_76 rfl ?_
        refine au_icmp_eq (tgt := 108) dX0_lawOf_77 (by decide) (fun c77 => ?_) (fun c77 => ?_)
        · refine au_iconst dX0_lawOf_108 rfl rfl ?_
          refine au_iadd dX0_lawOf_109 (by omega) (by omega) ?_
          refine au_iast dX0_lawOf_110 rfl (by decide) (by omega) (by show _ < ((19 : Nat) : Int); omega) (M' := (mi, (au_up sj XNames 8 ((dkN (fun k w => (mi (q, 204, 40)) (3 + 7 * k + w)) who a j) + 0)), hi, sl, r, nx)) (by rfl) ?_
          refine au_iinc dX0_lawOf_111 rfl (show 5 < 6 by decide) (by omega) (by omega) (by decide) (by decide) ?_
          show au_Go G _ _ 114 [some (au_r XO), some (au_r (q, 204, 40)), some (au_i a), some (au_i who), some (au_i 1), some (au_i ((j : Int) + 1))] [] (mi, (au_up sj XNames 8 ((dkN (fun k w => (mi (q, 204, 40)) (3 + 7 * k + w)) who a j) + 0)), hi, sl, r, nx) 0 0
          refine au_goto (tgt := 58) dX0_lawOf_114 (by decide) ?_
          refine ih (j + 1) _ (by omega) (fun a ha => ?_) (fun k k0 k1 k8 => ?_) ?_ (by omega)
          · rw [← g1 a ha]; funext q; exact au_up_ne _ _ (fun z => ha z.1)
          · exact (au_up_ne _ _ (fun z => k8 z.2)).trans (g2 k k0 k1 k8)
          · refine (up_at' _ _ _ rfl).trans ?_
            show _ = _ + _
            first
            | rw [if_pos ⟨by omega, by omega, by omega⟩]
            | rw [if_neg (by intro z; have z1 := z.1; have z2 := z.2.1; have z3 := z.2.2; simp only at z1 z2 z3; omega)]
        · refine au_aload_n dX0_lawOf_80 rfl ?_
          refine au_iload dX0_lawOf_81 rfl ?_
          refine au_iconst dX0_lawOf_83 rfl rfl ?_
          refine au_callSp (n := 2) (kX0_at G (j : Int) 4 (mi, sj, hi, sl, r, nx) (by omega) (by omega) (by omega) (by omega)) (lw_S q898 q899 q130 q900) (by decide +kernel) rfl rfl rfl (Nat.le_of_ble_eq_true rfl) (by show _ ≤ d + 7; omega) (by show _ ≤ 80 * (d + 7); omega) (Nat.le_of_ble_eq_true rfl) (Nat.le_of_ble_eq_true rfl) dX0_lawOf_84 ?_
          refine au_iald dX0_lawOf_87 rfl (by omega) (by show _ < ((204 : Nat) : Int); omega) (v := au_i (mi (q, 204, 40) (3 + 7 * (j : Int) + 4))) (congrArg au_i (au_gi_m (au_reg_row hq _))) ?_
          refine au_iconst dX0_lawOf_88 rfl rfl ?_
          refine au_icmp_eq (tgt := 108) dX0_lawOf_89 (by decide) (fun c89 => ?_) (fun c89 => ?_)
          · refine au_iconst dX0_lawOf_108 rfl rfl ?_
            refine au_iadd dX0_lawOf_109 (by omega) (by omega) ?_
            refine au_iast dX0_lawOf_110 rfl (by decide) (by omega) (by show _ < ((19 : Nat) : Int); omega) (M' := (mi, (au_up sj XNames 8 ((dkN (fun k w => (mi (q, 204, 40)) (3 + 7 * k + w)) who a j) + 0)), hi, sl, r, nx)) (by rfl) ?_
            refine au_iinc dX0_lawOf_111 rfl (show 5 < 6 by decide) (by omega) (by omega) (by decide) (by decide) ?_
            show au_Go G _ _ 114 [some (au_r XO), some (au_r (q, 204, 40)), some (au_i a), some (au_i who), some (au_i 1), some (au_i ((j : Int) + 1))] [] (mi, (au_up sj XNames 8 ((dkN (fun k w => (mi (q, 204, 40)) (3 + 7 * k + w)) who a j) + 0)), hi, sl, r, nx) 0 0
            refine au_goto (tgt := 58) dX0_lawOf_114 (by decide) ?_
            refine ih (j + 1) _ (by omega) (fun a ha => ?_) (fun k k0 k1 k8 => ?_) ?_ (by omega)
            · rw [← g1 a ha]; funext q; exact au_up_ne _ _ (fun z => ha z.1)
            · exact (au_up_ne _ _ (fun z => k8 z.2)).trans (g2 k k0 k1 k8)
            · refine (up_at' _ _ _ rfl).trans ?_
              show _ = _ + _
              first
              | rw [if_pos ⟨by omega, by omega, by omega⟩]
              | rw [if_neg (by intro z; have z1 := z.1; have z2 := z.2.1; have z3 := z.2.2; simp only at z1 z2 z3; omega)]
          · refine au_aload_n dX0_lawOf_92 rfl ?_
            refine au_iload dX0_lawOf_93 rfl ?_
            refine au_iconst dX0_lawOf_95 rfl rfl ?_
            refine au_callSp (n := 2) (kX0_at G (j : Int) 2 (mi, sj, hi, sl, r, nx) (by omega) (by omega) (by omega) (by omega)) (lw_S q898 q899 q130 q900) (by decide +kernel) rfl rfl rfl (Nat.le_of_ble_eq_true rfl) (by show _ ≤ d + 7; omega) (by show _ ≤ 80 * (d + 7); omega) (Nat.le_of_ble_eq_true rfl) (Nat.le_of_ble_eq_true rfl) dX0_lawOf_96 ?_
            refine au_iald dX0_lawOf_99 rfl (by omega) (by show _ < ((204 : Nat) : Int); omega) (v := au_i (mi (q, 204, 40) (3 + 7 * (j : Int) + 2))) (congrArg au_i (au_gi_m (au_reg_row hq _))) ?_
            refine au_iload_n dX0_lawOf_100 rfl ?_
            refine au_icmp_ne (tgt := 108) dX0_lawOf_101 (by decide) (fun c101 => ?_) (fun c101 => ?_)
            · refine au_iconst dX0_lawOf_108 rfl rfl ?_
              refine au_iadd dX0_lawOf_109 (by omega) (by omega) ?_
              refine au_iast dX0_lawOf_110 rfl (by decide) (by omega) (by show _ < ((19 : Nat) : Int); omega) (M' := (mi, (au_up sj XNames 8 ((dkN (fun k w => (mi (q, 204, 40)) (3 + 7 * k + w)) who a j) + 0)), hi, sl, r, nx)) (by rfl) ?_
              refine au_iinc dX0_lawOf_111 rfl (show 5 < 6 by decide) (by omega) (by omega) (by decide) (by decide) ?_
              show au_Go G _ _ 114 [some (au_r XO), some (au_r (q, 204, 40)), some (au_i a), some (au_i who), some (au_i 1), some (au_i ((j : Int) + 1))] [] (mi, (au_up sj XNames 8 ((dkN (fun k w => (mi (q, 204, 40)) (3 + 7 * k + w)) who a j) + 0)), hi, sl, r, nx) 0 0
              refine au_goto (tgt := 58) dX0_lawOf_114 (by decide) ?_
              refine ih (j + 1) _ (by omega) (fun a ha => ?_) (fun k k0 k1 k8 => ?_) ?_ (by omega)
              · rw [← g1 a ha]; funext q; exact au_up_ne _ _ (fun z => ha z.1)
              · exact (au_up_ne _ _ (fun z => k8 z.2)).trans (g2 k k0 k1 k8)
              · refine (up_at' _ _ _ rfl).trans ?_
                show _ = _ + _
                first
                | rw [if_pos ⟨by omega, by omega, by omega⟩]
                | rw [if_neg (by intro z; have z1 := z.1; have z2 := z.2.1; have z3 := z.2.2; simp only at z1 z2 z3; omega)]
            · refine au_iconst dX0_lawOf_104 rfl rfl ?_
              refine au_goto (tgt := 109) dX0_lawOf_105 (by decide) ?_
              refine au_iadd dX0_lawOf_109 (by omega) (by omega) ?_
              refine au_iast dX0_lawOf_110 rfl (by decide) (by omega) (by show _ < ((19 : Nat) : Int); omega) (M' := (mi, (au_up sj XNames 8 ((dkN (fun k w => (mi (q, 204, 40)) (3 + 7 * k + w)) who a j) + 1)), hi, sl, r, nx)) (by rfl) ?_
              refine au_iinc dX0_lawOf_111 rfl (show 5 < 6 by decide) (by omega) (by omega) (by decide) (by decide) ?_
              show au_Go G _ _ 114 [some (au_r XO), some (au_r (q, 204, 40)), some (au_i a), some (au_i who), some (au_i 1), some (au_i ((j : Int) + 1))] [] (mi, (au_up sj XNames 8 ((dkN (fun k w => (mi (q, 204, 40)) (3 + 7 * k + w)) who a j) + 1)), hi, sl, r, nx) 0 0
              refine au_goto (tgt := 58) dX0_lawOf_114 (by decide) ?_
              refine ih (j + 1) _ (by omega) (fun a ha => ?_) (fun k k0 k1 k8 => ?_) ?_ (by omega)
              · rw [← g1 a ha]; funext q; exact au_up_ne _ _ (fun z => ha z.1)
              · exact (au_up_ne _ _ (fun z => k8 z.2)).trans (g2 k k0 k1 k8)
              · refine (up_at' _ _ _ rfl).trans ?_
                show _ = _ + _
                first
                | rw [if_pos ⟨by omega, by omega, by omega⟩]
                | rw [if_neg (by intro z; have z1 := z.1; have z2 := z.2.1; have z3 := z.2.2; simp only at z1 z2 z3; omega)]
  refine hl 11 0 _ (by omega) (fun A hA => ?_) (fun k k0 k1 k8 => ?_) ?_ (by omega)
  · rw [← hg1 A hA]
    funext q
    simp only [au_up]
    rw [if_neg (fun z => hA z.1), if_neg (fun z => hA z.1)]
  · simp only [au_up, true_and]
    rw [if_neg k8]
    by_cases e7 : k = 7
    · rw [if_pos e7, e7]; rfl
    · rw [if_neg e7]
      have := hg2 k k0 k1 e7 k8
      rw [this]
      unfold nmA nmF
      simp only [if_neg e7, if_neg k8]
  · simp only [au_up, true_and, if_true]
    rfl
theorem kX0_lawOf2 (G : au_G) (d : Nat) (n : Int) (B Pr : Int → Int) (Lw : au_Lw) (a who : Int) (q : Nat) (hq : q = 1003 ∨ q = 1107) (mi si hi sl : au_A → Int → Int) (r : au_A → Int → Option au_A) (nx : Nat) (hF : Fix r) (hX : EnX r hi mi d n B Pr Lw) (hR : RowIn (mi (q, 204, 40)) n) (ha : 0 ≤ a) (ha2 : a < (mi (q, 204, 40)) 2) (hw : 0 ≤ who) (hw2 : who < n) : au_Ctr G yX0_lawOf cX0_lawOf 6 (some .int) (d + 7) 0 0 [au_r XO, au_r (q, 204, 40), au_i a, au_i who, au_i 2] (mi, si, hi, sl, r, nx) (fun rv M' => rv = some (au_i (lawW n B Pr Lw (mi (q, 204, 40)) a who)) ∧ ∃ sj : au_A → Int → Int, M' = (mi, sj, hi, sl, r, nx) ∧ ∀ A, A ≠ XNames → sj A = si A) := by
  refine au_of (by decide) (Nat.le_of_ble_eq_true rfl) ?_
  obtain ⟨hN, hE, hB, hPr, hP9, tx, hRu, hTx⟩ := id hX
  have hb1 := hB.1
  have hb0 := hB.2.1
  obtain ⟨⟨r0, r0b⟩, ⟨r1, r1b⟩, ⟨r2, r2b⟩, ⟨r83, r83b⟩, rA⟩ := id hR
  obtain ⟨⟨f0, f0b⟩, ⟨t0, t0b⟩, ⟨p0, p0b⟩, ⟨s0, s0b⟩, ⟨w0, w0b⟩, ⟨g0, g0b⟩⟩ := id (rA a ha ha2)
  have hpw := hP9 who hw hw2
  have hdk := dkN_bd (fun k w => (mi (q, 204, 40)) (3 + 7 * k + w)) who a ((mi (q, 204, 40)) 2).toNat
  have hnI : ∀ k, 0 ≤ k → k < 19 → I32 (nmA B Pr n (mi (q, 204, 40)) a who k) := nmF_I hB hw hw2 hpw (by unfold I32; omega) (by unfold I32; omega) (by unfold I32; omega) (by unfold I32; omega) (by unfold I32; omega) (by unfold I32; omega)
  show au_Go G _ _ 0 [some (au_r XO), some (au_r (q, 204, 40)), some (au_i a), some (au_i who), some (au_i 2), none] [] (mi, si, hi, sl, r, nx) 0 0
  refine au_aload_n dX0_lawOf_0 rfl ?_
  refine au_aload_n dX0_lawOf_1 rfl ?_
  refine au_iconst dX0_lawOf_2 rfl rfl ?_
  refine au_iald dX0_lawOf_3 rfl (by omega) (by show _ < ((204 : Nat) : Int); omega) (v := au_i (mi (q, 204, 40) 0)) (congrArg au_i (au_gi_m (au_reg_row hq _))) ?_
  refine au_iload_n dX0_lawOf_4 rfl ?_
  refine au_aload_n dX0_lawOf_5 rfl ?_
  refine au_iload_n dX0_lawOf_6 rfl ?_
  refine au_iconst dX0_lawOf_7 rfl rfl ?_
  refine au_callSp (n := 2) (kX0_at G a 3 (mi, si, hi, sl, r, nx) (by omega) (by omega) (by omega) (by omega)) (lw_S q898 q899 q130 q900) (by decide +kernel) rfl rfl rfl (Nat.le_of_ble_eq_true rfl) (by show _ ≤ d + 7; omega) (by show _ ≤ 80 * (d + 7); omega) (Nat.le_of_ble_eq_true rfl) (Nat.le_of_ble_eq_true rfl) dX0_lawOf_8 ?_
  refine au_iald dX0_lawOf_11 rfl (by omega) (by show _ < ((204 : Nat) : Int); omega) (v := au_i (mi (q, 204, 40) (3 + 7 * a + 3))) (congrArg au_i (au_gi_m (au_reg_row hq _))) ?_
  refine au_aload_n dX0_lawOf_12 rfl ?_
  refine au_iload_n dX0_lawOf_13 rfl ?_
  refine au_iconst dX0_lawOf_14 rfl rfl ?_
  refine au_callSp (n := 2) (kX0_at G a 0 (mi, si, hi, sl, r, nx) (by omega) (by omega) (by omega) (by omega)) (lw_S q898 q899 q130 q900) (by decide +kernel) rfl rfl rfl (Nat.le_of_ble_eq_true rfl) (by show _ ≤ d + 7; omega) (by show _ ≤ 80 * (d + 7); omega) (Nat.le_of_ble_eq_true rfl) (Nat.le_of_ble_eq_true rfl) dX0_lawOf_15 ?_
  refine au_iald dX0_lawOf_18 rfl (by omega) (by show _ < ((204 : Nat) : Int); omega) (v := au_i (mi (q, 204, 40) (3 + 7 * a + 0))) (congrArg au_i (au_gi_m (au_reg_row hq _))) ?_
  refine au_aload_n dX0_lawOf_19 rfl ?_
  refine au_iload_n dX0_lawOf_20 rfl ?_
  refine au_iconst dX0_lawOf_21 rfl rfl ?_
  refine au_callSp (n := 2) (kX0_at G a 1 (mi, si, hi, sl, r, nx) (by omega) (by omega) (by omega) (by omega)) (lw_S q898 q899 q130 q900) (by decide +kernel) rfl rfl rfl (Nat.le_of_ble_eq_true rfl) (by show _ ≤ d + 7; omega) (by show _ ≤ 80 * (d + 7); omega) (Nat.le_of_ble_eq_true rfl) (Nat.le_of_ble_eq_true rfl) dX0_lawOf_22 ?_
  refine au_iald dX0_lawOf_25 rfl (by omega) (by show _ < ((204 : Nat) : Int); omega) (v := au_i (mi (q, 204, 40) (3 + 7 * a + 1))) (congrArg au_i (au_gi_m (au_reg_row hq _))) ?_
  refine au_callV (n := 5) (kX0_namesOf G ((mi (q, 204, 40)) 0) ((mi (q, 204, 40)) (3 + 7 * a + 3)) who ((mi (q, 204, 40)) (3 + 7 * a + 0)) ((mi (q, 204, 40)) (3 + 7 * a + 1)) mi si hi sl r nx hF n hN B hE hB Pr hPr hw hw2) (lw_V q912 q914 qs28 q130 q915) rfl (by decide +kernel) (by decide) (T := TX0) (N := 15) rfl rfl rfl rfl (Nat.le_of_ble_eq_true rfl) (by show _ ≤ d + 7; omega) (by show _ ≤ 80 * (d + 7); omega) (Nat.le_of_ble_eq_true rfl) (Nat.le_of_ble_eq_true rfl) dX0_lawOf_26 (fun rv_ M_ hp_ => ?_)
  obtain ⟨rfl, s1, rfl, hg1, hg2⟩ := hp_
  show au_Go G _ _ 29 [some (au_r XO), some (au_r (q, 204, 40)), some (au_i a), some (au_i who), some (au_i 2), none] [] (mi, s1, hi, sl, r, nx) 0 0
  refine au_aload_n dX0_lawOf_29 rfl ?_
  refine au_getf (C := RX0) (T := TX0) (N := 15) in_X0 (by decide) rfl 6 (by decide) rfl rfl q251 rfl dX0_lawOf_30 (v := au_r XNames) (congrArg au_q (fx_XO_6 hF)) ?_
  refine au_bipush dX0_lawOf_33 rfl rfl ?_
  refine au_aload_n dX0_lawOf_35 rfl ?_
  refine au_iconst dX0_lawOf_36 rfl rfl ?_
  refine au_iald dX0_lawOf_37 rfl (by omega) (by show _ < ((204 : Nat) : Int); omega) (v := au_i (mi (q, 204, 40) 0)) (congrArg au_i (au_gi_m (au_reg_row hq _))) ?_
  refine au_aload_n dX0_lawOf_38 rfl ?_
  refine au_iload_n dX0_lawOf_39 rfl ?_
  refine au_iconst dX0_lawOf_40 rfl rfl ?_
  refine au_callSp (n := 2) (kX0_at G a 5 (mi, s1, hi, sl, r, nx) (by omega) (by omega) (by omega) (by omega)) (lw_S q898 q899 q130 q900) (by decide +kernel) rfl rfl rfl (Nat.le_of_ble_eq_true rfl) (by show _ ≤ d + 7; omega) (by show _ ≤ 80 * (d + 7); omega) (Nat.le_of_ble_eq_true rfl) (Nat.le_of_ble_eq_true rfl) dX0_lawOf_41 ?_
  refine au_iald dX0_lawOf_44 rfl (by omega) (by show _ < ((204 : Nat) : Int); omega) (v := au_i (mi (q, 204, 40) (3 + 7 * a + 5))) (congrArg au_i (au_gi_m (au_reg_row hq _))) ?_
  refine au_isub dX0_lawOf_45 (by omega) (by omega) ?_
  refine au_iast dX0_lawOf_46 rfl (by decide) (by omega) (by show _ < ((19 : Nat) : Int); omega) (M' := (mi, (au_up s1 XNames 7 ((mi (q, 204, 40) 0) - (mi (q, 204, 40) (3 + 7 * a + 5)))), hi, sl, r, nx)) (by rfl) ?_
  refine au_aload_n dX0_lawOf_47 rfl ?_
  refine au_getf (C := RX0) (T := TX0) (N := 15) in_X0 (by decide) rfl 6 (by decide) rfl rfl q251 rfl dX0_lawOf_48 (v := au_r XNames) (congrArg au_q (fx_XO_6 hF)) ?_
  refine au_bipush dX0_lawOf_51 rfl rfl ?_
  refine au_iconst dX0_lawOf_53 rfl rfl ?_
  refine au_iast dX0_lawOf_54 rfl (by decide) (by omega) (by show _ < ((19 : Nat) : Int); omega) (M' := (mi, (au_up (au_up s1 XNames 7 ((mi (q, 204, 40) 0) - (mi (q, 204, 40) (3 + 7 * a + 5)))) XNames 8 0), hi, sl, r, nx)) (by rfl) ?_
  refine au_iconst dX0_lawOf_55 rfl rfl ?_
  refine au_istore dX0_lawOf_56 (show 5 < 6 by decide) ?_
  show au_Go G _ _ 58 [some (au_r XO), some (au_r (q, 204, 40)), some (au_i a), some (au_i who), some (au_i 2), some (au_i 0)] [] (mi, (au_up (au_up s1 XNames 7 ((mi (q, 204, 40) 0) - (mi (q, 204, 40) (3 + 7 * a + 5)))) XNames 8 0), hi, sl, r, nx) 0 0
  have hl : ∀ (f : Nat) (j : Nat) (sj : au_A → Int → Int), (j : Int) ≤ (mi (q, 204, 40)) 2 → (∀ a, a ≠ XNames → sj a = si a) → (∀ k, 0 ≤ k → k < 19 → k ≠ 8 → sj XNames k = nmA B Pr n (mi (q, 204, 40)) a who k) → sj XNames 8 = dkN (fun k w => (mi (q, 204, 40)) (3 + 7 * k + w)) who a j → 10 - j < f → au_Go G (yX0_lawOf.cls, cX0_lawOf, 6, (some .int), au_rm (d + 7) 0 0, yX0_lawOf.name) (au_QM G (au_rm (d + 7) 0 0) (fun rv M' => rv = some (au_i (lawW n B Pr Lw (mi (q, 204, 40)) a who)) ∧ ∃ sj : au_A → Int → Int, M' = (mi, sj, hi, sl, r, nx) ∧ ∀ A, A ≠ XNames → sj A = si A)) 58 [some (au_r XO), some (au_r (q, 204, 40)), some (au_i a), some (au_i who), some (au_i 2), some (au_i (j : Int))] [] (mi, sj, hi, sl, r, nx) 0 0 := by
    intro f
    induction f with
    | zero => intro j sj hj g1 g2 g8 hf; exfalso; omega
    | succ f ih =>
      intro j sj hj g1 g2 g8 hf
      have hdj := dkN_bd (fun k w => (mi (q, 204, 40)) (3 + 7 * k + w)) who a j
      refine au_iload dX0_lawOf_58 rfl ?_
      refine au_aload_n dX0_lawOf_60 rfl ?_
      refine au_iconst dX0_lawOf_61 rfl rfl ?_
      refine au_iald dX0_lawOf_62 rfl (by omega) (by show _ < ((204 : Nat) : Int); omega) (v := au_i (mi (q, 204, 40) 2)) (congrArg au_i (au_gi_m (au_reg_row hq _))) ?_
      refine au_icmp_ge (tgt := 117) dX0_lawOf_63 (by decide) (fun c63 => ?_) (fun c63 => ?_)
      · have hj2 : j = ((mi (q, 204, 40)) 2).toNat := by omega
        have hnm : ∀ k, 0 ≤ k → k < 19 → sj XNames k = nmA B Pr n (mi (q, 204, 40)) a who k := fun k k0 k1 => by
          by_cases e8 : k = 8
          · rw [e8, g8, hj2]; rfl
          · exact g2 k k0 k1 e8
        have hIC : ICm mi := trivial
        refine au_iload dX0_lawOf_117 rfl ?_
        refine au_if_ne (tgt := 147) dX0_lawOf_119 (by decide) (fun c119 => ?_) (fun c119 => ?_)
        · refine au_iload dX0_lawOf_147 rfl ?_
          refine au_iconst dX0_lawOf_149 rfl rfl ?_
          refine au_icmp_ne (tgt := 178) dX0_lawOf_150 (by decide) (fun c150 => ?_) (fun c150 => ?_)
          · refine au_aload_n dX0_lawOf_178 rfl ?_
            refine au_aload_n dX0_lawOf_179 rfl ?_
            refine au_callVp (n := 0) (kX0_rules G tx mi sj hi sl r nx hF hRu) (lw_V q920 q922 qs30 q130 q923) rfl (by decide +kernel) (by decide) (T := TX0) (N := 15) rfl rfl rfl rfl (Nat.le_of_ble_eq_true rfl) (by show _ ≤ d + 7; omega) (by show _ ≤ 80 * (d + 7); omega) (Nat.le_of_ble_eq_true rfl) (Nat.le_of_ble_eq_true rfl) dX0_lawOf_180 ?_
            refine au_iload dX0_lawOf_183 rfl ?_
            refine au_aload_n dX0_lawOf_185 rfl ?_
            refine au_getf (C := RX0) (T := TX0) (N := 15) in_X0 (by decide) rfl 6 (by decide) rfl rfl q251 rfl dX0_lawOf_186 (v := au_r XNames) (congrArg au_q (fx_XO_6 hF)) ?_
            refine au_iconst dX0_lawOf_189 rfl rfl ?_
            refine au_iald dX0_lawOf_190 rfl (by omega) (by show _ < ((19 : Nat) : Int); omega) (v := au_i ((mi (q, 204, 40)) (3 + 7 * a + 3))) (congrArg au_i (g2 1 (by decide) (by decide) (by decide))) ?_
            refine au_iconst dX0_lawOf_191 rfl rfl ?_
            refine au_idiv dX0_lawOf_192 (by omega) (by omega) ?_
            refine au_iconst dX0_lawOf_193 rfl rfl ?_
            refine au_sipush dX0_lawOf_194 rfl rfl ?_
            refine au_callVp (n := 5) (kX0_law G d 2 tx ((mi (q, 204, 40)) (3 + 7 * a + 3) / 2) 9999 Lw mi sj hi sl r nx hF hIC (nmA B Pr n (mi (q, 204, 40)) a who) hnm hnI hTx (by decide) (by decide) (by decide)) (lw_V q926 q928 qs31 q130 q929) rfl (by decide +kernel) (by decide) (T := TX0) (N := 15) rfl rfl rfl rfl (Nat.le_of_ble_eq_true rfl) (by show _ ≤ d + 7; omega) (by show _ ≤ 80 * (d + 7); omega) (Nat.le_of_ble_eq_true rfl) (Nat.le_of_ble_eq_true rfl) dX0_lawOf_197 ?_
            exact au_iret dX0_lawOf_200 rfl rfl (Nat.le_of_ble_eq_true rfl) (Nat.le_of_ble_eq_true rfl) (⟨rfl, sj, rfl, g1⟩)
          · exact absurd c150 (by decide)
        · exact absurd c119 (by decide)
      · refine au_aload_n dX0_lawOf_66 rfl ?_
        refine au_getf (C := RX0) (T := TX0) (N := 15) in_X0 (by decide) rfl 6 (by decide) rfl rfl q251 rfl dX0_lawOf_67 (v := au_r XNames) (congrArg au_q (fx_XO_6 hF)) ?_
        refine au_bipush dX0_lawOf_70 rfl rfl ?_
        refine au_dup2 dX0_lawOf_72 rfl rfl ?_
        refine au_iald dX0_lawOf_73 rfl (by omega) (by show _ < ((19 : Nat) : Int); omega) (v := au_i (dkN (fun k w => (mi (q, 204, 40)) (3 + 7 * k + w)) who a j)) (congrArg au_i g8) ?_
        refine au_iload dX0_lawOf_74 rfl ?_
        refine au_iload_n dX0_lawOf_76 rfl ?_
        refine au_icmp_eq (tgt := 108) dX0_lawOf_77 (by decide) (fun c77 => ?_) (fun c77 => ?_)
        · refine au_iconst dX0_lawOf_108 rfl rfl ?_
          refine au_iadd dX0_lawOf_109 (by omega) (by omega) ?_
          refine au_iast dX0_lawOf_110 rfl (by decide) (by omega) (by show _ < ((19 : Nat) : Int); omega) (M' := (mi, (au_up sj XNames 8 ((dkN (fun k w => (mi (q, 204, 40)) (3 + 7 * k + w)) who a j) + 0)), hi, sl, r, nx)) (by rfl) ?_
          refine au_iinc dX0_lawOf_111 rfl (show 5 < 6 by decide) (by omega) (by omega) (by decide) (by decide) ?_
          show au_Go G _ _ 114 [some (au_r XO), some (au_r (q, 204, 40)), some (au_i a), some (au_i who), some (au_i 2), some (au_i ((j : Int) + 1))] [] (mi, (au_up sj XNames 8 ((dkN (fun k w => (mi (q, 204, 40)) (3 + 7 * k + w)) who a j) + 0)), hi, sl, r, nx) 0 0
          refine au_goto (tgt := 58) dX0_lawOf_114 (by decide) ?_
          refine ih (j + 1) _ (by omega) (fun a ha => ?_) (fun k k0 k1 k8 => ?_) ?_ (by omega)
          · rw [← g1 a ha]; funext q; exact au_up_ne _ _ (fun z => ha z.1)
          · exact (au_up_ne _ _ (fun z => k8 z.2)).trans (g2 k k0 k1 k8)
          · refine (up_at' _ _ _ rfl).trans ?_
            show _ = _ + _
            first
            | rw [if_pos ⟨by omega, by omega, by omega⟩]
            | rw [if_neg (by intro z; have z1 := z.1; have z2 := z.2.1; have z3 := z.2.2; simp only at z1 z2 z3; omega)]
        · refine au_aload_n dX0_lawOf_80 rfl ?_
          refine au_iload dX0_lawOf_81 rfl ?_
          refine au_iconst dX0_lawOf_83 rfl rfl ?_
          refine au_callSp (n := 2) (kX0_at G (j : Int) 4 (mi, sj, hi, sl, r, nx) (by omega) (by omega) (by omega) (by omega)) (lw_S q898 q899 q130 q900) (by decide +kernel) rfl rfl rfl (Nat.le_of_ble_eq_true rfl) (by show _ ≤ d + 7; omega) (by show _ ≤ 80 * (d + 7); omega) (Nat.le_of_ble_eq_true rfl) (Nat.le_of_ble_eq_true rfl) dX0_lawOf_84 ?_
          refine au_iald dX0_lawOf_87 rfl (by omega) (by show _ < ((204 : Nat) : Int); omega) (v := au_i (mi (q, 204, 40) (3 + 7 * (j : Int) + 4))) (congrArg au_i (au_gi_m (au_reg_row hq _))) ?_
          refine au_iconst dX0_lawOf_88 rfl rfl ?_
          refine au_icmp_eq (tgt := 108) dX0_lawOf_89 (by decide) (fun c89 => ?_) (fun c89 => ?_)
          · refine au_iconst dX0_lawOf_108 rfl rfl ?_
            refine au_iadd dX0_lawOf_109 (by omega) (by omega) ?_
            refine au_iast dX0_lawOf_110 rfl (by decide) (by omega) (by show _ < ((19 : Nat) : Int); omega) (M' := (mi, (au_up sj XNames 8 ((dkN (fun k w => (mi (q, 204, 40)) (3 + 7 * k + w)) who a j) + 0)), hi, sl, r, nx)) (by rfl) ?_
            refine au_iinc dX0_lawOf_111 rfl (show 5 < 6 by decide) (by omega) (by omega) (by decide) (by decide) ?_
            show au_Go G _ _ 114 [some (au_r XO), some (au_r (q, 204, 40)), some (au_i a), some (au_i who), some (au_i 2), some (au_i ((j : Int) + 1))] [] (mi, (au_up sj XNames 8 ((dkN (fun k w => (mi (q, 204, 40)) (3 + 7 * k + w)) who a j) + 0)), hi, sl, r, nx) 0 0
            refine au_goto (tgt := 58) dX0_lawOf_114 (by decide) ?_
            refine ih (j + 1) _ (by omega) (fun a ha => ?_) (fun k k0 k1 k8 => ?_) ?_ (by omega)
            · rw [← g1 a ha]; funext q; exact au_up_ne _ _ (fun z => ha z.1)
            · exact (au_up_ne _ _ (fun z => k8 z.2)).trans (g2 k k0 k1 k8)
            · refine (up_at' _ _ _ rfl).trans ?_
              show _ = _ + _
              first
              | rw [if_pos ⟨by omega, by omega, by omega⟩]
              | rw [if_neg (by intro z; have z1 := z.1; have z2 := z.2.1; have z3 := z.2.2; simp only at z1 z2 z3; omega)]
          · refine au_aload_n dX0_lawOf_92 rfl ?_
            refine au_iload dX0_lawOf_93 rfl ?_
            refine au_iconst dX0_lawOf_95 rfl rfl ?_
            refine au_callSp (n := 2) (kX0_at G (j : Int) 2 (mi, sj, hi, sl, r, nx) (by omega) (by omega) (by omega) (by omega)) (lw_S q898 q899 q130 q900) (by decide +kernel) rfl rfl rfl (Nat.le_of_ble_eq_true rfl) (by show _ ≤ d + 7; omega) (by show _ ≤ 80 * (d + 7); omega) (Nat.le_of_ble_eq_true rfl) (Nat.le_of_ble_eq_true rfl) dX0_lawOf_96 ?_
            refine au_iald dX0_lawOf_99 rfl (by omega) (by show _ < ((204 : Nat) : Int); omega) (v := au_i (mi (q, 204, 40) (3 + 7 * (j : Int) + 2))) (congrArg au_i (au_gi_m (au_reg_row hq _))) ?_
            refine au_iload_n dX0_lawOf_100 rfl ?_
            refine au_icmp_ne (tgt := 108) dX0_lawOf_101 (by decide) (fun c101 => ?_) (fun c101 => ?_)
            · refine au_iconst dX0_lawOf_108 rfl rfl ?_
              refine au_iadd dX0_lawOf_109 (by omega) (by omega) ?_
              refine au_iast dX0_lawOf_110 rfl (by decide) (by omega) (by show _ < ((19 : Nat) : Int); omega) (M' := (mi, (au_up sj XNames 8 ((dkN (fun k w => (mi (q, 204, 40)) (3 + 7 * k + w)) who a j) + 0)), hi, sl, r, nx)) (by rfl) ?_
              refine au_iinc dX0_lawOf_111 rfl (show 5 < 6 by decide) (by omega) (by omega) (by decide) (by decide) ?_
              show au_Go G _ _ 114 [some (au_r XO), some (au_r (q, 204, 40)), some (au_i a), some (au_i who), some (au_i 2), some (au_i ((j : Int) + 1))] [] (mi, (au_up sj XNames 8 ((dkN (fun k w => (mi (q, 204, 40)) (3 + 7 * k + w)) who a j) + 0)), hi, sl, r, nx) 0 0
              refine au_goto (tgt := 58) dX0_lawOf_114 (by decide) ?_
              refine ih (j + 1) _ (by omega) (fun a ha => ?_) (fun k k0 k1 k8 => ?_) ?_ (by omega)
              · rw [← g1 a ha]; funext q; exact au_up_ne _ _ (fun z => ha z.1)
              · exact (au_up_ne _ _ (fun z => k8 z.2)).trans (g2 k k0 k1 k8)
              · refine (up_at' _ _ _ rfl).trans ?_
                show _ = _ + _
                first
                | rw [if_pos ⟨by omega, by omega, by omega⟩]
                | rw [if_neg (by intro z; have z1 := z.1; have z2 := z.2.1; have z3 := z.2.2; simp only at z1 z2 z3; omega)]
            · refine au_iconst dX0_lawOf_104 rfl rfl ?_
              refine au_goto (tgt := 109) dX0_lawOf_105 (by decide) ?_
              refine au_iadd dX0_lawOf_109 (by omega) (by omega) ?_
              refine au_iast dX0_lawOf_110 rfl (by decide) (by omega) (by show _ < ((19 : Nat) : Int); omega) (M' := (mi, (au_up sj XNames 8 ((dkN (fun k w => (mi (q, 204, 40)) (3 + 7 * k + w)) who a j) + 1)), hi, sl, r, nx)) (by rfl) ?_
              refine au_iinc dX0_lawOf_111 rfl (show 5 < 6 by decide) (by omega) (by omega) (by decide) (by decide) ?_
              show au_Go G _ _ 114 [some (au_r XO), some (au_r (q, 204, 40)), some (au_i a), some (au_i who), some (au_i 2), some (au_i ((j : Int) + 1))] [] (mi, (au_up sj XNames 8 ((dkN (fun k w => (mi (q, 204, 40)) (3 + 7 * k + w)) who a j) + 1)), hi, sl, r, nx) 0 0
              refine au_goto (tgt := 58) dX0_lawOf_114 (by decide) ?_
              refine ih (j + 1) _ (by omega) (fun a ha => ?_) (fun k k0 k1 k8 => ?_) ?_ (by omega)
              · rw [← g1 a ha]; funext q; exact au_up_ne _ _ (fun z => ha z.1)
              · exact (au_up_ne _ _ (fun z => k8 z.2)).trans (g2 k k0 k1 k8)
              · refine (up_at' _ _ _ rfl).trans ?_
                show _ = _ + _
                first
                | rw [if_pos ⟨by omega, by omega, by omega⟩]
                | rw [if_neg (by intro z; have z1 := z.1; have z2 := z.2.1; have z3 := z.2.2; simp only at z1 z2 z3; omega)]
  refine hl 11 0 _ (by omega) (fun A hA => ?_) (fun k k0 k1 k8 => ?_) ?_ (by omega)
  · rw [← hg1 A hA]
    funext q
    simp only [au_up]
    rw [if_neg (fun z => hA z.1), if_neg (fun z => hA z.1)]
  · simp only [au_up, true_and]
    rw [if_neg k8]
    by_cases e7 : k = 7
    · rw [if_pos e7, e7]; rfl
    · rw [if_neg e7]
      have := hg2 k k0 k1 e7 k8
      rw [this]
      unfold nmA nmF
      simp only [if_neg e7, if_neg k8]
  · simp only [au_up, true_and, if_true]
    rfl
