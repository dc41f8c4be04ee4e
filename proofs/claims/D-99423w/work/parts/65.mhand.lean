/-! THE MODEL: wrongs, ways off, sideways, days (printed by tools/m65.py) -/
set_option maxRecDepth 100000
set_option maxHeartbeats 4000000

/-- the model holds what changes -/
def MY (A : Int → Int) (y : au_Y) : Prop :=
  A 0 = y.1 ∧ (∀ o, 0 ≤ o → o < 10 → A (90 + o) = y.2.1 o) ∧ (∀ o, 0 ≤ o → o < 10 → A (100 + o) = y.2.2.1 o) ∧ (∀ o, 0 ≤ o → o < 10 → A (110 + o) = y.2.2.2.1 o) ∧ MRel 1 A y.2.2.2.2.1 ∧ A 3 = y.2.2.2.2.2.1 ∧ ∀ k : Nat, k < 30 → MSt A k (y.2.2.2.2.2.2 k)
/-- what stays as it was -/
def FrM (A A' : Int → Int) : Prop := ∀ j, ¬ (j = 0 ∨ j = 3 ∨ (6 ≤ j ∧ j < 120) ∨ 164 ≤ j) → A' j = A j
theorem FrM.rf (A : Int → Int) : FrM A A := fun _ _ => rfl
theorem FrM.tr {A A' A'' : Int → Int} (h : FrM A A') (k : FrM A' A'') : FrM A A'' := fun j q => (k j q).trans (h j q)
theorem FrS.M {A A' : Int → Int} (h : FrS A A') : FrM A A' := fun j q => h j (fun z => q (Or.inr (Or.inl z))) (fun z => q (Or.inr (Or.inr (Or.inr z.1))))
theorem FrW.M {wr : Int} {A A' : Int → Int} (h : FrW wr A A') : FrM A A' := fun j q => h.1 j (fun z => q (by omega))
theorem MY.keep {A A' : Int → Int} {n : Int} {B Pr Co R : Int → Int} {ns : Int} {S : Nat → Int → Int} (h : MY A (n, B, Pr, Co, R, ns, S)) (h3 : A' 3 = keN ns) (hS : ∀ k : Nat, k < 30 → MSt A' k (keS ns S R k)) (f : FrS A A') : MY A' (n, B, Pr, Co, R, keN ns, keS ns S R) := by
  obtain ⟨h1, h2, h4, h5, h6, -, -⟩ := h
  exact ⟨(f 0 (by decide) (by decide)).trans h1, fun o a b => (f _ (by omega) (by omega)).trans (h2 o a b), fun o a b => (f _ (by omega) (by omega)).trans (h4 o a b), fun o a b => (f _ (by omega) (by omega)).trans (h5 o a b), h6.frS f, h3, hS⟩
theorem MY.row {A A' : Int → Int} {n : Int} {B Pr Co R R' : Int → Int} {ns : Int} {S : Nat → Int → Int} (h : MY A (n, B, Pr, Co, R, ns, S)) (hM : MRel 1 A' R') (f : FrW 1 A A') : MY A' (n, B, Pr, Co, R', ns, S) := by
  obtain ⟨h1, h2, h4, h5, -, h7, h8⟩ := h
  exact ⟨(f.1 0 (by decide)).trans h1, fun o a b => (f.1 _ (by omega)).trans (h2 o a b), fun o a b => (f.1 _ (by omega)).trans (h4 o a b), fun o a b => (f.1 _ (by omega)).trans (h5 o a b), hM, (f.1 3 (by decide)).trans h7, fun k hk => ⟨fun j a b => (f.1 _ (by omega)).trans ((h8 k hk).1 j a b), fun j a b => (f.1 _ (by omega)).trans ((h8 k hk).2.1 j a b), (h8 k hk).2.2⟩⟩
theorem EnA.to {T A A' : Int → Int} {n : Int} {B Pr : Int → Int} {Lw : au_Lw} (h : EnA T A n B Pr Lw) (f : FrM A A') {y : au_Y} (hY : MY A' y) (hK : YOK y) : EnA T A' y.1 y.2.1 y.2.2.1 Lw :=
  ⟨hY.1, hY.2.1, hK.1, hY.2.2.1, hK.2.1, by rw [f 2 (by decide)]; exact h.2.2.2.2.2⟩
/-- how a method of the model that changes what changes ends -/
def PoM (hi : au_A → Int → Int) (r : au_A → Int → Option au_A) (nx : Nat) (mi : au_A → Int → Int) (A : Int → Int) (v : Option au_V) (y : au_Y) : Option au_V → au_M → Prop := fun rv M' => rv = v ∧ ∃ (A' : Int → Int) (sj slj : au_A → Int → Int), M' = (rowS mi MA A', sj, hi, slj, r, nx) ∧ MY A' y ∧ FrM A A'
theorem PoM.of {hi : au_A → Int → Int} {r : au_A → Int → Option au_A} {nx : Nat} {mi : au_A → Int → Int} {A : Int → Int} {v : au_V} {w : Int} {y : au_Y} {p : Int × au_Y} (e : p = (w, y)) {A' : Int → Int} {sj slj : au_A → Int → Int} (hY : MY A' y) (hf : FrM A A') (hv : v = au_i w) : PoM hi r nx mi A (some (au_i p.1)) p.2 (some v) (rowS mi MA A', sj, hi, slj, r, nx) := by
  subst e
  exact ⟨by rw [hv], A', sj, slj, rfl, hY, hf⟩
theorem wgF_eq (R : Int → Int) (f t z : Int) : up1 (up1 (up1 (up1 (up1 (up1 (up1 (up1 R (3 + 7 * R 2 + 0) f) (3 + 7 * R 2 + 1) t) (3 + 7 * R 2 + 2) f) (3 + 7 * R 2 + 3) z) (3 + 7 * R 2 + 4) 0) (3 + 7 * R 2 + 5) (R 0)) (3 + 7 * R 2 + 6) 0) 2 (R 2 + 1) = wgF R f t z := by
  funext j
  unfold wgF
  generalize hk : R 2 = k
  by_cases e2 : j = 2
  · rw [e2, up1_self, up1_self]
  · rw [up1_ne _ _ e2, up1_ne _ _ e2]
    unfold mv1
    obtain ⟨s0, s1, s2, s3, s4, s5, s6⟩ := sevF_at f t z (R 0)
    by_cases hr : 3 + 7 * k ≤ j ∧ j < 3 + 7 * k + 7
    · rw [if_pos hr]
      have hw : j = 3 + 7 * k + 0 ∨ j = 3 + 7 * k + 1 ∨ j = 3 + 7 * k + 2 ∨ j = 3 + 7 * k + 3 ∨ j = 3 + 7 * k + 4 ∨ j = 3 + 7 * k + 5 ∨ j = 3 + 7 * k + 6 := by omega
      rcases hw with e | e | e | e | e | e | e
      · rw [show 0 + (j - (3 + 7 * k)) = 0 by omega, s0, up1_ne _ _ (by omega), up1_ne _ _ (by omega), up1_ne _ _ (by omega), up1_ne _ _ (by omega), up1_ne _ _ (by omega), up1_ne _ _ (by omega), e, up1_self]
      · rw [show 0 + (j - (3 + 7 * k)) = 1 by omega, s1, up1_ne _ _ (by omega), up1_ne _ _ (by omega), up1_ne _ _ (by omega), up1_ne _ _ (by omega), up1_ne _ _ (by omega), e, up1_self]
      · rw [show 0 + (j - (3 + 7 * k)) = 2 by omega, s2, up1_ne _ _ (by omega), up1_ne _ _ (by omega), up1_ne _ _ (by omega), up1_ne _ _ (by omega), e, up1_self]
      · rw [show 0 + (j - (3 + 7 * k)) = 3 by omega, s3, up1_ne _ _ (by omega), up1_ne _ _ (by omega), up1_ne _ _ (by omega), e, up1_self]
      · rw [show 0 + (j - (3 + 7 * k)) = 4 by omega, s4, up1_ne _ _ (by omega), up1_ne _ _ (by omega), e, up1_self]
      · rw [show 0 + (j - (3 + 7 * k)) = 5 by omega, s5, up1_ne _ _ (by omega), e, up1_self]
      · rw [show 0 + (j - (3 + 7 * k)) = 6 by omega, s6, e, up1_self]
    · rw [if_neg hr, up1_ne _ _ (by omega), up1_ne _ _ (by omega), up1_ne _ _ (by omega), up1_ne _ _ (by omega), up1_ne _ _ (by omega), up1_ne _ _ (by omega), up1_ne _ _ (by omega)]
theorem paY_all {Lw : au_Lw} : ∀ (k : Nat) (y : au_Y), YOK y → y.2.2.2.2.1 0 + (k : Int) ≤ 9999 → (paY Lw k y).1 = 1 := by
  intro k
  induction k with
  | zero => intro y _ _; rfl
  | succ k ih =>
    intro y h h0
    obtain ⟨n, B, Pr, Co, R, ns, S⟩ := y
    have h0 : R 0 + ((k + 1 : Nat) : Int) ≤ 9999 := h0
    have h1 : R 0 < 9999 := by omega
    have hB : Bs B n := h.1
    have hR : RowOK R n B := h.2.2.2.1
    rw [paY_s k h1]
    refine ih _ (h.pass h1) ?_
    show (pasF n B Pr Lw R).1 0 + (k : Int) ≤ 9999
    rw [(pasF_ok hB hR h1).2.2.1]; omega

theorem kX2_canWrong (G : au_G) (f t n : Int) (B R : Int → Int) (A : Int → Int) (mi si hi sl : au_A → Int → Int) (r : au_A → Int → Option au_A) (nx : Nat) (hF : Fix r) (gN : rowS mi MA A MA 0 = n) (gE : ∀ o, 0 ≤ o → o < 10 → rowS mi MA A MA (90 + o) = B o) (hB : Bs B n) (hM : MRow A R) : au_Ctr G yX2_canWrong cX2_canWrong 3 (some .boolean) 2 0 0 [au_r MO, au_i f, au_i t] (rowS mi MA A, si, hi, sl, r, nx) (au_pure (au_i (au_b (cwP n B R f t))) (rowS mi MA A, si, hi, sl, r, nx)) := by
  refine au_of (by decide) (Nat.le_of_ble_eq_true rfl) ?_
  have hb1 := hB.1
  have hb0 := hB.2.1
  have hn : 0 ≤ n ∧ n ≤ 10 := ⟨hb1, hb0⟩
  show au_Go G _ _ 0 [some (au_r MO), some (au_i f), some (au_i t)] [] (rowS mi MA A, si, hi, sl, r, nx) 0 0
  refine au_aload_n dX2_canWrong_0 rfl ?_
  refine au_iload_n dX2_canWrong_1 rfl ?_
  refine au_callVp (n := 1) (kX2_isOfficer G f (rowS mi MA A) si hi sl r nx hF n gN hn) (lw_V q1471 q1473 qs56 q134 q1474) rfl (by decide +kernel) (by decide) (T := TX2) (N := 35) rfl rfl rfl rfl (Nat.le_of_ble_eq_true rfl) (Nat.le_of_ble_eq_true rfl) (Nat.le_of_ble_eq_true rfl) (Nat.le_of_ble_eq_true rfl) (Nat.le_of_ble_eq_true rfl) dX2_canWrong_2 ?_
  refine au_if_eq (tgt := 41) dX2_canWrong_5 (by decide) (fun c5 => ?_) (fun c5 => ?_)
  · have c5 := au_b0 c5
    refine au_iconst dX2_canWrong_41 rfl rfl ?_
    exact au_zret dX2_canWrong_42 rfl (Or.inl rfl) rfl (Nat.le_of_ble_eq_true rfl) (Nat.le_of_ble_eq_true rfl) (au_pf (by first | exact ⟨c5, c13, c22, by omega⟩ | exact fun z => c5 z.1 | exact fun z => c13 z.2.1 | exact fun z => c22 z.2.2.1 | exact fun z => absurd z.2.2.2 (by omega)) rfl)
  · have c5 := au_b1 c5
    refine au_aload_n dX2_canWrong_8 rfl ?_
    refine au_iload_n dX2_canWrong_9 rfl ?_
    refine au_callVp (n := 1) (kX2_isOfficer G t (rowS mi MA A) si hi sl r nx hF n gN hn) (lw_V q1471 q1473 qs56 q134 q1474) rfl (by decide +kernel) (by decide) (T := TX2) (N := 35) rfl rfl rfl rfl (Nat.le_of_ble_eq_true rfl) (Nat.le_of_ble_eq_true rfl) (Nat.le_of_ble_eq_true rfl) (Nat.le_of_ble_eq_true rfl) (Nat.le_of_ble_eq_true rfl) dX2_canWrong_10 ?_
    refine au_if_eq (tgt := 41) dX2_canWrong_13 (by decide) (fun c13 => ?_) (fun c13 => ?_)
    · have c13 := au_b0 c13
      refine au_iconst dX2_canWrong_41 rfl rfl ?_
      exact au_zret dX2_canWrong_42 rfl (Or.inl rfl) rfl (Nat.le_of_ble_eq_true rfl) (Nat.le_of_ble_eq_true rfl) (au_pf (by first | exact ⟨c5, c13, c22, by omega⟩ | exact fun z => c5 z.1 | exact fun z => c13 z.2.1 | exact fun z => c22 z.2.2.1 | exact fun z => absurd z.2.2.2 (by omega)) rfl)
    · have c13 := au_b1 c13
      refine au_aload_n dX2_canWrong_16 rfl ?_
      refine au_iload_n dX2_canWrong_17 rfl ?_
      refine au_iload_n dX2_canWrong_18 rfl ?_
      refine au_callVp (n := 2) (kX2_isAbove G f t (rowS mi MA A) si hi sl r nx hF n gN B gE hB (by omega) (by omega) (by omega)) (lw_V q1662 q1664 qs87 q134 q1665) rfl (by decide +kernel) (by decide) (T := TX2) (N := 35) rfl rfl rfl rfl (Nat.le_of_ble_eq_true rfl) (Nat.le_of_ble_eq_true rfl) (Nat.le_of_ble_eq_true rfl) (Nat.le_of_ble_eq_true rfl) (Nat.le_of_ble_eq_true rfl) dX2_canWrong_19 ?_
      refine au_if_eq (tgt := 41) dX2_canWrong_22 (by decide) (fun c22 => ?_) (fun c22 => ?_)
      · have c22 := au_b0 c22
        refine au_iconst dX2_canWrong_41 rfl rfl ?_
        exact au_zret dX2_canWrong_42 rfl (Or.inl rfl) rfl (Nat.le_of_ble_eq_true rfl) (Nat.le_of_ble_eq_true rfl) (au_pf (by first | exact ⟨c5, c13, c22, by omega⟩ | exact fun z => c5 z.1 | exact fun z => c13 z.2.1 | exact fun z => c22 z.2.2.1 | exact fun z => absurd z.2.2.2 (by omega)) rfl)
      · have c22 := au_b1 c22
        refine au_aload_n dX2_canWrong_25 rfl ?_
        refine au_getf (C := RX2) (T := TX2) (N := 35) in_X2 (by decide) rfl 0 (by decide) rfl rfl q1359 rfl dX2_canWrong_26 (v := au_r MA) (congrArg au_q (fx_MO_0 hF)) ?_
        refine au_bipush dX2_canWrong_29 rfl rfl ?_
        refine au_iald dX2_canWrong_31 rfl (by omega) (by show _ < ((4544 : Nat) : Int); omega) (v := au_i (R 2)) (congrArg au_i (((au_gi_m (au_reg_MA _)).trans (show rowS mi MA A MA 8 = A 8 from (rowS_self _ _ _ _).trans (rfl))).trans (hM.2.2.1))) ?_
        refine au_bipush dX2_canWrong_32 rfl rfl ?_
        refine au_icmp_ge (tgt := 41) dX2_canWrong_34 (by decide) (fun c34 => ?_) (fun c34 => ?_)
        · refine au_iconst dX2_canWrong_41 rfl rfl ?_
          exact au_zret dX2_canWrong_42 rfl (Or.inl rfl) rfl (Nat.le_of_ble_eq_true rfl) (Nat.le_of_ble_eq_true rfl) (au_pf (by first | exact ⟨c5, c13, c22, by omega⟩ | exact fun z => c5 z.1 | exact fun z => c13 z.2.1 | exact fun z => c22 z.2.2.1 | exact fun z => absurd z.2.2.2 (by omega)) rfl)
        · refine au_iconst dX2_canWrong_37 rfl rfl ?_
          refine au_goto (tgt := 42) dX2_canWrong_38 (by decide) ?_
          exact au_zret dX2_canWrong_42 rfl (Or.inr rfl) rfl (Nat.le_of_ble_eq_true rfl) (Nat.le_of_ble_eq_true rfl) (au_pt (by first | exact ⟨c5, c13, c22, by omega⟩ | exact fun z => c5 z.1 | exact fun z => c13 z.2.1 | exact fun z => c22 z.2.2.1 | exact fun z => absurd z.2.2.2 (by omega)) rfl)
theorem kX2_wrongNow (G : au_G) (f t z wr : Int) (R : Int → Int) (A : Int → Int) (mi si hi sl : au_A → Int → Int) (r : au_A → Int → Option au_A) (nx : Nat) (hF : Fix r) (hM : MRel wr A R) (h0 : 0 ≤ R 2) (h1 : R 2 < 10) : au_Ctr G yX2_wrongNow cX2_wrongNow 5 none 1 0 0 [au_r MO, au_i f, au_i t, au_i z] (rowS mi MA A, si, hi, sl, r, nx) (fun rv M' => rv = none ∧ ∃ A' : Int → Int, M' = (rowS mi MA A', si, hi, sl, r, nx) ∧ MRel wr A' (wgF R f t z) ∧ FrW wr A A') := by
  refine au_of (by decide) (Nat.le_of_ble_eq_true rfl) ?_
  show au_Go G _ _ 0 [some (au_r MO), some (au_i f), some (au_i t), some (au_i z), none] [] (rowS mi MA A, si, hi, sl, r, nx) 0 0
  refine au_aload_n dX2_wrongNow_0 rfl ?_
  refine au_getf (C := RX2) (T := TX2) (N := 35) in_X2 (by decide) rfl 0 (by decide) rfl rfl q1359 rfl dX2_wrongNow_1 (v := au_r MA) (congrArg au_q (fx_MO_0 hF)) ?_
  refine au_bipush dX2_wrongNow_4 rfl rfl ?_
  refine au_iald dX2_wrongNow_6 rfl (by omega) (by show _ < ((4544 : Nat) : Int); omega) (v := au_i (R 2)) (congrArg au_i ((au_gi_m (au_reg_MA _)).trans (show (rowS mi MA A) MA 8 = _ from (rowS_self _ _ _ _).trans (hM.1.2.2.1)))) ?_
  refine au_istore dX2_wrongNow_7 (show 4 < 5 by decide) ?_
  show au_Go G _ _ 9 [some (au_r MO), some (au_i f), some (au_i t), some (au_i z), some (au_i (R 2))] [] ((rowS mi MA A), si, hi, sl, r, nx) 0 0
  refine au_aload_n dX2_wrongNow_9 rfl ?_
  refine au_iload dX2_wrongNow_10 rfl ?_
  refine au_iconst dX2_wrongNow_12 rfl rfl ?_
  refine au_iload_n dX2_wrongNow_13 rfl ?_
  refine au_callV (n := 3) (kX2_put G (R 2) 0 f A mi si hi sl r nx hF (by omega) (by omega) (by decide) (by decide)) (lw_V q1674 q1676 qs90 q134 q1677) rfl (by decide +kernel) (by decide) (T := TX2) (N := 35) rfl rfl rfl rfl (Nat.le_of_ble_eq_true rfl) (Nat.le_of_ble_eq_true rfl) (Nat.le_of_ble_eq_true rfl) (Nat.le_of_ble_eq_true rfl) (Nat.le_of_ble_eq_true rfl) dX2_wrongNow_14 (fun rv_ M_ hp_ => ?_)
  obtain ⟨rfl, rfl⟩ := hp_
  show au_Go G _ _ 17 [some (au_r MO), some (au_i f), some (au_i t), some (au_i z), some (au_i (R 2))] [] ((rowS mi MA (up1 A (20 + 7 * (R 2) + 0) f)), si, hi, sl, r, nx) 0 0
  refine au_aload_n dX2_wrongNow_17 rfl ?_
  refine au_iload dX2_wrongNow_18 rfl ?_
  refine au_iconst dX2_wrongNow_20 rfl rfl ?_
  refine au_iload_n dX2_wrongNow_21 rfl ?_
  refine au_callV (n := 3) (kX2_put G (R 2) 1 t (up1 A (20 + 7 * (R 2) + 0) f) mi si hi sl r nx hF (by omega) (by omega) (by decide) (by decide)) (lw_V q1674 q1676 qs90 q134 q1677) rfl (by decide +kernel) (by decide) (T := TX2) (N := 35) rfl rfl rfl rfl (Nat.le_of_ble_eq_true rfl) (Nat.le_of_ble_eq_true rfl) (Nat.le_of_ble_eq_true rfl) (Nat.le_of_ble_eq_true rfl) (Nat.le_of_ble_eq_true rfl) dX2_wrongNow_22 (fun rv_ M_ hp_ => ?_)
  obtain ⟨rfl, rfl⟩ := hp_
  show au_Go G _ _ 25 [some (au_r MO), some (au_i f), some (au_i t), some (au_i z), some (au_i (R 2))] [] ((rowS mi MA (up1 (up1 A (20 + 7 * (R 2) + 0) f) (20 + 7 * (R 2) + 1) t)), si, hi, sl, r, nx) 0 0
  refine au_aload_n dX2_wrongNow_25 rfl ?_
  refine au_iload dX2_wrongNow_26 rfl ?_
  refine au_iconst dX2_wrongNow_28 rfl rfl ?_
  refine au_iload_n dX2_wrongNow_29 rfl ?_
  refine au_callV (n := 3) (kX2_put G (R 2) 2 f (up1 (up1 A (20 + 7 * (R 2) + 0) f) (20 + 7 * (R 2) + 1) t) mi si hi sl r nx hF (by omega) (by omega) (by decide) (by decide)) (lw_V q1674 q1676 qs90 q134 q1677) rfl (by decide +kernel) (by decide) (T := TX2) (N := 35) rfl rfl rfl rfl (Nat.le_of_ble_eq_true rfl) (Nat.le_of_ble_eq_true rfl) (Nat.le_of_ble_eq_true rfl) (Nat.le_of_ble_eq_true rfl) (Nat.le_of_ble_eq_true rfl) dX2_wrongNow_30 (fun rv_ M_ hp_ => ?_)
  obtain ⟨rfl, rfl⟩ := hp_
  show au_Go G _ _ 33 [some (au_r MO), some (au_i f), some (au_i t), some (au_i z), some (au_i (R 2))] [] ((rowS mi MA (up1 (up1 (up1 A (20 + 7 * (R 2) + 0) f) (20 + 7 * (R 2) + 1) t) (20 + 7 * (R 2) + 2) f)), si, hi, sl, r, nx) 0 0
  refine au_aload_n dX2_wrongNow_33 rfl ?_
  refine au_iload dX2_wrongNow_34 rfl ?_
  refine au_iconst dX2_wrongNow_36 rfl rfl ?_
  refine au_iload_n dX2_wrongNow_37 rfl ?_
  refine au_callV (n := 3) (kX2_put G (R 2) 3 z (up1 (up1 (up1 A (20 + 7 * (R 2) + 0) f) (20 + 7 * (R 2) + 1) t) (20 + 7 * (R 2) + 2) f) mi si hi sl r nx hF (by omega) (by omega) (by decide) (by decide)) (lw_V q1674 q1676 qs90 q134 q1677) rfl (by decide +kernel) (by decide) (T := TX2) (N := 35) rfl rfl rfl rfl (Nat.le_of_ble_eq_true rfl) (Nat.le_of_ble_eq_true rfl) (Nat.le_of_ble_eq_true rfl) (Nat.le_of_ble_eq_true rfl) (Nat.le_of_ble_eq_true rfl) dX2_wrongNow_38 (fun rv_ M_ hp_ => ?_)
  obtain ⟨rfl, rfl⟩ := hp_
  show au_Go G _ _ 41 [some (au_r MO), some (au_i f), some (au_i t), some (au_i z), some (au_i (R 2))] [] ((rowS mi MA (up1 (up1 (up1 (up1 A (20 + 7 * (R 2) + 0) f) (20 + 7 * (R 2) + 1) t) (20 + 7 * (R 2) + 2) f) (20 + 7 * (R 2) + 3) z)), si, hi, sl, r, nx) 0 0
  refine au_aload_n dX2_wrongNow_41 rfl ?_
  refine au_iload dX2_wrongNow_42 rfl ?_
  refine au_iconst dX2_wrongNow_44 rfl rfl ?_
  refine au_iconst dX2_wrongNow_45 rfl rfl ?_
  refine au_callV (n := 3) (kX2_put G (R 2) 4 0 (up1 (up1 (up1 (up1 A (20 + 7 * (R 2) + 0) f) (20 + 7 * (R 2) + 1) t) (20 + 7 * (R 2) + 2) f) (20 + 7 * (R 2) + 3) z) mi si hi sl r nx hF (by omega) (by omega) (by decide) (by decide)) (lw_V q1674 q1676 qs90 q134 q1677) rfl (by decide +kernel) (by decide) (T := TX2) (N := 35) rfl rfl rfl rfl (Nat.le_of_ble_eq_true rfl) (Nat.le_of_ble_eq_true rfl) (Nat.le_of_ble_eq_true rfl) (Nat.le_of_ble_eq_true rfl) (Nat.le_of_ble_eq_true rfl) dX2_wrongNow_46 (fun rv_ M_ hp_ => ?_)
  obtain ⟨rfl, rfl⟩ := hp_
  show au_Go G _ _ 49 [some (au_r MO), some (au_i f), some (au_i t), some (au_i z), some (au_i (R 2))] [] ((rowS mi MA (up1 (up1 (up1 (up1 (up1 A (20 + 7 * (R 2) + 0) f) (20 + 7 * (R 2) + 1) t) (20 + 7 * (R 2) + 2) f) (20 + 7 * (R 2) + 3) z) (20 + 7 * (R 2) + 4) 0)), si, hi, sl, r, nx) 0 0
  refine au_aload_n dX2_wrongNow_49 rfl ?_
  refine au_iload dX2_wrongNow_50 rfl ?_
  refine au_iconst dX2_wrongNow_52 rfl rfl ?_
  refine au_aload_n dX2_wrongNow_53 rfl ?_
  refine au_getf (C := RX2) (T := TX2) (N := 35) in_X2 (by decide) rfl 0 (by decide) rfl rfl q1359 rfl dX2_wrongNow_54 (v := au_r MA) (congrArg au_q (fx_MO_0 hF)) ?_
  refine au_bipush dX2_wrongNow_57 rfl rfl ?_
  refine au_iald dX2_wrongNow_59 rfl (by omega) (by show _ < ((4544 : Nat) : Int); omega) (v := au_i (R 0)) (congrArg au_i ((au_gi_m (au_reg_MA _)).trans (show (rowS mi MA (up1 (up1 (up1 (up1 (up1 A (20 + 7 * (R 2) + 0) f) (20 + 7 * (R 2) + 1) t) (20 + 7 * (R 2) + 2) f) (20 + 7 * (R 2) + 3) z) (20 + 7 * (R 2) + 4) 0)) MA 6 = _ from (rowS_self _ _ _ _).trans ((up1_ne _ _ (by omega)).trans ((up1_ne _ _ (by omega)).trans ((up1_ne _ _ (by omega)).trans ((up1_ne _ _ (by omega)).trans ((up1_ne _ _ (by omega)).trans (hM.1.1))))))))) ?_
  refine au_callV (n := 3) (kX2_put G (R 2) 5 (R 0) (up1 (up1 (up1 (up1 (up1 A (20 + 7 * (R 2) + 0) f) (20 + 7 * (R 2) + 1) t) (20 + 7 * (R 2) + 2) f) (20 + 7 * (R 2) + 3) z) (20 + 7 * (R 2) + 4) 0) mi si hi sl r nx hF (by omega) (by omega) (by decide) (by decide)) (lw_V q1674 q1676 qs90 q134 q1677) rfl (by decide +kernel) (by decide) (T := TX2) (N := 35) rfl rfl rfl rfl (Nat.le_of_ble_eq_true rfl) (Nat.le_of_ble_eq_true rfl) (Nat.le_of_ble_eq_true rfl) (Nat.le_of_ble_eq_true rfl) (Nat.le_of_ble_eq_true rfl) dX2_wrongNow_60 (fun rv_ M_ hp_ => ?_)
  obtain ⟨rfl, rfl⟩ := hp_
  show au_Go G _ _ 63 [some (au_r MO), some (au_i f), some (au_i t), some (au_i z), some (au_i (R 2))] [] ((rowS mi MA (up1 (up1 (up1 (up1 (up1 (up1 A (20 + 7 * (R 2) + 0) f) (20 + 7 * (R 2) + 1) t) (20 + 7 * (R 2) + 2) f) (20 + 7 * (R 2) + 3) z) (20 + 7 * (R 2) + 4) 0) (20 + 7 * (R 2) + 5) (R 0))), si, hi, sl, r, nx) 0 0
  refine au_aload_n dX2_wrongNow_63 rfl ?_
  refine au_iload dX2_wrongNow_64 rfl ?_
  refine au_bipush dX2_wrongNow_66 rfl rfl ?_
  refine au_iconst dX2_wrongNow_68 rfl rfl ?_
  refine au_callV (n := 3) (kX2_put G (R 2) 6 0 (up1 (up1 (up1 (up1 (up1 (up1 A (20 + 7 * (R 2) + 0) f) (20 + 7 * (R 2) + 1) t) (20 + 7 * (R 2) + 2) f) (20 + 7 * (R 2) + 3) z) (20 + 7 * (R 2) + 4) 0) (20 + 7 * (R 2) + 5) (R 0)) mi si hi sl r nx hF (by omega) (by omega) (by decide) (by decide)) (lw_V q1674 q1676 qs90 q134 q1677) rfl (by decide +kernel) (by decide) (T := TX2) (N := 35) rfl rfl rfl rfl (Nat.le_of_ble_eq_true rfl) (Nat.le_of_ble_eq_true rfl) (Nat.le_of_ble_eq_true rfl) (Nat.le_of_ble_eq_true rfl) (Nat.le_of_ble_eq_true rfl) dX2_wrongNow_69 (fun rv_ M_ hp_ => ?_)
  obtain ⟨rfl, rfl⟩ := hp_
  show au_Go G _ _ 72 [some (au_r MO), some (au_i f), some (au_i t), some (au_i z), some (au_i (R 2))] [] ((rowS mi MA (up1 (up1 (up1 (up1 (up1 (up1 (up1 A (20 + 7 * (R 2) + 0) f) (20 + 7 * (R 2) + 1) t) (20 + 7 * (R 2) + 2) f) (20 + 7 * (R 2) + 3) z) (20 + 7 * (R 2) + 4) 0) (20 + 7 * (R 2) + 5) (R 0)) (20 + 7 * (R 2) + 6) 0)), si, hi, sl, r, nx) 0 0
  refine au_aload_n dX2_wrongNow_72 rfl ?_
  refine au_getf (C := RX2) (T := TX2) (N := 35) in_X2 (by decide) rfl 0 (by decide) rfl rfl q1359 rfl dX2_wrongNow_73 (v := au_r MA) (congrArg au_q (fx_MO_0 hF)) ?_
  refine au_bipush dX2_wrongNow_76 rfl rfl ?_
  refine au_dup2 dX2_wrongNow_78 rfl rfl ?_
  refine au_iald dX2_wrongNow_79 rfl (by omega) (by show _ < ((4544 : Nat) : Int); omega) (v := au_i (R 2)) (congrArg au_i ((au_gi_m (au_reg_MA _)).trans (show (rowS mi MA (up1 (up1 (up1 (up1 (up1 (up1 (up1 A (20 + 7 * (R 2) + 0) f) (20 + 7 * (R 2) + 1) t) (20 + 7 * (R 2) + 2) f) (20 + 7 * (R 2) + 3) z) (20 + 7 * (R 2) + 4) 0) (20 + 7 * (R 2) + 5) (R 0)) (20 + 7 * (R 2) + 6) 0)) MA 8 = _ from (rowS_self _ _ _ _).trans ((up1_ne _ _ (by omega)).trans ((up1_ne _ _ (by omega)).trans ((up1_ne _ _ (by omega)).trans ((up1_ne _ _ (by omega)).trans ((up1_ne _ _ (by omega)).trans ((up1_ne _ _ (by omega)).trans ((up1_ne _ _ (by omega)).trans (hM.1.2.2.1))))))))))) ?_
  refine au_iconst dX2_wrongNow_80 rfl rfl ?_
  refine au_iadd dX2_wrongNow_81 (by omega) (by omega) ?_
  refine au_iast dX2_wrongNow_82 rfl (by decide) (by omega) (by show _ < ((4544 : Nat) : Int); omega) (M' := ((au_up (rowS mi MA (up1 (up1 (up1 (up1 (up1 (up1 (up1 A (20 + 7 * (R 2) + 0) f) (20 + 7 * (R 2) + 1) t) (20 + 7 * (R 2) + 2) f) (20 + 7 * (R 2) + 3) z) (20 + 7 * (R 2) + 4) 0) (20 + 7 * (R 2) + 5) (R 0)) (20 + 7 * (R 2) + 6) 0)) MA 8 ((R 2) + 1)), si, hi, sl, r, nx)) (au_wv_m (au_reg_MA _)) ?_
  rw [au_up_row (rowS mi MA (up1 (up1 (up1 (up1 (up1 (up1 (up1 A (20 + 7 * (R 2) + 0) f) (20 + 7 * (R 2) + 1) t) (20 + 7 * (R 2) + 2) f) (20 + 7 * (R 2) + 3) z) (20 + 7 * (R 2) + 4) 0) (20 + 7 * (R 2) + 5) (R 0)) (20 + 7 * (R 2) + 6) 0)) MA 8 ((R 2) + 1), rowS_selfF, rowS_rowS]
  refine au_vret dX2_wrongNow_83 rfl rfl (Nat.le_of_ble_eq_true rfl) (Nat.le_of_ble_eq_true rfl) ?_
  refine ⟨rfl, _, rfl, ?_, ((((((((FrW.up wr A _ (by omega) (by omega) (by omega)).tr (FrW.up wr _ _ (by omega) (by omega) (by omega))).tr (FrW.up wr _ _ (by omega) (by omega) (by omega))).tr (FrW.up wr _ _ (by omega) (by omega) (by omega))).tr (FrW.up wr _ _ (by omega) (by omega) (by omega))).tr (FrW.up wr _ _ (by omega) (by omega) (by omega))).tr (FrW.up wr _ _ (by omega) (by omega) (by omega))).tr (FrW.up wr _ _ (by decide) (by decide) (by decide)))⟩
  rw [← wgF_eq R f t z]
  exact ((((((((hM.put f h0 h1 (by decide) (by decide)).put t h0 h1 (by decide) (by decide)).put f h0 h1 (by decide) (by decide)).put z h0 h1 (by decide) (by decide)).put 0 h0 h1 (by decide) (by decide)).put (R 0) h0 h1 (by decide) (by decide)).put 0 h0 h1 (by decide) (by decide)).count (R 2 + 1))
theorem kX2_wrong (G : au_G) (f t z : Int) (n : Int) (B Pr Co R : Int → Int) (ns : Int) (S : Nat → Int → Int) (A : Int → Int) (mi si hi sl : au_A → Int → Int) (r : au_A → Int → Option au_A) (nx : Nat) (hF : Fix r) (hW : mi MO 23 = 1) (hY : MY A (n, B, Pr, Co, R, ns, S)) (hK : YOK (n, B, Pr, Co, R, ns, S)) : au_Ctr G yX2_wrong cX2_wrong 4 (some .int) 3 0 0 [au_r MO, au_i f, au_i t, au_i z] (rowS mi MA A, si, hi, sl, r, nx) (PoM hi r nx mi A (some (au_i (wrY (n, B, Pr, Co, R, ns, S) f t z).1)) (wrY (n, B, Pr, Co, R, ns, S) f t z).2) := by
  refine au_of (by decide) (Nat.le_of_ble_eq_true rfl) ?_
  obtain ⟨jN, jE, jPr, jCo, hM, h3, hS⟩ := id hY
  obtain ⟨jB, jP9, jC0, jR, jns, jSR⟩ := id hK
  have hN : A 0 = n := jN
  have hBo : ∀ o, 0 ≤ o → o < 10 → A (90 + o) = B o := jE
  have hCo : ∀ o, 0 ≤ o → o < 10 → A (110 + o) = Co o := jCo
  have hM : MRel 1 A R := hM
  have h3 : A 3 = ns := h3
  have hS : ∀ k : Nat, k < 30 → MSt A k (S k) := hS
  have hB : Bs B n := jB
  have hns : 0 ≤ ns ∧ ns ≤ 30 := jns
  have hb1 := hB.1
  have hb0 := hB.2.1
  have hn : 0 ≤ n ∧ n ≤ 10 := ⟨hb1, hb0⟩
  have hR : RowOK R n B := jR
  obtain ⟨⟨r0, r0b⟩, ⟨r1, r1b⟩, ⟨r2, r2b⟩, ⟨r83, r83b⟩, rA⟩ := id hR.1
  have gN : rowS mi MA A MA 0 = n := (rowS_self _ _ _ _).trans hN
  have gE : ∀ o, 0 ≤ o → o < 10 → rowS mi MA A MA (90 + o) = B o := fun o a b => (rowS_self _ _ _ _).trans (hBo o a b)
  have g8 : rowS mi MA A MA 8 = R 2 := (rowS_self _ _ _ _).trans hM.1.2.2.1
  show au_Go G _ _ 0 [some (au_r MO), some (au_i f), some (au_i t), some (au_i z)] [] (rowS mi MA A, si, hi, sl, r, nx) 0 0
  refine au_aload_n dX2_wrong_0 rfl ?_
  refine au_iload_n dX2_wrong_1 rfl ?_
  refine au_iload_n dX2_wrong_2 rfl ?_
  refine au_callVp (n := 2) (kX2_canWrong G f t n B R A mi si hi sl r nx hF gN gE hB hM.1) (lw_V q1658 q1660 qs86 q134 q1661) rfl (by decide +kernel) (by decide) (T := TX2) (N := 35) rfl rfl rfl rfl (Nat.le_of_ble_eq_true rfl) (Nat.le_of_ble_eq_true rfl) (Nat.le_of_ble_eq_true rfl) (Nat.le_of_ble_eq_true rfl) (Nat.le_of_ble_eq_true rfl) dX2_wrong_3 ?_
  refine au_if_eq (tgt := 20) dX2_wrong_6 (by decide) (fun c6 => ?_) (fun c6 => ?_)
  · have c6 := au_b0 c6
    refine au_iconst dX2_wrong_20 rfl rfl ?_
    refine au_iret dX2_wrong_21 rfl rfl (Nat.le_of_ble_eq_true rfl) (Nat.le_of_ble_eq_true rfl) ?_
    first
    | exact PoM.of (show wrY (n, B, Pr, Co, R, ns, S) f t z = _ from if_neg (fun z => c6 z.1)) hY (FrM.rf A) rfl
    | exact PoM.of (show wrY (n, B, Pr, Co, R, ns, S) f t z = _ from if_neg (fun z => c17 z.2)) hY (FrM.rf A) rfl
  · have c6 := au_b1 c6
    refine au_iload_n dX2_wrong_9 rfl ?_
    refine au_iconst dX2_wrong_10 rfl rfl ?_
    refine au_sipush dX2_wrong_11 rfl rfl ?_
    refine au_callSp (n := 3) (kX2_isIn G z 1 9999 ((rowS mi MA A), si, hi, sl, r, nx)) (lw_S q1475 q1476 q134 q1477) (by decide +kernel) rfl rfl rfl (Nat.le_of_ble_eq_true rfl) (Nat.le_of_ble_eq_true rfl) (Nat.le_of_ble_eq_true rfl) (Nat.le_of_ble_eq_true rfl) (Nat.le_of_ble_eq_true rfl) dX2_wrong_14 ?_
    refine au_if_ne (tgt := 22) dX2_wrong_17 (by decide) (fun c17 => ?_) (fun c17 => ?_)
    · have c17 := au_b1 c17
      obtain ⟨c61, c62, c63, c64⟩ := id c6
      refine au_aload_n dX2_wrong_22 rfl ?_
      refine au_callV (n := 0) (kX2_keep G ns S R A mi si hi sl r nx hF hM h3 hS hns) (lw_V q1666 q1668 qs88 q134 q1669) rfl (by decide +kernel) (by decide) (T := TX2) (N := 35) rfl rfl rfl rfl (Nat.le_of_ble_eq_true rfl) (Nat.le_of_ble_eq_true rfl) (Nat.le_of_ble_eq_true rfl) (Nat.le_of_ble_eq_true rfl) (Nat.le_of_ble_eq_true rfl) dX2_wrong_23 (fun rv_ M_ hp_ => ?_)
      obtain ⟨rfl, A1, rfl, hk3, hkS, hkf⟩ := hp_
      have hY1 := hY.keep hk3 hkS hkf
      have hM1 : MRel 1 A1 R := hY1.2.2.2.2.1
      show au_Go G _ _ 26 [some (au_r MO), some (au_i f), some (au_i t), some (au_i z)] [] ((rowS mi MA A1), si, hi, sl, r, nx) 0 0
      refine au_aload_n dX2_wrong_26 rfl ?_
      refine au_iload_n dX2_wrong_27 rfl ?_
      refine au_iload_n dX2_wrong_28 rfl ?_
      refine au_iload_n dX2_wrong_29 rfl ?_
      refine au_callV (n := 3) (kX2_wrongNow G f t z 1 R A1 mi si hi sl r nx hF hM1 r2 c64) (lw_V q1670 q1672 qs89 q134 q1673) rfl (by decide +kernel) (by decide) (T := TX2) (N := 35) rfl rfl rfl rfl (Nat.le_of_ble_eq_true rfl) (Nat.le_of_ble_eq_true rfl) (Nat.le_of_ble_eq_true rfl) (Nat.le_of_ble_eq_true rfl) (Nat.le_of_ble_eq_true rfl) dX2_wrong_30 (fun rv_ M_ hp_ => ?_)
      obtain ⟨rfl, A2, rfl, hM2, hf2⟩ := hp_
      show au_Go G _ _ 33 [some (au_r MO), some (au_i f), some (au_i t), some (au_i z)] [] ((rowS mi MA A2), si, hi, sl, r, nx) 0 0
      refine au_aload_n dX2_wrong_33 rfl ?_
      refine au_getf (C := RX2) (T := TX2) (N := 35) in_X2 (by decide) rfl 0 (by decide) rfl rfl q1359 rfl dX2_wrong_34 (v := au_r MA) (congrArg au_q (fx_MO_0 hF)) ?_
      refine au_bipush dX2_wrong_37 rfl rfl ?_
      refine au_iald dX2_wrong_39 rfl (by omega) (by show _ < ((4544 : Nat) : Int); omega) (v := au_i ((R 2 + 1))) (congrArg au_i (((au_gi_m (au_reg_MA _)).trans (show rowS mi MA A2 MA 8 = A2 8 from (rowS_self _ _ _ _).trans (rfl))).trans (hM2.1.2.2.1.trans (up1_self _ _ _)))) ?_
      refine au_iconst dX2_wrong_40 rfl rfl ?_
      refine au_isub dX2_wrong_41 (by omega) (by omega) ?_
      exact au_iret dX2_wrong_42 rfl rfl (Nat.le_of_ble_eq_true rfl) (Nat.le_of_ble_eq_true rfl) (PoM.of (show wrY (n, B, Pr, Co, R, ns, S) f t z = _ from if_pos ⟨c6, c17⟩) (hY1.row hM2 hf2) (hkf.M.tr hf2.M) (show au_i (R 2 + 1 - 1) = au_i (R 2) from congrArg au_i (by omega)))
    · have c17 := au_b0 c17
      refine au_iconst dX2_wrong_20 rfl rfl ?_
      refine au_iret dX2_wrong_21 rfl rfl (Nat.le_of_ble_eq_true rfl) (Nat.le_of_ble_eq_true rfl) ?_
      first
      | exact PoM.of (show wrY (n, B, Pr, Co, R, ns, S) f t z = _ from if_neg (fun z => c6 z.1)) hY (FrM.rf A) rfl
      | exact PoM.of (show wrY (n, B, Pr, Co, R, ns, S) f t z = _ from if_neg (fun z => c17 z.2)) hY (FrM.rf A) rfl
theorem kX2_away (G : au_G) (o e : Int) (n : Int) (B Pr Co R : Int → Int) (ns : Int) (S : Nat → Int → Int) (A : Int → Int) (mi si hi sl : au_A → Int → Int) (r : au_A → Int → Option au_A) (nx : Nat) (hF : Fix r) (hW : mi MO 23 = 1) (hY : MY A (n, B, Pr, Co, R, ns, S)) (hK : YOK (n, B, Pr, Co, R, ns, S)) : au_Ctr G yX2_away cX2_away 3 (some .boolean) 3 0 0 [au_r MO, au_i o, au_i e] (rowS mi MA A, si, hi, sl, r, nx) (PoM hi r nx mi A (some (au_i (awY (n, B, Pr, Co, R, ns, S) o e).1)) (awY (n, B, Pr, Co, R, ns, S) o e).2) := by
  refine au_of (by decide) (Nat.le_of_ble_eq_true rfl) ?_
  obtain ⟨jN, jE, jPr, jCo, hM, h3, hS⟩ := id hY
  obtain ⟨jB, jP9, jC0, jR, jns, jSR⟩ := id hK
  have hN : A 0 = n := jN
  have hBo : ∀ o, 0 ≤ o → o < 10 → A (90 + o) = B o := jE
  have hCo : ∀ o, 0 ≤ o → o < 10 → A (110 + o) = Co o := jCo
  have hM : MRel 1 A R := hM
  have h3 : A 3 = ns := h3
  have hS : ∀ k : Nat, k < 30 → MSt A k (S k) := hS
  have hB : Bs B n := jB
  have hns : 0 ≤ ns ∧ ns ≤ 30 := jns
  have hb1 := hB.1
  have hb0 := hB.2.1
  have hn : 0 ≤ n ∧ n ≤ 10 := ⟨hb1, hb0⟩
  have hR : RowOK R n B := jR
  obtain ⟨⟨r0, r0b⟩, ⟨r1, r1b⟩, ⟨r2, r2b⟩, ⟨r83, r83b⟩, rA⟩ := id hR.1
  have gN : rowS mi MA A MA 0 = n := (rowS_self _ _ _ _).trans hN
  have gE : ∀ o, 0 ≤ o → o < 10 → rowS mi MA A MA (90 + o) = B o := fun o a b => (rowS_self _ _ _ _).trans (hBo o a b)
  have g8 : rowS mi MA A MA 8 = R 2 := (rowS_self _ _ _ _).trans hM.1.2.2.1
  show au_Go G _ _ 0 [some (au_r MO), some (au_i o), some (au_i e)] [] (rowS mi MA A, si, hi, sl, r, nx) 0 0
  refine au_aload_n dX2_away_0 rfl ?_
  refine au_iload_n dX2_away_1 rfl ?_
  refine au_callVp (n := 1) (kX2_isOfficer G o (rowS mi MA A) si hi sl r nx hF n gN hn) (lw_V q1471 q1473 qs56 q134 q1474) rfl (by decide +kernel) (by decide) (T := TX2) (N := 35) rfl rfl rfl rfl (Nat.le_of_ble_eq_true rfl) (Nat.le_of_ble_eq_true rfl) (Nat.le_of_ble_eq_true rfl) (Nat.le_of_ble_eq_true rfl) (Nat.le_of_ble_eq_true rfl) dX2_away_2 ?_
  refine au_if_eq (tgt := 18) dX2_away_5 (by decide) (fun c5 => ?_) (fun c5 => ?_)
  · have c5 := au_b0 c5
    refine au_iconst dX2_away_18 rfl rfl ?_
    refine au_zret dX2_away_19 rfl (Or.inl rfl) rfl (Nat.le_of_ble_eq_true rfl) (Nat.le_of_ble_eq_true rfl) ?_
    first
    | exact PoM.of (show awY (n, B, Pr, Co, R, ns, S) o e = _ from if_neg (fun z => c5 z.1)) hY (FrM.rf A) rfl
    | exact PoM.of (show awY (n, B, Pr, Co, R, ns, S) o e = _ from if_neg (fun z => c15 z.2)) hY (FrM.rf A) rfl
  · have c5 := au_b1 c5
    refine au_iload_n dX2_away_8 rfl ?_
    refine au_iconst dX2_away_9 rfl rfl ?_
    refine au_bipush dX2_away_10 rfl rfl ?_
    refine au_callSp (n := 3) (kX2_isIn G e 0 99 ((rowS mi MA A), si, hi, sl, r, nx)) (lw_S q1475 q1476 q134 q1477) (by decide +kernel) rfl rfl rfl (Nat.le_of_ble_eq_true rfl) (Nat.le_of_ble_eq_true rfl) (Nat.le_of_ble_eq_true rfl) (Nat.le_of_ble_eq_true rfl) (Nat.le_of_ble_eq_true rfl) dX2_away_12 ?_
    refine au_if_ne (tgt := 20) dX2_away_15 (by decide) (fun c15 => ?_) (fun c15 => ?_)
    · have c15 := au_b1 c15
      refine au_aload_n dX2_away_20 rfl ?_
      refine au_callV (n := 0) (kX2_keep G ns S R A mi si hi sl r nx hF hM h3 hS hns) (lw_V q1666 q1668 qs88 q134 q1669) rfl (by decide +kernel) (by decide) (T := TX2) (N := 35) rfl rfl rfl rfl (Nat.le_of_ble_eq_true rfl) (Nat.le_of_ble_eq_true rfl) (Nat.le_of_ble_eq_true rfl) (Nat.le_of_ble_eq_true rfl) (Nat.le_of_ble_eq_true rfl) dX2_away_21 (fun rv_ M_ hp_ => ?_)
      obtain ⟨rfl, A1, rfl, hk3, hkS, hkf⟩ := hp_
      have hY1 := hY.keep hk3 hkS hkf
      have hM1 : MRel 1 A1 R := hY1.2.2.2.2.1
      show au_Go G _ _ 24 [some (au_r MO), some (au_i o), some (au_i e)] [] ((rowS mi MA A1), si, hi, sl, r, nx) 0 0
      refine au_aload_n dX2_away_24 rfl ?_
      refine au_getf (C := RX2) (T := TX2) (N := 35) in_X2 (by decide) rfl 0 (by decide) rfl rfl q1359 rfl dX2_away_25 (v := au_r MA) (congrArg au_q (fx_MO_0 hF)) ?_
      refine au_bipush dX2_away_28 rfl rfl ?_
      refine au_iload_n dX2_away_30 rfl ?_
      refine au_iadd dX2_away_31 (by omega) (by omega) ?_
      refine au_iload_n dX2_away_32 rfl ?_
      refine au_if_ne (tgt := 40) dX2_away_33 (by decide) (fun c33 => ?_) (fun c33 => ?_)
      · refine au_aload_n dX2_away_40 rfl ?_
        refine au_getf (C := RX2) (T := TX2) (N := 35) in_X2 (by decide) rfl 0 (by decide) rfl rfl q1359 rfl dX2_away_41 (v := au_r MA) (congrArg au_q (fx_MO_0 hF)) ?_
        refine au_bipush dX2_away_44 rfl rfl ?_
        refine au_iald dX2_away_46 rfl (by omega) (by show _ < ((4544 : Nat) : Int); omega) (v := au_i (R 0)) (congrArg au_i (((au_gi_m (au_reg_MA _)).trans (show rowS mi MA A1 MA 6 = A1 6 from (rowS_self _ _ _ _).trans (rfl))).trans (hM1.1.1))) ?_
        refine au_iload_n dX2_away_47 rfl ?_
        refine au_iadd dX2_away_48 (by omega) (by omega) ?_
        refine au_iast dX2_away_49 rfl (by decide) (by omega) (by show _ < ((4544 : Nat) : Int); omega) (M' := ((au_up (rowS mi MA A1) MA (10 + o) ((R 0) + e)), si, hi, sl, r, nx)) (au_wv_m (au_reg_MA _)) ?_
        rw [au_up_row (rowS mi MA A1) MA (10 + o) ((R 0) + e), rowS_selfF, rowS_rowS]
        refine au_iconst dX2_away_50 rfl rfl ?_
        refine au_zret dX2_away_51 rfl (Or.inr rfl) rfl (Nat.le_of_ble_eq_true rfl) (Nat.le_of_ble_eq_true rfl) ?_
        have ed : ∀ v, v = (if e = 0 then 0 else R 0 + e) → MRel 1 (up1 A1 (10 + o) v) (awF R o e) := fun v hv => by
          unfold awF
          rw [← hv]
          exact hM1.away v (by omega) (by omega)
        have hf2 : ∀ v, FrW 1 A1 (up1 A1 (10 + o) v) := fun v => FrW.up 1 A1 v (by omega) (by omega) (by omega)
        first
        | exact PoM.of (show awY (n, B, Pr, Co, R, ns, S) o e = _ from if_pos ⟨c5, c15⟩) (hY1.row (ed _ (by rw [if_pos c33])) (hf2 _)) (hkf.M.tr (hf2 _).M) rfl
        | exact PoM.of (show awY (n, B, Pr, Co, R, ns, S) o e = _ from if_pos ⟨c5, c15⟩) (hY1.row (ed _ (by rw [if_neg c33])) (hf2 _)) (hkf.M.tr (hf2 _).M) rfl
      · refine au_iconst dX2_away_36 rfl rfl ?_
        refine au_goto (tgt := 49) dX2_away_37 (by decide) ?_
        refine au_iast dX2_away_49 rfl (by decide) (by omega) (by show _ < ((4544 : Nat) : Int); omega) (M' := ((au_up (rowS mi MA A1) MA (10 + o) 0), si, hi, sl, r, nx)) (au_wv_m (au_reg_MA _)) ?_
        rw [au_up_row (rowS mi MA A1) MA (10 + o) 0, rowS_selfF, rowS_rowS]
        refine au_iconst dX2_away_50 rfl rfl ?_
        refine au_zret dX2_away_51 rfl (Or.inr rfl) rfl (Nat.le_of_ble_eq_true rfl) (Nat.le_of_ble_eq_true rfl) ?_
        have ed : ∀ v, v = (if e = 0 then 0 else R 0 + e) → MRel 1 (up1 A1 (10 + o) v) (awF R o e) := fun v hv => by
          unfold awF
          rw [← hv]
          exact hM1.away v (by omega) (by omega)
        have hf2 : ∀ v, FrW 1 A1 (up1 A1 (10 + o) v) := fun v => FrW.up 1 A1 v (by omega) (by omega) (by omega)
        first
        | exact PoM.of (show awY (n, B, Pr, Co, R, ns, S) o e = _ from if_pos ⟨c5, c15⟩) (hY1.row (ed _ (by rw [if_pos c33])) (hf2 _)) (hkf.M.tr (hf2 _).M) rfl
        | exact PoM.of (show awY (n, B, Pr, Co, R, ns, S) o e = _ from if_pos ⟨c5, c15⟩) (hY1.row (ed _ (by rw [if_neg c33])) (hf2 _)) (hkf.M.tr (hf2 _).M) rfl
    · have c15 := au_b0 c15
      refine au_iconst dX2_away_18 rfl rfl ?_
      refine au_zret dX2_away_19 rfl (Or.inl rfl) rfl (Nat.le_of_ble_eq_true rfl) (Nat.le_of_ble_eq_true rfl) ?_
      first
      | exact PoM.of (show awY (n, B, Pr, Co, R, ns, S) o e = _ from if_neg (fun z => c5 z.1)) hY (FrM.rf A) rfl
      | exact PoM.of (show awY (n, B, Pr, Co, R, ns, S) o e = _ from if_neg (fun z => c15 z.2)) hY (FrM.rf A) rfl
theorem kX2_canSend (G : au_G) (a t : Int) (n : Int) (B Pr Co R : Int → Int) (ns : Int) (S : Nat → Int → Int) (A : Int → Int) (mi si hi sl : au_A → Int → Int) (r : au_A → Int → Option au_A) (nx : Nat) (hF : Fix r) (hY : MY A (n, B, Pr, Co, R, ns, S)) (hK : YOK (n, B, Pr, Co, R, ns, S)) : au_Ctr G yX2_canSend cX2_canSend 3 (some .boolean) 2 0 0 [au_r MO, au_i a, au_i t] (rowS mi MA A, si, hi, sl, r, nx) (au_pure (au_i (au_b (sdP n B Co R a t))) (rowS mi MA A, si, hi, sl, r, nx)) := by
  refine au_of (by decide) (Nat.le_of_ble_eq_true rfl) ?_
  obtain ⟨jN, jE, jPr, jCo, hM, h3, hS⟩ := id hY
  obtain ⟨jB, jP9, jC0, jR, jns, jSR⟩ := id hK
  have hN : A 0 = n := jN
  have hBo : ∀ o, 0 ≤ o → o < 10 → A (90 + o) = B o := jE
  have hCo : ∀ o, 0 ≤ o → o < 10 → A (110 + o) = Co o := jCo
  have hM : MRel 1 A R := hM
  have h3 : A 3 = ns := h3
  have hS : ∀ k : Nat, k < 30 → MSt A k (S k) := hS
  have hB : Bs B n := jB
  have hns : 0 ≤ ns ∧ ns ≤ 30 := jns
  have hb1 := hB.1
  have hb0 := hB.2.1
  have hn : 0 ≤ n ∧ n ≤ 10 := ⟨hb1, hb0⟩
  have hR : RowOK R n B := jR
  obtain ⟨⟨r0, r0b⟩, ⟨r1, r1b⟩, ⟨r2, r2b⟩, ⟨r83, r83b⟩, rA⟩ := id hR.1
  have gN : rowS mi MA A MA 0 = n := (rowS_self _ _ _ _).trans hN
  have gE : ∀ o, 0 ≤ o → o < 10 → rowS mi MA A MA (90 + o) = B o := fun o a b => (rowS_self _ _ _ _).trans (hBo o a b)
  have g8 : rowS mi MA A MA 8 = R 2 := (rowS_self _ _ _ _).trans hM.1.2.2.1
  show au_Go G _ _ 0 [some (au_r MO), some (au_i a), some (au_i t)] [] (rowS mi MA A, si, hi, sl, r, nx) 0 0
  refine au_aload_n dX2_canSend_0 rfl ?_
  refine au_iload_n dX2_canSend_1 rfl ?_
  refine au_callVp (n := 1) (kX2_isApology G a (rowS mi MA A) si hi sl r nx hF (R 2) g8 ⟨r2, r2b⟩) (lw_V q1690 q1692 qs92 q134 q1693) rfl (by decide +kernel) (by decide) (T := TX2) (N := 35) rfl rfl rfl rfl (Nat.le_of_ble_eq_true rfl) (Nat.le_of_ble_eq_true rfl) (Nat.le_of_ble_eq_true rfl) (Nat.le_of_ble_eq_true rfl) (Nat.le_of_ble_eq_true rfl) dX2_canSend_2 ?_
  refine au_if_eq (tgt := 81) dX2_canSend_5 (by decide) (fun c5 => ?_) (fun c5 => ?_)
  · have c5 := au_b0 c5
    refine au_iconst dX2_canSend_81 rfl rfl ?_
    exact au_zret dX2_canSend_82 rfl (Or.inl rfl) rfl (Nat.le_of_ble_eq_true rfl) (Nat.le_of_ble_eq_true rfl) (au_pf (by first | exact ⟨c5, c13, c22, by omega, c60, c74⟩ | exact fun z => c5 z.1 | exact fun z => c13 z.2.1 | exact fun z => c22 z.2.2.1 | exact fun z => (show ¬ (R (3 + 7 * a + 6) ≤ R 0) by omega) z.2.2.2.1 | exact fun z => c60 z.2.2.2.2.1 | exact fun z => c74 z.2.2.2.2.2) rfl)
  · have c5 := au_b1 c5
    refine au_aload_n dX2_canSend_8 rfl ?_
    refine au_iload_n dX2_canSend_9 rfl ?_
    refine au_callVp (n := 1) (kX2_isOfficer G t (rowS mi MA A) si hi sl r nx hF n gN hn) (lw_V q1471 q1473 qs56 q134 q1474) rfl (by decide +kernel) (by decide) (T := TX2) (N := 35) rfl rfl rfl rfl (Nat.le_of_ble_eq_true rfl) (Nat.le_of_ble_eq_true rfl) (Nat.le_of_ble_eq_true rfl) (Nat.le_of_ble_eq_true rfl) (Nat.le_of_ble_eq_true rfl) dX2_canSend_10 ?_
    refine au_if_eq (tgt := 81) dX2_canSend_13 (by decide) (fun c13 => ?_) (fun c13 => ?_)
    · have c13 := au_b0 c13
      refine au_iconst dX2_canSend_81 rfl rfl ?_
      exact au_zret dX2_canSend_82 rfl (Or.inl rfl) rfl (Nat.le_of_ble_eq_true rfl) (Nat.le_of_ble_eq_true rfl) (au_pf (by first | exact ⟨c5, c13, c22, by omega, c60, c74⟩ | exact fun z => c5 z.1 | exact fun z => c13 z.2.1 | exact fun z => c22 z.2.2.1 | exact fun z => (show ¬ (R (3 + 7 * a + 6) ≤ R 0) by omega) z.2.2.2.1 | exact fun z => c60 z.2.2.2.2.1 | exact fun z => c74 z.2.2.2.2.2) rfl)
    · have c13 := au_b1 c13
      obtain ⟨f0, t0, p0, s0, w0, g0⟩ := rA a c5.1 c5.2
      refine au_aload_n dX2_canSend_16 rfl ?_
      refine au_iload_n dX2_canSend_17 rfl ?_
      refine au_iconst dX2_canSend_18 rfl rfl ?_
      refine au_callVp (n := 2) (kX2_getR G a 4 R A mi si hi sl r nx hF hM.1 (by omega) (by omega) (by decide) (by decide)) (lw_V q1694 q1696 qs93 q134 q1697) rfl (by decide +kernel) (by decide) (T := TX2) (N := 35) rfl rfl rfl rfl (Nat.le_of_ble_eq_true rfl) (Nat.le_of_ble_eq_true rfl) (Nat.le_of_ble_eq_true rfl) (Nat.le_of_ble_eq_true rfl) (Nat.le_of_ble_eq_true rfl) dX2_canSend_19 ?_
      refine au_if_ne (tgt := 81) dX2_canSend_22 (by decide) (fun c22 => ?_) (fun c22 => ?_)
      · refine au_iconst dX2_canSend_81 rfl rfl ?_
        exact au_zret dX2_canSend_82 rfl (Or.inl rfl) rfl (Nat.le_of_ble_eq_true rfl) (Nat.le_of_ble_eq_true rfl) (au_pf (by first | exact ⟨c5, c13, c22, by omega, c60, c74⟩ | exact fun z => c5 z.1 | exact fun z => c13 z.2.1 | exact fun z => c22 z.2.2.1 | exact fun z => (show ¬ (R (3 + 7 * a + 6) ≤ R 0) by omega) z.2.2.2.1 | exact fun z => c60 z.2.2.2.2.1 | exact fun z => c74 z.2.2.2.2.2) rfl)
      · refine au_aload_n dX2_canSend_25 rfl ?_
        refine au_getf (C := RX2) (T := TX2) (N := 35) in_X2 (by decide) rfl 0 (by decide) rfl rfl q1359 rfl dX2_canSend_26 (v := au_r MA) (congrArg au_q (fx_MO_0 hF)) ?_
        refine au_bipush dX2_canSend_29 rfl rfl ?_
        refine au_iald dX2_canSend_31 rfl (by omega) (by show _ < ((4544 : Nat) : Int); omega) (v := au_i (R 0)) (congrArg au_i (((au_gi_m (au_reg_MA _)).trans (show rowS mi MA A MA 6 = A 6 from (rowS_self _ _ _ _).trans (rfl))).trans (hM.1.1))) ?_
        refine au_aload_n dX2_canSend_32 rfl ?_
        refine au_iload_n dX2_canSend_33 rfl ?_
        refine au_bipush dX2_canSend_34 rfl rfl ?_
        refine au_callVp (n := 2) (kX2_getR G a 6 R A mi si hi sl r nx hF hM.1 (by omega) (by omega) (by decide) (by decide)) (lw_V q1694 q1696 qs93 q134 q1697) rfl (by decide +kernel) (by decide) (T := TX2) (N := 35) rfl rfl rfl rfl (Nat.le_of_ble_eq_true rfl) (Nat.le_of_ble_eq_true rfl) (Nat.le_of_ble_eq_true rfl) (Nat.le_of_ble_eq_true rfl) (Nat.le_of_ble_eq_true rfl) dX2_canSend_36 ?_
        refine au_icmp_lt (tgt := 81) dX2_canSend_39 (by decide) (fun c39 => ?_) (fun c39 => ?_)
        · refine au_iconst dX2_canSend_81 rfl rfl ?_
          exact au_zret dX2_canSend_82 rfl (Or.inl rfl) rfl (Nat.le_of_ble_eq_true rfl) (Nat.le_of_ble_eq_true rfl) (au_pf (by first | exact ⟨c5, c13, c22, by omega, c60, c74⟩ | exact fun z => c5 z.1 | exact fun z => c13 z.2.1 | exact fun z => c22 z.2.2.1 | exact fun z => (show ¬ (R (3 + 7 * a + 6) ≤ R 0) by omega) z.2.2.2.1 | exact fun z => c60 z.2.2.2.2.1 | exact fun z => c74 z.2.2.2.2.2) rfl)
        · refine au_aload_n dX2_canSend_42 rfl ?_
          refine au_getf (C := RX2) (T := TX2) (N := 35) in_X2 (by decide) rfl 0 (by decide) rfl rfl q1359 rfl dX2_canSend_43 (v := au_r MA) (congrArg au_q (fx_MO_0 hF)) ?_
          refine au_bipush dX2_canSend_46 rfl rfl ?_
          refine au_aload_n dX2_canSend_48 rfl ?_
          refine au_iload_n dX2_canSend_49 rfl ?_
          refine au_iconst dX2_canSend_50 rfl rfl ?_
          refine au_callVp (n := 2) (kX2_getR G a 2 R A mi si hi sl r nx hF hM.1 (by omega) (by omega) (by decide) (by decide)) (lw_V q1694 q1696 qs93 q134 q1697) rfl (by decide +kernel) (by decide) (T := TX2) (N := 35) rfl rfl rfl rfl (Nat.le_of_ble_eq_true rfl) (Nat.le_of_ble_eq_true rfl) (Nat.le_of_ble_eq_true rfl) (Nat.le_of_ble_eq_true rfl) (Nat.le_of_ble_eq_true rfl) dX2_canSend_51 ?_
          refine au_iadd dX2_canSend_54 (by omega) (by omega) ?_
          refine au_iald dX2_canSend_55 rfl (by omega) (by show _ < ((4544 : Nat) : Int); omega) (v := au_i (Co (R (3 + 7 * a + 2)))) (congrArg au_i (((au_gi_m (au_reg_MA _)).trans (show rowS mi MA A MA (110 + (R (3 + 7 * a + 2))) = A (110 + (R (3 + 7 * a + 2))) from (rowS_self _ _ _ _).trans (rfl))).trans (hCo _ (by omega) (by omega)))) ?_
          refine au_iload_n dX2_canSend_56 rfl ?_
          refine au_callSp (n := 2) (kX2_has G (Co (R (3 + 7 * a + 2))) t ((rowS mi MA A), si, hi, sl, r, nx)) (lw_S q1482 q1483 q134 q1484) (by decide +kernel) rfl rfl rfl (Nat.le_of_ble_eq_true rfl) (Nat.le_of_ble_eq_true rfl) (Nat.le_of_ble_eq_true rfl) (Nat.le_of_ble_eq_true rfl) (Nat.le_of_ble_eq_true rfl) dX2_canSend_57 ?_
          refine au_if_eq (tgt := 81) dX2_canSend_60 (by decide) (fun c60 => ?_) (fun c60 => ?_)
          · have c60 := au_b0 c60
            refine au_iconst dX2_canSend_81 rfl rfl ?_
            exact au_zret dX2_canSend_82 rfl (Or.inl rfl) rfl (Nat.le_of_ble_eq_true rfl) (Nat.le_of_ble_eq_true rfl) (au_pf (by first | exact ⟨c5, c13, c22, by omega, c60, c74⟩ | exact fun z => c5 z.1 | exact fun z => c13 z.2.1 | exact fun z => c22 z.2.2.1 | exact fun z => (show ¬ (R (3 + 7 * a + 6) ≤ R 0) by omega) z.2.2.2.1 | exact fun z => c60 z.2.2.2.2.1 | exact fun z => c74 z.2.2.2.2.2) rfl)
          · have c60 := au_b1 c60
            refine au_aload_n dX2_canSend_63 rfl ?_
            refine au_aload_n dX2_canSend_64 rfl ?_
            refine au_iload_n dX2_canSend_65 rfl ?_
            refine au_iconst dX2_canSend_66 rfl rfl ?_
            refine au_callVp (n := 2) (kX2_getR G a 1 R A mi si hi sl r nx hF hM.1 (by omega) (by omega) (by decide) (by decide)) (lw_V q1694 q1696 qs93 q134 q1697) rfl (by decide +kernel) (by decide) (T := TX2) (N := 35) rfl rfl rfl rfl (Nat.le_of_ble_eq_true rfl) (Nat.le_of_ble_eq_true rfl) (Nat.le_of_ble_eq_true rfl) (Nat.le_of_ble_eq_true rfl) (Nat.le_of_ble_eq_true rfl) dX2_canSend_67 ?_
            refine au_iload_n dX2_canSend_70 rfl ?_
            refine au_callVp (n := 2) (kX2_isAbove G t (R (3 + 7 * a + 1)) (rowS mi MA A) si hi sl r nx hF n gN B gE hB (by omega) (by omega) (by omega)) (lw_V q1662 q1664 qs87 q134 q1665) rfl (by decide +kernel) (by decide) (T := TX2) (N := 35) rfl rfl rfl rfl (Nat.le_of_ble_eq_true rfl) (Nat.le_of_ble_eq_true rfl) (Nat.le_of_ble_eq_true rfl) (Nat.le_of_ble_eq_true rfl) (Nat.le_of_ble_eq_true rfl) dX2_canSend_71 ?_
            refine au_if_eq (tgt := 81) dX2_canSend_74 (by decide) (fun c74 => ?_) (fun c74 => ?_)
            · have c74 := au_b0 c74
              refine au_iconst dX2_canSend_81 rfl rfl ?_
              exact au_zret dX2_canSend_82 rfl (Or.inl rfl) rfl (Nat.le_of_ble_eq_true rfl) (Nat.le_of_ble_eq_true rfl) (au_pf (by first | exact ⟨c5, c13, c22, by omega, c60, c74⟩ | exact fun z => c5 z.1 | exact fun z => c13 z.2.1 | exact fun z => c22 z.2.2.1 | exact fun z => (show ¬ (R (3 + 7 * a + 6) ≤ R 0) by omega) z.2.2.2.1 | exact fun z => c60 z.2.2.2.2.1 | exact fun z => c74 z.2.2.2.2.2) rfl)
            · have c74 := au_b1 c74
              refine au_iconst dX2_canSend_77 rfl rfl ?_
              refine au_goto (tgt := 82) dX2_canSend_78 (by decide) ?_
              exact au_zret dX2_canSend_82 rfl (Or.inr rfl) rfl (Nat.le_of_ble_eq_true rfl) (Nat.le_of_ble_eq_true rfl) (au_pt (by first | exact ⟨c5, c13, c22, by omega, c60, c74⟩ | exact fun z => c5 z.1 | exact fun z => c13 z.2.1 | exact fun z => c22 z.2.2.1 | exact fun z => (show ¬ (R (3 + 7 * a + 6) ≤ R 0) by omega) z.2.2.2.1 | exact fun z => c60 z.2.2.2.2.1 | exact fun z => c74 z.2.2.2.2.2) rfl)
theorem kX2_sideways (G : au_G) (a t : Int) (n : Int) (B Pr Co R : Int → Int) (ns : Int) (S : Nat → Int → Int) (A : Int → Int) (mi si hi sl : au_A → Int → Int) (r : au_A → Int → Option au_A) (nx : Nat) (hF : Fix r) (hW : mi MO 23 = 1) (hY : MY A (n, B, Pr, Co, R, ns, S)) (hK : YOK (n, B, Pr, Co, R, ns, S)) : au_Ctr G yX2_sideways cX2_sideways 3 (some .boolean) 3 0 0 [au_r MO, au_i a, au_i t] (rowS mi MA A, si, hi, sl, r, nx) (PoM hi r nx mi A (some (au_i (sdY (n, B, Pr, Co, R, ns, S) a t).1)) (sdY (n, B, Pr, Co, R, ns, S) a t).2) := by
  refine au_of (by decide) (Nat.le_of_ble_eq_true rfl) ?_
  obtain ⟨jN, jE, jPr, jCo, hM, h3, hS⟩ := id hY
  obtain ⟨jB, jP9, jC0, jR, jns, jSR⟩ := id hK
  have hN : A 0 = n := jN
  have hBo : ∀ o, 0 ≤ o → o < 10 → A (90 + o) = B o := jE
  have hCo : ∀ o, 0 ≤ o → o < 10 → A (110 + o) = Co o := jCo
  have hM : MRel 1 A R := hM
  have h3 : A 3 = ns := h3
  have hS : ∀ k : Nat, k < 30 → MSt A k (S k) := hS
  have hB : Bs B n := jB
  have hns : 0 ≤ ns ∧ ns ≤ 30 := jns
  have hb1 := hB.1
  have hb0 := hB.2.1
  have hn : 0 ≤ n ∧ n ≤ 10 := ⟨hb1, hb0⟩
  have hR : RowOK R n B := jR
  obtain ⟨⟨r0, r0b⟩, ⟨r1, r1b⟩, ⟨r2, r2b⟩, ⟨r83, r83b⟩, rA⟩ := id hR.1
  have gN : rowS mi MA A MA 0 = n := (rowS_self _ _ _ _).trans hN
  have gE : ∀ o, 0 ≤ o → o < 10 → rowS mi MA A MA (90 + o) = B o := fun o a b => (rowS_self _ _ _ _).trans (hBo o a b)
  have g8 : rowS mi MA A MA 8 = R 2 := (rowS_self _ _ _ _).trans hM.1.2.2.1
  show au_Go G _ _ 0 [some (au_r MO), some (au_i a), some (au_i t)] [] (rowS mi MA A, si, hi, sl, r, nx) 0 0
  refine au_aload_n dX2_sideways_0 rfl ?_
  refine au_iload_n dX2_sideways_1 rfl ?_
  refine au_iload_n dX2_sideways_2 rfl ?_
  refine au_callVp (n := 2) (kX2_canSend G a t n B Pr Co R ns S A mi si hi sl r nx hF hY hK) (lw_V q1686 q1688 qs91 q134 q1689) rfl (by decide +kernel) (by decide) (T := TX2) (N := 35) rfl rfl rfl rfl (Nat.le_of_ble_eq_true rfl) (Nat.le_of_ble_eq_true rfl) (Nat.le_of_ble_eq_true rfl) (Nat.le_of_ble_eq_true rfl) (Nat.le_of_ble_eq_true rfl) dX2_sideways_3 ?_
  refine au_if_ne (tgt := 11) dX2_sideways_6 (by decide) (fun c6 => ?_) (fun c6 => ?_)
  · have c6 := au_b1 c6
    have hsp := c6
    obtain ⟨⟨q0, q1⟩, q2⟩ := hsp
    refine au_aload_n dX2_sideways_11 rfl ?_
    refine au_callV (n := 0) (kX2_keep G ns S R A mi si hi sl r nx hF hM h3 hS hns) (lw_V q1666 q1668 qs88 q134 q1669) rfl (by decide +kernel) (by decide) (T := TX2) (N := 35) rfl rfl rfl rfl (Nat.le_of_ble_eq_true rfl) (Nat.le_of_ble_eq_true rfl) (Nat.le_of_ble_eq_true rfl) (Nat.le_of_ble_eq_true rfl) (Nat.le_of_ble_eq_true rfl) dX2_sideways_12 (fun rv_ M_ hp_ => ?_)
    obtain ⟨rfl, A1, rfl, hk3, hkS, hkf⟩ := hp_
    have hY1 := hY.keep hk3 hkS hkf
    have hM1 : MRel 1 A1 R := hY1.2.2.2.2.1
    show au_Go G _ _ 15 [some (au_r MO), some (au_i a), some (au_i t)] [] ((rowS mi MA A1), si, hi, sl, r, nx) 0 0
    refine au_aload_n dX2_sideways_15 rfl ?_
    refine au_iload_n dX2_sideways_16 rfl ?_
    refine au_iconst dX2_sideways_17 rfl rfl ?_
    refine au_iload_n dX2_sideways_18 rfl ?_
    refine au_callV (n := 3) (kX2_put G a 2 t A1 mi si hi sl r nx hF (by omega) (by omega) (by decide) (by decide)) (lw_V q1674 q1676 qs90 q134 q1677) rfl (by decide +kernel) (by decide) (T := TX2) (N := 35) rfl rfl rfl rfl (Nat.le_of_ble_eq_true rfl) (Nat.le_of_ble_eq_true rfl) (Nat.le_of_ble_eq_true rfl) (Nat.le_of_ble_eq_true rfl) (Nat.le_of_ble_eq_true rfl) dX2_sideways_19 (fun rv_ M_ hp_ => ?_)
    obtain ⟨rfl, rfl⟩ := hp_
    show au_Go G _ _ 22 [some (au_r MO), some (au_i a), some (au_i t)] [] ((rowS mi MA (up1 A1 (20 + 7 * a + 2) t)), si, hi, sl, r, nx) 0 0
    refine au_aload_n dX2_sideways_22 rfl ?_
    refine au_iload_n dX2_sideways_23 rfl ?_
    refine au_bipush dX2_sideways_24 rfl rfl ?_
    refine au_aload_n dX2_sideways_26 rfl ?_
    refine au_getf (C := RX2) (T := TX2) (N := 35) in_X2 (by decide) rfl 0 (by decide) rfl rfl q1359 rfl dX2_sideways_27 (v := au_r MA) (congrArg au_q (fx_MO_0 hF)) ?_
    refine au_bipush dX2_sideways_30 rfl rfl ?_
    refine au_iald dX2_sideways_32 rfl (by omega) (by show _ < ((4544 : Nat) : Int); omega) (v := au_i (R 0)) (congrArg au_i ((au_gi_m (au_reg_MA _)).trans (show (rowS mi MA (up1 A1 (20 + 7 * a + 2) t)) MA 6 = _ from (rowS_self _ _ _ _).trans ((up1_ne _ _ (by omega)).trans (hM1.1.1))))) ?_
    refine au_iconst dX2_sideways_33 rfl rfl ?_
    refine au_iadd dX2_sideways_34 (by omega) (by omega) ?_
    refine au_callV (n := 3) (kX2_put G a 6 ((R 0) + 2) (up1 A1 (20 + 7 * a + 2) t) mi si hi sl r nx hF (by omega) (by omega) (by decide) (by decide)) (lw_V q1674 q1676 qs90 q134 q1677) rfl (by decide +kernel) (by decide) (T := TX2) (N := 35) rfl rfl rfl rfl (Nat.le_of_ble_eq_true rfl) (Nat.le_of_ble_eq_true rfl) (Nat.le_of_ble_eq_true rfl) (Nat.le_of_ble_eq_true rfl) (Nat.le_of_ble_eq_true rfl) dX2_sideways_35 (fun rv_ M_ hp_ => ?_)
    obtain ⟨rfl, rfl⟩ := hp_
    show au_Go G _ _ 38 [some (au_r MO), some (au_i a), some (au_i t)] [] ((rowS mi MA (up1 (up1 A1 (20 + 7 * a + 2) t) (20 + 7 * a + 6) ((R 0) + 2))), si, hi, sl, r, nx) 0 0
    refine au_iconst dX2_sideways_38 rfl rfl ?_
    refine au_zret dX2_sideways_39 rfl (Or.inr rfl) rfl (Nat.le_of_ble_eq_true rfl) (Nat.le_of_ble_eq_true rfl) ?_
    have hM2 : MRel 1 _ (sdF R a t) := (hM1.put t q0 (by omega) (by decide) (by decide)).put (R 0 + 2) q0 (by omega) (by decide) (by decide)
    have hf2 : FrW 1 A1 _ := (FrW.up 1 A1 t (j := 20 + 7 * a + 2) (by omega) (by omega) (by omega)).tr (FrW.up 1 _ (R 0 + 2) (j := 20 + 7 * a + 6) (by omega) (by omega) (by omega))
    exact PoM.of (show sdY (n, B, Pr, Co, R, ns, S) a t = _ from if_pos c6) (hY1.row hM2 hf2) (hkf.M.tr hf2.M) rfl
  · have c6 := au_b0 c6
    refine au_iconst dX2_sideways_9 rfl rfl ?_
    exact au_zret dX2_sideways_10 rfl (Or.inl rfl) rfl (Nat.le_of_ble_eq_true rfl) (Nat.le_of_ble_eq_true rfl) (PoM.of (show sdY (n, B, Pr, Co, R, ns, S) a t = _ from if_neg c6) hY (FrM.rf A) rfl)
theorem kX2_arePassed (G : au_G) (Lw : au_Lw) (z : Int) (n : Int) (B Pr Co R : Int → Int) (ns : Int) (S : Nat → Int → Int) (A : Int → Int) (mi si hi sl : au_A → Int → Int) (r : au_A → Int → Option au_A) (nx : Nat) (hF : Fix r) (hW : mi MO 23 = 1) (hY : MY A (n, B, Pr, Co, R, ns, S)) (hK : YOK (n, B, Pr, Co, R, ns, S)) (hE : EnA (mi MT) A n B Pr Lw) (hz : 0 ≤ z ∧ z ≤ 60) : au_Ctr G yX2_arePassed cX2_arePassed 3 (some .boolean) 7 0 0 [au_r MO, au_i z] (rowS mi MA A, si, hi, sl, r, nx) (fun rv M' => rv = some (au_i (paY Lw z.toNat (n, B, Pr, Co, R, ns, S)).1) ∧ ∃ (A' : Int → Int) (sj slj : au_A → Int → Int), M' = (rowS mi MA A', sj, hi, slj, r, nx) ∧ MY A' (paY Lw z.toNat (n, B, Pr, Co, R, ns, S)).2.1 ∧ FrM A A' ∧ sj MO 24 = (paY Lw z.toNat (n, B, Pr, Co, R, ns, S)).2.2.1) := by
  refine au_of (by decide) (Nat.le_of_ble_eq_true rfl) ?_
  show au_Go G _ _ 0 [some (au_r MO), some (au_i z), none] [] (rowS mi MA A, si, hi, sl, r, nx) 0 0
  refine au_aload_n dX2_arePassed_0 rfl ?_
  refine au_iconst dX2_arePassed_1 rfl rfl ?_
  refine au_putf (a := MO) (C := RX2) (T := TX2) (N := 35) in_X2 tyX2_ok nmX2 (by decide) rfl 24 (by decide) rfl (by decide) rfl q1383 rfl rfl trivial (fun _ _ _ h => au_nf_i h) dX2_arePassed_2 (M' := ((rowS mi MA A), (au_up si MO 24 0), hi, sl, r, nx)) (by rfl) ?_
  refine au_iconst dX2_arePassed_5 rfl rfl ?_
  refine au_istore_n dX2_arePassed_6 (show 2 < 3 by decide) ?_
  show au_Go G _ _ 7 [some (au_r MO), some (au_i z), some (au_i 0)] [] ((rowS mi MA A), (au_up si MO 24 0), hi, sl, r, nx) 0 0
  have hl : ∀ (f : Nat) (e : Nat) (Rj : Int → Int) (nj : Int) (Sj : Nat → Int → Int) (j : Int) (Aj : Int → Int) (sj lj : au_A → Int → Int), j + (e : Int) = z → YOK (n, B, Pr, Co, Rj, nj, Sj) → MY Aj (n, B, Pr, Co, Rj, nj, Sj) → FrM A Aj → EnA (mi MT) Aj n B Pr Lw → (paY Lw e (n, B, Pr, Co, Rj, nj, Sj)).1 = (paY Lw z.toNat (n, B, Pr, Co, R, ns, S)).1 → (paY Lw e (n, B, Pr, Co, Rj, nj, Sj)).2.1 = (paY Lw z.toNat (n, B, Pr, Co, R, ns, S)).2.1 → sj MO 24 + (paY Lw e (n, B, Pr, Co, Rj, nj, Sj)).2.2.1 = (paY Lw z.toNat (n, B, Pr, Co, R, ns, S)).2.2.1 → 0 ≤ j → (0 ≤ sj MO 24 ∧ sj MO 24 ≤ 20 * j) → e < f → au_Go G (yX2_arePassed.cls, cX2_arePassed, 3, (some .boolean), au_rm 7 0 0, yX2_arePassed.name) (au_QM G (au_rm 7 0 0) (fun rv M' => rv = some (au_i (paY Lw z.toNat (n, B, Pr, Co, R, ns, S)).1) ∧ ∃ (A' : Int → Int) (sj slj : au_A → Int → Int), M' = (rowS mi MA A', sj, hi, slj, r, nx) ∧ MY A' (paY Lw z.toNat (n, B, Pr, Co, R, ns, S)).2.1 ∧ FrM A A' ∧ sj MO 24 = (paY Lw z.toNat (n, B, Pr, Co, R, ns, S)).2.2.1)) 7 [some (au_r MO), some (au_i z), some (au_i j)] [] (rowS mi MA Aj, sj, hi, lj, r, nx) 0 0 := by
    intro f
    induction f with
    | zero => intro e Rj nj Sj j Aj sj lj h1 hKj hYj hFj hEj hb hy hd hj hq hf; exfalso; omega
    | succ f ih =>
      intro e Rj nj Sj j Aj sj lj h1 hKj hYj hFj hEj hb hy hd hj hq hf
      refine au_iload_n dX2_arePassed_7 rfl ?_
      refine au_iload_n dX2_arePassed_8 rfl ?_
      refine au_icmp_ge (tgt := 41) dX2_arePassed_9 (by decide) (fun c9 => ?_) (fun c9 => ?_)
      · refine au_iconst dX2_arePassed_41 rfl rfl ?_
        refine au_zret dX2_arePassed_42 rfl (Or.inr rfl) rfl (Nat.le_of_ble_eq_true rfl) (Nat.le_of_ble_eq_true rfl) ?_
        have he : e = 0 := by omega
        subst he
        have hy : (n, B, Pr, Co, Rj, nj, Sj) = _ := hy
        have hd : sj MO 24 + (0 : Int) = _ := hd
        refine ⟨by rw [← hb]; rfl, Aj, sj, lj, rfl, by rw [← hy]; exact hYj, hFj, by omega⟩
      · obtain ⟨e, rfl⟩ : ∃ e', e = e' + 1 := ⟨e - 1, by omega⟩
        have hRj : RowOK Rj n B := hKj.2.2.2.1
        have hBj : Bs B n := hKj.1
        have hdj : 0 ≤ Rj 0 ∧ Rj 0 ≤ 9999 := hRj.1.1
        refine au_aload_n dX2_arePassed_12 rfl ?_
        refine au_getf (C := RX2) (T := TX2) (N := 35) in_X2 (by decide) rfl 0 (by decide) rfl rfl q1359 rfl dX2_arePassed_13 (v := au_r MA) (congrArg au_q (fx_MO_0 hF)) ?_
        refine au_bipush dX2_arePassed_16 rfl rfl ?_
        refine au_iald dX2_arePassed_18 rfl (by omega) (by show _ < ((4544 : Nat) : Int); omega) (v := au_i (Rj 0)) (congrArg au_i (((au_gi_m (au_reg_MA _)).trans (show rowS mi MA Aj MA 6 = Aj 6 from (rowS_self _ _ _ _).trans (rfl))).trans (hYj.2.2.2.2.1.1.1))) ?_
        refine au_sipush dX2_arePassed_19 rfl rfl ?_
        refine au_icmp_ne (tgt := 27) dX2_arePassed_22 (by decide) (fun c22 => ?_) (fun c22 => ?_)
        · have h0 : Rj 0 < 9999 := by omega
          rw [paY_s e h0] at hb hy hd
          have hd : sj MO 24 + (_ + _) = _ := hd
          have hp2 := pasF_20 (Pr := Pr) (Lw := Lw) hBj hRj h0
          refine au_aload_n dX2_arePassed_27 rfl ?_
          refine au_callV (n := 0) (kX2_keep G nj Sj Rj Aj mi sj hi lj r nx hF hYj.2.2.2.2.1 hYj.2.2.2.2.2.1 hYj.2.2.2.2.2.2 hKj.2.2.2.2.1) (lw_V q1666 q1668 qs88 q134 q1669) rfl (by decide +kernel) (by decide) (T := TX2) (N := 35) rfl rfl rfl rfl (Nat.le_of_ble_eq_true rfl) (Nat.le_of_ble_eq_true rfl) (Nat.le_of_ble_eq_true rfl) (Nat.le_of_ble_eq_true rfl) (Nat.le_of_ble_eq_true rfl) dX2_arePassed_28 (fun rv_ M_ hp_ => ?_)
          obtain ⟨rfl, A1, rfl, hk3, hkS, hkf⟩ := hp_
          have hY1 := hYj.keep hk3 hkS hkf
          have hM1 : MRel 1 A1 Rj := hY1.2.2.2.2.1
          show au_Go G _ _ 31 [some (au_r MO), some (au_i z), some (au_i j)] [] ((rowS mi MA A1), sj, hi, lj, r, nx) 0 0
          have hE1 : EnA (mi MT) A1 n B Pr Lw := hEj.to hkf.M hY1 (hKj.keep hRj)
          refine au_aload_n dX2_arePassed_31 rfl ?_
          refine au_callV (n := 0) (kX2_pass G 1 n B Pr Lw Rj A1 mi sj hi lj r nx hF hW (Or.inr rfl) hE1 hM1 hRj h0) (lw_V q1706 q1708 qs95 q134 q1709) rfl (by decide +kernel) (by decide) (T := TX2) (N := 35) rfl rfl rfl rfl (Nat.le_of_ble_eq_true rfl) (Nat.le_of_ble_eq_true rfl) (Nat.le_of_ble_eq_true rfl) (Nat.le_of_ble_eq_true rfl) (Nat.le_of_ble_eq_true rfl) dX2_arePassed_32 (fun rv_ M_ hp_ => ?_)
          obtain ⟨rfl, A2, s2, l2, rfl, hM2, hf2, hd2, hp2, hs2⟩ := hp_
          show au_Go G _ _ 35 [some (au_r MO), some (au_i z), some (au_i j)] [] ((rowS mi MA A2), s2, hi, l2, r, nx) 0 0
          refine au_iinc dX2_arePassed_35 rfl (show 2 < 3 by decide) (by omega) (by omega) (by decide) (by decide) ?_
          show au_Go G _ _ 38 [some (au_r MO), some (au_i z), some (au_i (j + 1))] [] ((rowS mi MA A2), s2, hi, l2, r, nx) 0 0
          refine au_goto (tgt := 7) dX2_arePassed_38 (by decide) ?_
          have hd3 := hd2 (by omega) (by omega)
          exact ih e _ _ _ _ _ _ _ (by omega) (hKj.pass h0) (hY1.row hM2 hf2) ((hFj.tr hkf.M).tr hf2.M) (hE1.fr hf2) hb hy (by rw [hd3]; omega) (by omega) (by rw [hd3]; omega) (by omega)
        · refine au_iconst dX2_arePassed_25 rfl rfl ?_
          refine au_zret dX2_arePassed_26 rfl (Or.inl rfl) rfl (Nat.le_of_ble_eq_true rfl) (Nat.le_of_ble_eq_true rfl) ?_
          have e1 : ¬ Rj 0 < 9999 := by omega
          rw [paY_n e e1] at hb hy hd
          have hy : (n, B, Pr, Co, Rj, nj, Sj) = _ := hy
          have hd : sj MO 24 + (0 : Int) = _ := hd
          refine ⟨by rw [← hb], Aj, sj, lj, rfl, by rw [← hy]; exact hYj, hFj, by omega⟩
  exact hl (z.toNat + 1) z.toNat R ns S 0 A _ sl (by omega) hK hY (FrM.rf A) hE rfl rfl (by rw [au_up_self]; omega) (by omega) (by rw [au_up_self]; omega) (by omega)
theorem kX2_day (G : au_G) (Lw : au_Lw) (z : Int) (n : Int) (B Pr Co R : Int → Int) (ns : Int) (S : Nat → Int → Int) (A : Int → Int) (mi si hi sl : au_A → Int → Int) (r : au_A → Int → Option au_A) (nx : Nat) (hF : Fix r) (hW : mi MO 23 = 1) (hY : MY A (n, B, Pr, Co, R, ns, S)) (hK : YOK (n, B, Pr, Co, R, ns, S)) (hE : EnA (mi MT) A n B Pr Lw) : au_Ctr G yX2_day cX2_day 2 (some .int) 8 0 0 [au_r MO, au_i z] (rowS mi MA A, si, hi, sl, r, nx) (PoM hi r nx mi A (some (au_i (dayY Lw (n, B, Pr, Co, R, ns, S) z).1)) (dayY Lw (n, B, Pr, Co, R, ns, S) z).2) := by
  refine au_of (by decide) (Nat.le_of_ble_eq_true rfl) ?_
  obtain ⟨jN, jE, jPr, jCo, hM, h3, hS⟩ := id hY
  obtain ⟨jB, jP9, jC0, jR, jns, jSR⟩ := id hK
  have hN : A 0 = n := jN
  have hBo : ∀ o, 0 ≤ o → o < 10 → A (90 + o) = B o := jE
  have hCo : ∀ o, 0 ≤ o → o < 10 → A (110 + o) = Co o := jCo
  have hM : MRel 1 A R := hM
  have h3 : A 3 = ns := h3
  have hS : ∀ k : Nat, k < 30 → MSt A k (S k) := hS
  have hB : Bs B n := jB
  have hns : 0 ≤ ns ∧ ns ≤ 30 := jns
  have hb1 := hB.1
  have hb0 := hB.2.1
  have hn : 0 ≤ n ∧ n ≤ 10 := ⟨hb1, hb0⟩
  have hR : RowOK R n B := jR
  obtain ⟨⟨r0, r0b⟩, ⟨r1, r1b⟩, ⟨r2, r2b⟩, ⟨r83, r83b⟩, rA⟩ := id hR.1
  have gN : rowS mi MA A MA 0 = n := (rowS_self _ _ _ _).trans hN
  have gE : ∀ o, 0 ≤ o → o < 10 → rowS mi MA A MA (90 + o) = B o := fun o a b => (rowS_self _ _ _ _).trans (hBo o a b)
  have g8 : rowS mi MA A MA 8 = R 2 := (rowS_self _ _ _ _).trans hM.1.2.2.1
  show au_Go G _ _ 0 [some (au_r MO), some (au_i z)] [] (rowS mi MA A, si, hi, sl, r, nx) 0 0
  refine au_iload_n dX2_day_0 rfl ?_
  refine au_iconst dX2_day_1 rfl rfl ?_
  refine au_bipush dX2_day_2 rfl rfl ?_
  refine au_callSp (n := 3) (kX2_isIn G z 1 60 ((rowS mi MA A), si, hi, sl, r, nx)) (lw_S q1475 q1476 q134 q1477) (by decide +kernel) rfl rfl rfl (Nat.le_of_ble_eq_true rfl) (Nat.le_of_ble_eq_true rfl) (Nat.le_of_ble_eq_true rfl) (Nat.le_of_ble_eq_true rfl) (Nat.le_of_ble_eq_true rfl) dX2_day_4 ?_
  refine au_if_eq (tgt := 40) dX2_day_7 (by decide) (fun c7 => ?_) (fun c7 => ?_)
  · have c7 := au_b0 c7
    refine au_iconst dX2_day_40 rfl rfl ?_
    refine au_iret dX2_day_41 rfl rfl (Nat.le_of_ble_eq_true rfl) (Nat.le_of_ble_eq_true rfl) ?_
    first
    | exact PoM.of (show dayY Lw (n, B, Pr, Co, R, ns, S) z = _ from if_neg (fun q => c7 q.1)) hY (FrM.rf A) rfl
    | exact PoM.of (show dayY Lw (n, B, Pr, Co, R, ns, S) z = _ from if_neg (fun q => (show ¬ (R 0 + z ≤ 9999) by omega) q.2)) hY (FrM.rf A) rfl
    | exact PoM.of (show dayY Lw (n, B, Pr, Co, R, ns, S) z = _ from if_pos ⟨c7, by omega⟩) hY2 hf2 rfl
  · have c7 := au_b1 c7
    refine au_aload_n dX2_day_10 rfl ?_
    refine au_getf (C := RX2) (T := TX2) (N := 35) in_X2 (by decide) rfl 0 (by decide) rfl rfl q1359 rfl dX2_day_11 (v := au_r MA) (congrArg au_q (fx_MO_0 hF)) ?_
    refine au_bipush dX2_day_14 rfl rfl ?_
    refine au_iald dX2_day_16 rfl (by omega) (by show _ < ((4544 : Nat) : Int); omega) (v := au_i (R 0)) (congrArg au_i (((au_gi_m (au_reg_MA _)).trans (show rowS mi MA A MA 6 = A 6 from (rowS_self _ _ _ _).trans (rfl))).trans (hM.1.1))) ?_
    refine au_iload_n dX2_day_17 rfl ?_
    refine au_iadd dX2_day_18 (by omega) (by omega) ?_
    refine au_sipush dX2_day_19 rfl rfl ?_
    refine au_icmp_gt (tgt := 40) dX2_day_22 (by decide) (fun c22 => ?_) (fun c22 => ?_)
    · refine au_iconst dX2_day_40 rfl rfl ?_
      refine au_iret dX2_day_41 rfl rfl (Nat.le_of_ble_eq_true rfl) (Nat.le_of_ble_eq_true rfl) ?_
      first
      | exact PoM.of (show dayY Lw (n, B, Pr, Co, R, ns, S) z = _ from if_neg (fun q => c7 q.1)) hY (FrM.rf A) rfl
      | exact PoM.of (show dayY Lw (n, B, Pr, Co, R, ns, S) z = _ from if_neg (fun q => (show ¬ (R 0 + z ≤ 9999) by omega) q.2)) hY (FrM.rf A) rfl
      | exact PoM.of (show dayY Lw (n, B, Pr, Co, R, ns, S) z = _ from if_pos ⟨c7, by omega⟩) hY2 hf2 rfl
    · refine au_aload_n dX2_day_25 rfl ?_
      refine au_iload_n dX2_day_26 rfl ?_
      refine au_callV (n := 1) (kX2_arePassed G Lw z n B Pr Co R ns S A mi si hi sl r nx hF hW hY hK hE ⟨by omega, by omega⟩) (lw_V q1702 q1704 qs94 q134 q1705) rfl (by decide +kernel) (by decide) (T := TX2) (N := 35) rfl rfl rfl rfl (Nat.le_of_ble_eq_true rfl) (Nat.le_of_ble_eq_true rfl) (Nat.le_of_ble_eq_true rfl) (Nat.le_of_ble_eq_true rfl) (Nat.le_of_ble_eq_true rfl) dX2_day_27 (fun rv_ M_ hp_ => ?_)
      obtain ⟨rfl, A2, s2, l2, rfl, hY2, hf2, hd2⟩ := hp_
      show au_Go G _ _ 30 [some (au_r MO), some (au_i z)] [au_i ((paY Lw z.toNat (n, B, Pr, Co, R, ns, S)).1)] ((rowS mi MA A2), s2, hi, l2, r, nx) 0 0
      refine au_if_eq (tgt := 40) dX2_day_30 (by decide) (fun c30 => ?_) (fun c30 => ?_)
      · exact absurd c30 (by rw [paY_all z.toNat (n, B, Pr, Co, R, ns, S) hK (by show R 0 + (z.toNat : Int) ≤ 9999; omega)]; decide)
      · refine au_aload_n dX2_day_33 rfl ?_
        refine au_getf (C := RX2) (T := TX2) (N := 35) in_X2 (by decide) rfl 24 (by decide) rfl rfl q1383 rfl dX2_day_34 (v := au_i ((paY Lw z.toNat (n, B, Pr, Co, R, ns, S)).2.2.1)) (congrArg au_i hd2) ?_
        refine au_goto (tgt := 41) dX2_day_37 (by decide) ?_
        refine au_iret dX2_day_41 rfl rfl (Nat.le_of_ble_eq_true rfl) (Nat.le_of_ble_eq_true rfl) ?_
        first
        | exact PoM.of (show dayY Lw (n, B, Pr, Co, R, ns, S) z = _ from if_neg (fun q => c7 q.1)) hY (FrM.rf A) rfl
        | exact PoM.of (show dayY Lw (n, B, Pr, Co, R, ns, S) z = _ from if_neg (fun q => (show ¬ (R 0 + z ≤ 9999) by omega) q.2)) hY (FrM.rf A) rfl
        | exact PoM.of (show dayY Lw (n, B, Pr, Co, R, ns, S) z = _ from if_pos ⟨c7, by omega⟩) hY2 hf2 rfl
