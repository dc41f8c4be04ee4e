/-! DAYS TO COME, YEARS of ApologyUp (printed by tools/m54.py) -/
set_option maxRecDepth 100000
set_option maxHeartbeats 4000000

/-- what an apology will be -/
noncomputable def ftV (n : Int) (B Pr : Int → Int) (Lw : au_Lw) (R : Int → Int) (z a w : Int) : Int := if (1 ≤ z ∧ z ≤ 60) ∧ (0 ≤ a ∧ a < R 2) ∧ 0 ≤ w ∧ w ≤ 2 then (tfN n B Pr Lw z.toNat R).1 (3 + 7 * a + (2 + w)) else -1
noncomputable def pdV (n : Int) (B Pr : Int → Int) (Lw : au_Lw) (R : Int → Int) (a : Int) : Int := if 0 ≤ a ∧ a < R 2 then (pdN n B Pr Lw a 60 1 R).1 else -1
section TFN
variable {n : Int} {B Pr : Int → Int} {Lw : au_Lw} {R : Int → Int}
theorem tfN_s (k : Nat) (h : R 0 < 9999) : tfN n B Pr Lw (k + 1) R = ((tfN n B Pr Lw k (pasF n B Pr Lw R).1).1, (pasF n B Pr Lw R).2.2 + (tfN n B Pr Lw k (pasF n B Pr Lw R).1).2) := if_pos h
theorem tfN_n (k : Nat) (h : ¬ R 0 < 9999) : tfN n B Pr Lw k R = (R, 0) := by
  cases k with
  | zero => rfl
  | succ k => exact if_neg h
theorem pdN_n (k : Nat) (a q : Int) (h : ¬ (R 0 < 9999 ∧ R (3 + 7 * a + 4) = 0)) : pdN n B Pr Lw a k q R = (-1, 0) := by
  cases k with
  | zero => rfl
  | succ k => exact if_neg h
theorem pdN_y (k : Nat) (a q : Int) (h : R 0 < 9999 ∧ R (3 + 7 * a + 4) = 0) (h1 : (pasF n B Pr Lw R).1 (3 + 7 * a + 4) = 1) : pdN n B Pr Lw a (k + 1) q R = (q, (pasF n B Pr Lw R).2.2) := (if_pos h).trans (if_pos h1)
theorem pdN_o (k : Nat) (a q : Int) (h : R 0 < 9999 ∧ R (3 + 7 * a + 4) = 0) (h1 : ¬ (pasF n B Pr Lw R).1 (3 + 7 * a + 4) = 1) : pdN n B Pr Lw a (k + 1) q R = ((pdN n B Pr Lw a k (q + 1) (pasF n B Pr Lw R).1).1, (pasF n B Pr Lw R).2.2 + (pdN n B Pr Lw a k (q + 1) (pasF n B Pr Lw R).1).2) := (if_pos h).trans (if_neg h1)
theorem yrN_s (k : Nat) : yrN n B Pr Lw (k + 1) R = ((yrN n B Pr Lw k (hpF n B Pr Lw (R 1) (drF R)).1).1, (hpF n B Pr Lw (R 1) (drF R)).2 + (yrN n B Pr Lw k (hpF n B Pr Lw (R 1) (drF R)).1).2) := rfl
theorem hpF_n0 {x : Int} (h : n = 0) (h5 : x % 5 = 0 ∨ x % 5 = 1) : hpF n B Pr Lw x R = (R, 0) := by
  unfold hpF
  rw [if_pos h]
  simp only
  rcases h5 with e | e
  · rw [if_pos e]
    exact if_neg (fun c => by have := c.1.1; omega)
  · rw [if_neg (by omega), if_pos e, if_neg (by omega)]
theorem hpF_w {x : Int} (h : ¬ n = 0) (h5 : x % 5 = 0) (hc : cwP n B R (x % n) 0) : hpF n B Pr Lw x R = (wgF R (x % n) 0 (1 + x % 20), 1) := by
  unfold hpF
  rw [if_neg h, if_pos h5]
  exact if_pos hc
theorem hpF_wn {x : Int} (h : ¬ n = 0) (h5 : x % 5 = 0) (hc : ¬ cwP n B R (x % n) 0) : hpF n B Pr Lw x R = (R, 0) := by
  unfold hpF
  rw [if_neg h, if_pos h5]
  exact if_neg hc
theorem hpF_a {x : Int} (h : ¬ n = 0) (h5 : x % 5 = 1) (hc : 0 ≤ x % n ∧ x % n < n) : hpF n B Pr Lw x R = (awF R (x % n) (x % 4), 0) := by
  unfold hpF
  rw [if_neg h, if_neg (by omega), if_pos h5, if_pos hc]
theorem hpF_an {x : Int} (h : ¬ n = 0) (h5 : x % 5 = 1) (hc : ¬ (0 ≤ x % n ∧ x % n < n)) : hpF n B Pr Lw x R = (R, 0) := by
  unfold hpF
  rw [if_neg h, if_neg (by omega), if_pos h5, if_neg hc]
theorem hpF_p {x : Int} (h5 : ¬ x % 5 = 0) (h6 : ¬ x % 5 = 1) (hc : R 0 < 9999) : hpF n B Pr Lw x R = ((pasF n B Pr Lw R).1, (pasF n B Pr Lw R).2.2) := by
  unfold hpF
  rw [if_neg h5, if_neg h6, if_pos hc]
theorem hpF_pn {x : Int} (h5 : ¬ x % 5 = 0) (h6 : ¬ x % 5 = 1) (hc : ¬ R 0 < 9999) : hpF n B Pr Lw x R = (R, 0) := by
  unfold hpF
  rw [if_neg h5, if_neg h6, if_neg hc]
end TFN

theorem kX0_foretold (G : au_G) (d : Nat) (Lw : au_Lw) (z a w : Int) (n : Int) (B Pr Co R : Int → Int) (ns : Int) (S : Nat → Int → Int) (c : Nat) (mi si hi sl : au_A → Int → Int) (r : au_A → Int → Option au_A) (nx : Nat) (hF : Fix r) (hnx : 1126 ≤ nx) (hX : EnX r hi mi d n B Pr Lw) (hY : XY mi (n, B, Pr, Co, R, ns, S)) (hK : YOK (n, B, Pr, Co, R, ns, S)) (hc : 1 ≤ z ∧ z ≤ 60 → (tfN n B Pr Lw z.toNat (mv1 R (mi XTried) 0 0 204)).2 ≤ c) : au_Ctr G yX0_foretold cX0_foretold 6 (some .int) (d + 11) c (4 * c) [au_r XO, au_i z, au_i a, au_i w] (mi, si, hi, sl, r, nx) (PoX hi sl r nx mi (some (au_i (ftV n B Pr Lw (mv1 R (mi XTried) 0 0 204) z a w))) (n, B, Pr, Co, R, ns, S)) := by
  refine au_of (by decide) (Nat.le_of_ble_eq_true rfl) ?_
  obtain ⟨jN, jE, jPr, jCo, jRw, jSt⟩ := id hY
  obtain ⟨jB, jP9, jC0, jR, jns, jSR⟩ := id hK
  have hN : mi XNn 0 = n := jN
  have hE : ∀ o, 0 ≤ o → o < 10 → mi XNboss o = B o := jE
  have hPr : ∀ o, 0 ≤ o → o < 10 → mi XNpride o = Pr o := jPr
  have hCo : ∀ o, 0 ≤ o → o < 10 → mi XNcousin o = Co o := jCo
  have hRw : mi XNrow = R := jRw
  have hSt : StX mi ns S := jSt
  have hB : Bs B n := jB
  have hns : 0 ≤ ns ∧ ns ≤ 30 := jns
  have hb1 := hB.1
  have hb0 := hB.2.1
  have hn : 0 ≤ n ∧ n ≤ 10 := ⟨hb1, hb0⟩
  have hR : RowOK R n B := jR
  subst hRw
  obtain ⟨⟨r0, r0b⟩, ⟨r1, r1b⟩, ⟨r2, r2b⟩, ⟨r83, r83b⟩, rA⟩ := id hR.1
  have hq : 1003 = 1003 ∨ 1003 = 1107 := Or.inl rfl
  have hq7 : 1107 = 1003 ∨ 1107 = 1107 := Or.inr rfl
  have hT2 : (mv1 (mi XNrow) (mi XTried) 0 0 204) 2 = mi XNrow 2 := mv1_at _ _ (by decide) (by decide)
  have hTR : RowOK (mv1 (mi XNrow) (mi XTried) 0 0 204) n B := hR.at (fun j x y => mv1_at _ _ x y)
  show au_Go G _ _ 0 [some (au_r XO), some (au_i z), some (au_i a), some (au_i w), none, none] [] (mi, si, hi, sl, r, nx) 0 0
  refine au_iload_n dX0_foretold_0 rfl ?_
  refine au_iconst dX0_foretold_1 rfl rfl ?_
  refine au_bipush dX0_foretold_2 rfl rfl ?_
  refine au_callSp (n := 3) (kX0_in G z 1 60 (mi, si, hi, sl, r, nx)) (lw_S q300 q301 q130 q302) (by decide +kernel) rfl rfl rfl (Nat.le_of_ble_eq_true rfl) (Nat.le_of_ble_eq_true rfl) (Nat.le_of_ble_eq_true rfl) (by show _ ≤ c; omega) (by show _ ≤ 4 * c; omega) dX0_foretold_4 ?_
  refine au_if_eq (tgt := 27) dX0_foretold_7 (by decide) (fun c7 => ?_) (fun c7 => ?_)
  · have c7 := au_b0 c7
    refine au_iconst dX0_foretold_27 rfl rfl ?_
    refine au_iret dX0_foretold_28 rfl rfl (by show _ ≤ c; omega) (by show _ ≤ 4 * c; omega) ?_
    refine ⟨?_, mi, si, nx, Nat.le_refl _, rfl, hY, FrX.rf mi⟩
    unfold ftV
    first
    | (rw [if_neg (fun q => c7 q.1)]; done)
    | (rw [if_neg (fun q => c15 (by rw [← hT2]; exact q.2.1))]; done)
    | (rw [if_neg (fun q => c24 q.2.2)]; done)
  · have c7 := au_b1 c7
    refine au_aload_n dX0_foretold_10 rfl ?_
    refine au_iload_n dX0_foretold_11 rfl ?_
    refine au_callVp (n := 1) (kX0_isApology G a mi si hi sl r nx hF (mi XNrow 2) rfl ⟨r2, r2b⟩) (lw_V q1098 q1100 qs39 q130 q1101) rfl (by decide +kernel) (by decide) (T := TX0) (N := 15) rfl rfl rfl rfl (Nat.le_of_ble_eq_true rfl) (Nat.le_of_ble_eq_true rfl) (Nat.le_of_ble_eq_true rfl) (by show _ ≤ c; omega) (by show _ ≤ 4 * c; omega) dX0_foretold_12 ?_
    refine au_if_eq (tgt := 27) dX0_foretold_15 (by decide) (fun c15 => ?_) (fun c15 => ?_)
    · have c15 := au_b0 c15
      refine au_iconst dX0_foretold_27 rfl rfl ?_
      refine au_iret dX0_foretold_28 rfl rfl (by show _ ≤ c; omega) (by show _ ≤ 4 * c; omega) ?_
      refine ⟨?_, mi, si, nx, Nat.le_refl _, rfl, hY, FrX.rf mi⟩
      unfold ftV
      first
      | (rw [if_neg (fun q => c7 q.1)]; done)
      | (rw [if_neg (fun q => c15 (by rw [← hT2]; exact q.2.1))]; done)
      | (rw [if_neg (fun q => c24 q.2.2)]; done)
    · have c15 := au_b1 c15
      refine au_iload_n dX0_foretold_18 rfl ?_
      refine au_iconst dX0_foretold_19 rfl rfl ?_
      refine au_iconst dX0_foretold_20 rfl rfl ?_
      refine au_callSp (n := 3) (kX0_in G w 0 2 (mi, si, hi, sl, r, nx)) (lw_S q300 q301 q130 q302) (by decide +kernel) rfl rfl rfl (Nat.le_of_ble_eq_true rfl) (Nat.le_of_ble_eq_true rfl) (Nat.le_of_ble_eq_true rfl) (by show _ ≤ c; omega) (by show _ ≤ 4 * c; omega) dX0_foretold_21 ?_
      refine au_if_ne (tgt := 29) dX0_foretold_24 (by decide) (fun c24 => ?_) (fun c24 => ?_)
      · have c24 := au_b1 c24
        refine au_aload_n dX0_foretold_29 rfl ?_
        refine au_getf (C := RX0) (T := TX0) (N := 15) in_X0 (by decide) rfl 0 (by decide) rfl rfl q245 rfl dX0_foretold_30 (v := au_r XN) (congrArg au_q (fx_XO_0 hF)) ?_
        refine au_getN (C := RX1) (T := TX1) (N := 11) in_X1 (by decide) rfl 1 (by decide) rfl rfl q189 rfl dX0_foretold_33 (v := au_r XNrow) (congrArg au_q (fx_XN_1 hF)) ?_
        refine au_aload_n dX0_foretold_36 rfl ?_
        refine au_getf (C := RX0) (T := TX0) (N := 15) in_X0 (by decide) rfl 7 (by decide) rfl rfl q252 rfl dX0_foretold_37 (v := au_r XTried) (congrArg au_q (fx_XO_7 hF)) ?_
        refine au_callSN (n := 2) (kX1_copy G 1003 1107 204 204 mi si hi sl r nx (fun j => au_reg_lo (by omega) (by omega) j) (fun j => au_reg_row (Or.inr rfl) j) (by omega) (by omega) (by omega)) q1155 q237 q131 q238 (by decide +kernel) rfl rfl rfl (Nat.le_of_ble_eq_true rfl) (Nat.le_of_ble_eq_true rfl) (Nat.le_of_ble_eq_true rfl) (by show _ ≤ c; omega) (by show _ ≤ 4 * c; omega) dX0_foretold_40 (fun rv_ M_ hp_ => ?_)
        obtain ⟨rfl, rfl⟩ := hp_
        show au_Go G _ _ 43 [some (au_r XO), some (au_i z), some (au_i a), some (au_i w), none, none] [] ((rowS mi XTried (mv1 (mi XNrow) (mi XTried) 0 0 204)), si, hi, sl, r, nx) 0 0
        refine au_iconst dX0_foretold_43 rfl rfl ?_
        refine au_istore dX0_foretold_44 (show 4 < 6 by decide) ?_
        show au_Go G _ _ 46 [some (au_r XO), some (au_i z), some (au_i a), some (au_i w), some (au_i 0), none] [] ((rowS mi XTried (mv1 (mi XNrow) (mi XTried) 0 0 204)), si, hi, sl, r, nx) 0 0
        refine au_iconst dX0_foretold_46 rfl rfl ?_
        refine au_istore dX0_foretold_47 (show 5 < 6 by decide) ?_
        show au_Go G _ _ 49 [some (au_r XO), some (au_i z), some (au_i a), some (au_i w), some (au_i 0), some (au_i 0)] [] ((rowS mi XTried (mv1 (mi XNrow) (mi XTried) 0 0 204)), si, hi, sl, r, nx) 0 0
        have hcc := hc c7
        have hl : ∀ (f : Nat) (e : Nat) (Rj : Int → Int) (dj j : Int) (wj : Nat) (sj : au_A → Int → Int) (xj : Nat), j + (e : Int) = z → RowOK Rj n B → (0 ≤ dj ∧ dj ≤ 20 * j) → wj + (tfN n B Pr Lw e Rj).2 ≤ c → (tfN n B Pr Lw e Rj).1 = (tfN n B Pr Lw z.toNat (mv1 (mi XNrow) (mi XTried) 0 0 204)).1 → nx ≤ xj → e < f → 0 ≤ j → au_Go G (yX0_foretold.cls, cX0_foretold, 6, (some .int), au_rm (d + 11) c (4 * c), yX0_foretold.name) (au_QM G (au_rm (d + 11) c (4 * c)) (PoX hi sl r nx mi (some (au_i (ftV n B Pr Lw (mv1 (mi XNrow) (mi XTried) 0 0 204) z a w))) (n, B, Pr, Co, mi XNrow, ns, S))) 49 [some (au_r XO), some (au_i z), some (au_i a), some (au_i w), some (au_i dj), some (au_i j)] [] (rowS mi XTried Rj, sj, hi, sl, r, xj) wj (4 * wj) := by
          intro f
          induction f with
          | zero => intro e Rj dj j wj sj xj h1 hRj h3 hw hv hn3 hf hj; exfalso; omega
          | succ f ih =>
            intro e Rj dj j wj sj xj h1 hRj h3 hw hv hn3 hf hj
            refine au_iload dX0_foretold_49 rfl ?_
            refine au_iload_n dX0_foretold_51 rfl ?_
            refine au_icmp_ge (tgt := 86) dX0_foretold_52 (by decide) (fun c52 => ?_) (fun c52 => ?_)
            · have hRv : Rj = (tfN n B Pr Lw z.toNat (mv1 (mi XNrow) (mi XTried) 0 0 204)).1 := by
                first
                | (rw [tfN_n e (by omega)] at hv; exact hv)
                | (have he : e = 0 := by omega
                   subst he
                   exact hv)
              refine au_aload_n dX0_foretold_86 rfl ?_
              refine au_getf (C := RX0) (T := TX0) (N := 15) in_X0 (by decide) rfl 7 (by decide) rfl rfl q252 rfl dX0_foretold_87 (v := au_r XTried) (congrArg au_q (fx_XO_7 hF)) ?_
              refine au_iload_n dX0_foretold_90 rfl ?_
              refine au_iconst dX0_foretold_91 rfl rfl ?_
              refine au_iload_n dX0_foretold_92 rfl ?_
              refine au_iadd dX0_foretold_93 (by omega) (by omega) ?_
              refine au_callSp (n := 2) (kX0_at G a (2 + w) ((rowS mi XTried Rj), sj, hi, sl, r, xj) (by omega) (by omega) (by omega) (by omega)) (lw_S q898 q899 q130 q900) (by decide +kernel) rfl rfl rfl (Nat.le_of_ble_eq_true rfl) (by show _ ≤ (d + 11); omega) (by show _ ≤ 80 * (d + 11); omega) (by show _ ≤ c; omega) (by show _ ≤ 4 * c; omega) dX0_foretold_94 ?_
              refine au_iald dX0_foretold_97 rfl (by omega) (by show _ < ((204 : Nat) : Int); omega) (v := au_i (Rj (3 + 7 * a + (2 + w)))) (congrArg au_i ((au_gi_m (show au_reg XTried _ = 0 from au_reg_row hq7 _)).trans (show rowS mi XTried Rj XTried (3 + 7 * a + (2 + w)) = Rj (3 + 7 * a + (2 + w)) from (rowS_self _ _ _ _).trans (rfl)))) ?_
              refine au_iret dX0_foretold_98 rfl rfl (by show _ ≤ c; omega) (by show _ ≤ 4 * c; omega) ?_
              refine ⟨?_, _, _, _, hn3, rfl, hY.tried _, FrX.tried _ _⟩
              unfold ftV
              rw [if_pos ⟨c7, by rw [hT2]; exact c15, c24⟩, ← hRv]
            · refine au_aload_n dX0_foretold_55 rfl ?_
              refine au_getf (C := RX0) (T := TX0) (N := 15) in_X0 (by decide) rfl 7 (by decide) rfl rfl q252 rfl dX0_foretold_56 (v := au_r XTried) (congrArg au_q (fx_XO_7 hF)) ?_
              refine au_iconst dX0_foretold_59 rfl rfl ?_
              refine au_iald dX0_foretold_60 rfl (by omega) (by show _ < ((204 : Nat) : Int); omega) (v := au_i (Rj 0)) (congrArg au_i ((au_gi_m (show au_reg XTried _ = 0 from au_reg_row hq7 _)).trans (show rowS mi XTried Rj XTried 0 = Rj 0 from (rowS_self _ _ _ _).trans (rfl)))) ?_
              refine au_sipush dX0_foretold_61 rfl rfl ?_
              refine au_icmp_ge (tgt := 86) dX0_foretold_64 (by decide) (fun c64 => ?_) (fun c64 => ?_)
              · have hRv : Rj = (tfN n B Pr Lw z.toNat (mv1 (mi XNrow) (mi XTried) 0 0 204)).1 := by
                  first
                  | (rw [tfN_n e (by omega)] at hv; exact hv)
                  | (have he : e = 0 := by omega
                     subst he
                     exact hv)
                refine au_aload_n dX0_foretold_86 rfl ?_
                refine au_getf (C := RX0) (T := TX0) (N := 15) in_X0 (by decide) rfl 7 (by decide) rfl rfl q252 rfl dX0_foretold_87 (v := au_r XTried) (congrArg au_q (fx_XO_7 hF)) ?_
                refine au_iload_n dX0_foretold_90 rfl ?_
                refine au_iconst dX0_foretold_91 rfl rfl ?_
                refine au_iload_n dX0_foretold_92 rfl ?_
                refine au_iadd dX0_foretold_93 (by omega) (by omega) ?_
                refine au_callSp (n := 2) (kX0_at G a (2 + w) ((rowS mi XTried Rj), sj, hi, sl, r, xj) (by omega) (by omega) (by omega) (by omega)) (lw_S q898 q899 q130 q900) (by decide +kernel) rfl rfl rfl (Nat.le_of_ble_eq_true rfl) (by show _ ≤ (d + 11); omega) (by show _ ≤ 80 * (d + 11); omega) (by show _ ≤ c; omega) (by show _ ≤ 4 * c; omega) dX0_foretold_94 ?_
                refine au_iald dX0_foretold_97 rfl (by omega) (by show _ < ((204 : Nat) : Int); omega) (v := au_i (Rj (3 + 7 * a + (2 + w)))) (congrArg au_i ((au_gi_m (show au_reg XTried _ = 0 from au_reg_row hq7 _)).trans (show rowS mi XTried Rj XTried (3 + 7 * a + (2 + w)) = Rj (3 + 7 * a + (2 + w)) from (rowS_self _ _ _ _).trans (rfl)))) ?_
                refine au_iret dX0_foretold_98 rfl rfl (by show _ ≤ c; omega) (by show _ ≤ 4 * c; omega) ?_
                refine ⟨?_, _, _, _, hn3, rfl, hY.tried _, FrX.tried _ _⟩
                unfold ftV
                rw [if_pos ⟨c7, by rw [hT2]; exact c15, c24⟩, ← hRv]
              · have hj0 : Rj 0 < 9999 := by omega
                obtain ⟨e, rfl⟩ : ∃ e', e = e' + 1 := ⟨e - 1, by omega⟩
                rw [tfN_s e hj0] at hw hv
                have hw : wj + (_ + _) ≤ c := hw
                have hp2 := pasF_20 (Pr := Pr) (Lw := Lw) hB hRj hj0
                have hpk := pasF_ok (Pr := Pr) (Lw := Lw) hB hRj hj0
                refine au_iload dX0_foretold_67 rfl ?_
                refine au_aload_n dX0_foretold_69 rfl ?_
                refine au_aload_n dX0_foretold_70 rfl ?_
                refine au_getf (C := RX0) (T := TX0) (N := 15) in_X0 (by decide) rfl 7 (by decide) rfl rfl q252 rfl dX0_foretold_71 (v := au_r XTried) (congrArg au_q (fx_XO_7 hF)) ?_
                refine au_callV (n := 1) (kX0_passesT G d n B Pr Lw Rj (rowS mi XTried Rj) sj hi sl r xj hF (by omega) (hX.row 1107 hq7 Rj) (rowS_selfF _ _ _) hRj hj0) (lw_V q894 q896 qs25 q130 q897) rfl (by decide +kernel) (by decide) (T := TX0) (N := 15) rfl rfl rfl rfl (Nat.le_of_ble_eq_true rfl) (by show _ ≤ (d + 11); omega) (by show _ ≤ 80 * (d + 11); omega) (by show _ ≤ c; omega) (by show _ ≤ 4 * c; omega) dX0_foretold_74 (fun rv_ M_ hp_ => ?_)
                obtain ⟨rfl, s2, n2, hn2, rfl⟩ := hp_
                rw [rowS_rowS]
                show au_Go G _ _ 77 [some (au_r XO), some (au_i z), some (au_i a), some (au_i w), some (au_i dj), some (au_i j)] [au_i ((pasF n B Pr Lw Rj).2.1), au_i dj] ((rowS mi XTried (pasF n B Pr Lw Rj).1), s2, hi, sl, r, n2) (wj + ((pasF n B Pr Lw Rj).2.2)) ((4 * wj) + (4 * (pasF n B Pr Lw Rj).2.2))
                refine au_iadd dX0_foretold_77 (by omega) (by omega) ?_
                refine au_istore dX0_foretold_78 (show 4 < 6 by decide) ?_
                show au_Go G _ _ 80 [some (au_r XO), some (au_i z), some (au_i a), some (au_i w), some (au_i (dj + ((pasF n B Pr Lw Rj).2.1))), some (au_i j)] [] ((rowS mi XTried (pasF n B Pr Lw Rj).1), s2, hi, sl, r, n2) (wj + ((pasF n B Pr Lw Rj).2.2)) ((4 * wj) + (4 * (pasF n B Pr Lw Rj).2.2))
                refine au_iinc dX0_foretold_80 rfl (show 5 < 6 by decide) (by omega) (by omega) (by decide) (by decide) ?_
                show au_Go G _ _ 83 [some (au_r XO), some (au_i z), some (au_i a), some (au_i w), some (au_i (dj + ((pasF n B Pr Lw Rj).2.1))), some (au_i (j + 1))] [] ((rowS mi XTried (pasF n B Pr Lw Rj).1), s2, hi, sl, r, n2) (wj + ((pasF n B Pr Lw Rj).2.2)) ((4 * wj) + (4 * (pasF n B Pr Lw Rj).2.2))
                refine au_goto (tgt := 49) dX0_foretold_83 (by decide) ?_
                rw [show 4 * wj + 4 * (pasF n B Pr Lw Rj).2.2 = 4 * (wj + (pasF n B Pr Lw Rj).2.2) by omega]
                exact ih e _ _ _ _ _ _ (by omega) hpk.1 ⟨by omega, by omega⟩ (by omega) hv (by omega) (by omega) (by omega)
        exact hl (z.toNat + 1) z.toNat (mv1 (mi XNrow) (mi XTried) 0 0 204) 0 0 0 si nx (by omega) hTR ⟨by omega, by omega⟩ (by omega) rfl (Nat.le_refl _) (by omega) (by omega)
      · have c24 := au_b0 c24
        refine au_iconst dX0_foretold_27 rfl rfl ?_
        refine au_iret dX0_foretold_28 rfl rfl (by show _ ≤ c; omega) (by show _ ≤ 4 * c; omega) ?_
        refine ⟨?_, mi, si, nx, Nat.le_refl _, rfl, hY, FrX.rf mi⟩
        unfold ftV
        first
        | (rw [if_neg (fun q => c7 q.1)]; done)
        | (rw [if_neg (fun q => c15 (by rw [← hT2]; exact q.2.1))]; done)
        | (rw [if_neg (fun q => c24 q.2.2)]; done)
theorem kX0_pardoned (G : au_G) (d : Nat) (Lw : au_Lw) (a : Int) (n : Int) (B Pr Co R : Int → Int) (ns : Int) (S : Nat → Int → Int) (c : Nat) (mi si hi sl : au_A → Int → Int) (r : au_A → Int → Option au_A) (nx : Nat) (hF : Fix r) (hnx : 1126 ≤ nx) (hX : EnX r hi mi d n B Pr Lw) (hY : XY mi (n, B, Pr, Co, R, ns, S)) (hK : YOK (n, B, Pr, Co, R, ns, S)) (hc : (pdN n B Pr Lw a 60 1 (mv1 R (mi XTried) 0 0 204)).2 ≤ c) : au_Ctr G yX0_pardoned cX0_pardoned 4 (some .int) (d + 11) c (4 * c) [au_r XO, au_i a] (mi, si, hi, sl, r, nx) (PoX hi sl r nx mi (some (au_i (pdV n B Pr Lw (mv1 R (mi XTried) 0 0 204) a))) (n, B, Pr, Co, R, ns, S)) := by
  refine au_of (by decide) (Nat.le_of_ble_eq_true rfl) ?_
  obtain ⟨jN, jE, jPr, jCo, jRw, jSt⟩ := id hY
  obtain ⟨jB, jP9, jC0, jR, jns, jSR⟩ := id hK
  have hN : mi XNn 0 = n := jN
  have hE : ∀ o, 0 ≤ o → o < 10 → mi XNboss o = B o := jE
  have hPr : ∀ o, 0 ≤ o → o < 10 → mi XNpride o = Pr o := jPr
  have hCo : ∀ o, 0 ≤ o → o < 10 → mi XNcousin o = Co o := jCo
  have hRw : mi XNrow = R := jRw
  have hSt : StX mi ns S := jSt
  have hB : Bs B n := jB
  have hns : 0 ≤ ns ∧ ns ≤ 30 := jns
  have hb1 := hB.1
  have hb0 := hB.2.1
  have hn : 0 ≤ n ∧ n ≤ 10 := ⟨hb1, hb0⟩
  have hR : RowOK R n B := jR
  subst hRw
  obtain ⟨⟨r0, r0b⟩, ⟨r1, r1b⟩, ⟨r2, r2b⟩, ⟨r83, r83b⟩, rA⟩ := id hR.1
  have hq : 1003 = 1003 ∨ 1003 = 1107 := Or.inl rfl
  have hq7 : 1107 = 1003 ∨ 1107 = 1107 := Or.inr rfl
  have hT2 : (mv1 (mi XNrow) (mi XTried) 0 0 204) 2 = mi XNrow 2 := mv1_at _ _ (by decide) (by decide)
  have hTR : RowOK (mv1 (mi XNrow) (mi XTried) 0 0 204) n B := hR.at (fun j x y => mv1_at _ _ x y)
  show au_Go G _ _ 0 [some (au_r XO), some (au_i a), none, none] [] (mi, si, hi, sl, r, nx) 0 0
  refine au_aload_n dX0_pardoned_0 rfl ?_
  refine au_iload_n dX0_pardoned_1 rfl ?_
  refine au_callVp (n := 1) (kX0_isApology G a mi si hi sl r nx hF (mi XNrow 2) rfl ⟨r2, r2b⟩) (lw_V q1098 q1100 qs39 q130 q1101) rfl (by decide +kernel) (by decide) (T := TX0) (N := 15) rfl rfl rfl rfl (Nat.le_of_ble_eq_true rfl) (Nat.le_of_ble_eq_true rfl) (Nat.le_of_ble_eq_true rfl) (by show _ ≤ c; omega) (by show _ ≤ 4 * c; omega) dX0_pardoned_2 ?_
  refine au_if_ne (tgt := 10) dX0_pardoned_5 (by decide) (fun c5 => ?_) (fun c5 => ?_)
  · have c5 := au_b1 c5
    refine au_aload_n dX0_pardoned_10 rfl ?_
    refine au_getf (C := RX0) (T := TX0) (N := 15) in_X0 (by decide) rfl 0 (by decide) rfl rfl q245 rfl dX0_pardoned_11 (v := au_r XN) (congrArg au_q (fx_XO_0 hF)) ?_
    refine au_getN (C := RX1) (T := TX1) (N := 11) in_X1 (by decide) rfl 1 (by decide) rfl rfl q189 rfl dX0_pardoned_14 (v := au_r XNrow) (congrArg au_q (fx_XN_1 hF)) ?_
    refine au_aload_n dX0_pardoned_17 rfl ?_
    refine au_getf (C := RX0) (T := TX0) (N := 15) in_X0 (by decide) rfl 7 (by decide) rfl rfl q252 rfl dX0_pardoned_18 (v := au_r XTried) (congrArg au_q (fx_XO_7 hF)) ?_
    refine au_callSN (n := 2) (kX1_copy G 1003 1107 204 204 mi si hi sl r nx (fun j => au_reg_lo (by omega) (by omega) j) (fun j => au_reg_row (Or.inr rfl) j) (by omega) (by omega) (by omega)) q1155 q237 q131 q238 (by decide +kernel) rfl rfl rfl (Nat.le_of_ble_eq_true rfl) (Nat.le_of_ble_eq_true rfl) (Nat.le_of_ble_eq_true rfl) (by show _ ≤ c; omega) (by show _ ≤ 4 * c; omega) dX0_pardoned_21 (fun rv_ M_ hp_ => ?_)
    obtain ⟨rfl, rfl⟩ := hp_
    show au_Go G _ _ 24 [some (au_r XO), some (au_i a), none, none] [] ((rowS mi XTried (mv1 (mi XNrow) (mi XTried) 0 0 204)), si, hi, sl, r, nx) 0 0
    refine au_iconst dX0_pardoned_24 rfl rfl ?_
    refine au_istore_n dX0_pardoned_25 (show 2 < 4 by decide) ?_
    show au_Go G _ _ 26 [some (au_r XO), some (au_i a), some (au_i 0), none] [] ((rowS mi XTried (mv1 (mi XNrow) (mi XTried) 0 0 204)), si, hi, sl, r, nx) 0 0
    refine au_iconst dX0_pardoned_26 rfl rfl ?_
    refine au_istore_n dX0_pardoned_27 (show 3 < 4 by decide) ?_
    show au_Go G _ _ 28 [some (au_r XO), some (au_i a), some (au_i 0), some (au_i 1)] [] ((rowS mi XTried (mv1 (mi XNrow) (mi XTried) 0 0 204)), si, hi, sl, r, nx) 0 0
    have ca := c5
    have hl : ∀ (f : Nat) (e : Nat) (Rj : Int → Int) (dj j : Int) (wj : Nat) (sj : au_A → Int → Int) (xj : Nat), j + (e : Int) = 61 → RowOK Rj n B → (0 ≤ dj ∧ dj ≤ 20 * j) → wj + (pdN n B Pr Lw a e j Rj).2 ≤ c → (pdN n B Pr Lw a e j Rj).1 = (pdN n B Pr Lw a 60 1 (mv1 (mi XNrow) (mi XTried) 0 0 204)).1 → nx ≤ xj → e < f → 1 ≤ j → au_Go G (yX0_pardoned.cls, cX0_pardoned, 4, (some .int), au_rm (d + 11) c (4 * c), yX0_pardoned.name) (au_QM G (au_rm (d + 11) c (4 * c)) (PoX hi sl r nx mi (some (au_i (pdV n B Pr Lw (mv1 (mi XNrow) (mi XTried) 0 0 204) a))) (n, B, Pr, Co, mi XNrow, ns, S))) 28 [some (au_r XO), some (au_i a), some (au_i dj), some (au_i j)] [] (rowS mi XTried Rj, sj, hi, sl, r, xj) wj (4 * wj) := by
      intro f
      induction f with
      | zero => intro e Rj dj j wj sj xj h1 hRj h3 hw hv hn3 hf hj; exfalso; omega
      | succ f ih =>
        intro e Rj dj j wj sj xj h1 hRj h3 hw hv hn3 hf hj
        refine au_iload_n dX0_pardoned_28 rfl ?_
        refine au_bipush dX0_pardoned_29 rfl rfl ?_
        refine au_icmp_gt (tgt := 92) dX0_pardoned_31 (by decide) (fun c31 => ?_) (fun c31 => ?_)
        · refine au_iconst dX0_pardoned_92 rfl rfl ?_
          refine au_iret dX0_pardoned_93 rfl rfl (by show _ ≤ c; omega) (by show _ ≤ 4 * c; omega) ?_
          refine ⟨?_, _, _, _, hn3, rfl, hY.tried _, FrX.tried _ _⟩
          unfold pdV
          rw [if_pos (by rw [hT2]; exact ca), ← hv]
          first
          | (rw [pdN_n e a j (fun q => c56 q.2)]; done)
          | (rw [pdN_n e a j (fun q => absurd q.1 (by omega))]; done)
          | (rw [show e = 0 by omega]; rfl)
        · refine au_aload_n dX0_pardoned_34 rfl ?_
          refine au_getf (C := RX0) (T := TX0) (N := 15) in_X0 (by decide) rfl 7 (by decide) rfl rfl q252 rfl dX0_pardoned_35 (v := au_r XTried) (congrArg au_q (fx_XO_7 hF)) ?_
          refine au_iconst dX0_pardoned_38 rfl rfl ?_
          refine au_iald dX0_pardoned_39 rfl (by omega) (by show _ < ((204 : Nat) : Int); omega) (v := au_i (Rj 0)) (congrArg au_i ((au_gi_m (show au_reg XTried _ = 0 from au_reg_row hq7 _)).trans (show rowS mi XTried Rj XTried 0 = Rj 0 from (rowS_self _ _ _ _).trans (rfl)))) ?_
          refine au_sipush dX0_pardoned_40 rfl rfl ?_
          refine au_icmp_ge (tgt := 92) dX0_pardoned_43 (by decide) (fun c43 => ?_) (fun c43 => ?_)
          · refine au_iconst dX0_pardoned_92 rfl rfl ?_
            refine au_iret dX0_pardoned_93 rfl rfl (by show _ ≤ c; omega) (by show _ ≤ 4 * c; omega) ?_
            refine ⟨?_, _, _, _, hn3, rfl, hY.tried _, FrX.tried _ _⟩
            unfold pdV
            rw [if_pos (by rw [hT2]; exact ca), ← hv]
            first
            | (rw [pdN_n e a j (fun q => c56 q.2)]; done)
            | (rw [pdN_n e a j (fun q => absurd q.1 (by omega))]; done)
            | (rw [show e = 0 by omega]; rfl)
          · refine au_aload_n dX0_pardoned_46 rfl ?_
            refine au_getf (C := RX0) (T := TX0) (N := 15) in_X0 (by decide) rfl 7 (by decide) rfl rfl q252 rfl dX0_pardoned_47 (v := au_r XTried) (congrArg au_q (fx_XO_7 hF)) ?_
            refine au_iload_n dX0_pardoned_50 rfl ?_
            refine au_iconst dX0_pardoned_51 rfl rfl ?_
            refine au_callSp (n := 2) (kX0_at G a 4 ((rowS mi XTried Rj), sj, hi, sl, r, xj) (by omega) (by omega) (by omega) (by omega)) (lw_S q898 q899 q130 q900) (by decide +kernel) rfl rfl rfl (Nat.le_of_ble_eq_true rfl) (by show _ ≤ (d + 11); omega) (by show _ ≤ 80 * (d + 11); omega) (by show _ ≤ c; omega) (by show _ ≤ 4 * c; omega) dX0_pardoned_52 ?_
            refine au_iald dX0_pardoned_55 rfl (by omega) (by show _ < ((204 : Nat) : Int); omega) (v := au_i (Rj (3 + 7 * a + 4))) (congrArg au_i ((au_gi_m (show au_reg XTried _ = 0 from au_reg_row hq7 _)).trans (show rowS mi XTried Rj XTried (3 + 7 * a + 4) = Rj (3 + 7 * a + 4) from (rowS_self _ _ _ _).trans (rfl)))) ?_
            refine au_if_ne (tgt := 92) dX0_pardoned_56 (by decide) (fun c56 => ?_) (fun c56 => ?_)
            · refine au_iconst dX0_pardoned_92 rfl rfl ?_
              refine au_iret dX0_pardoned_93 rfl rfl (by show _ ≤ c; omega) (by show _ ≤ 4 * c; omega) ?_
              refine ⟨?_, _, _, _, hn3, rfl, hY.tried _, FrX.tried _ _⟩
              unfold pdV
              rw [if_pos (by rw [hT2]; exact ca), ← hv]
              first
              | (rw [pdN_n e a j (fun q => c56 q.2)]; done)
              | (rw [pdN_n e a j (fun q => absurd q.1 (by omega))]; done)
              | (rw [show e = 0 by omega]; rfl)
            · have hj0 : Rj 0 < 9999 := by omega
              obtain ⟨e, rfl⟩ : ∃ e', e = e' + 1 := ⟨e - 1, by omega⟩
              have hp2 := pasF_20 (Pr := Pr) (Lw := Lw) hB hRj hj0
              have hpk := pasF_ok (Pr := Pr) (Lw := Lw) hB hRj hj0
              have hw1 : wj + (pasF n B Pr Lw Rj).2.2 ≤ c := by
                by_cases h1 : (pasF n B Pr Lw Rj).1 (3 + 7 * a + 4) = 1
                · rw [pdN_y e a j ⟨hj0, c56⟩ h1] at hw; exact hw
                · rw [pdN_o e a j ⟨hj0, c56⟩ h1] at hw
                  have hw : wj + (_ + _) ≤ c := hw
                  omega
              refine au_iload_n dX0_pardoned_59 rfl ?_
              refine au_aload_n dX0_pardoned_60 rfl ?_
              refine au_aload_n dX0_pardoned_61 rfl ?_
              refine au_getf (C := RX0) (T := TX0) (N := 15) in_X0 (by decide) rfl 7 (by decide) rfl rfl q252 rfl dX0_pardoned_62 (v := au_r XTried) (congrArg au_q (fx_XO_7 hF)) ?_
              refine au_callV (n := 1) (kX0_passesT G d n B Pr Lw Rj (rowS mi XTried Rj) sj hi sl r xj hF (by omega) (hX.row 1107 hq7 Rj) (rowS_selfF _ _ _) hRj hj0) (lw_V q894 q896 qs25 q130 q897) rfl (by decide +kernel) (by decide) (T := TX0) (N := 15) rfl rfl rfl rfl (Nat.le_of_ble_eq_true rfl) (by show _ ≤ (d + 11); omega) (by show _ ≤ 80 * (d + 11); omega) (by show _ ≤ c; omega) (by show _ ≤ 4 * c; omega) dX0_pardoned_65 (fun rv_ M_ hp_ => ?_)
              obtain ⟨rfl, s2, n2, hn2, rfl⟩ := hp_
              rw [rowS_rowS]
              show au_Go G _ _ 68 [some (au_r XO), some (au_i a), some (au_i dj), some (au_i j)] [au_i ((pasF n B Pr Lw Rj).2.1), au_i dj] ((rowS mi XTried (pasF n B Pr Lw Rj).1), s2, hi, sl, r, n2) (wj + ((pasF n B Pr Lw Rj).2.2)) ((4 * wj) + (4 * (pasF n B Pr Lw Rj).2.2))
              refine au_iadd dX0_pardoned_68 (by omega) (by omega) ?_
              refine au_istore_n dX0_pardoned_69 (show 2 < 4 by decide) ?_
              show au_Go G _ _ 70 [some (au_r XO), some (au_i a), some (au_i (dj + ((pasF n B Pr Lw Rj).2.1))), some (au_i j)] [] ((rowS mi XTried (pasF n B Pr Lw Rj).1), s2, hi, sl, r, n2) (wj + ((pasF n B Pr Lw Rj).2.2)) ((4 * wj) + (4 * (pasF n B Pr Lw Rj).2.2))
              refine au_aload_n dX0_pardoned_70 rfl ?_
              refine au_getf (C := RX0) (T := TX0) (N := 15) in_X0 (by decide) rfl 7 (by decide) rfl rfl q252 rfl dX0_pardoned_71 (v := au_r XTried) (congrArg au_q (fx_XO_7 hF)) ?_
              refine au_iload_n dX0_pardoned_74 rfl ?_
              refine au_iconst dX0_pardoned_75 rfl rfl ?_
              refine au_callSp (n := 2) (kX0_at G a 4 ((rowS mi XTried (pasF n B Pr Lw Rj).1), s2, hi, sl, r, n2) (by omega) (by omega) (by omega) (by omega)) (lw_S q898 q899 q130 q900) (by decide +kernel) rfl rfl rfl (Nat.le_of_ble_eq_true rfl) (by show _ ≤ (d + 11); omega) (by show _ ≤ 80 * (d + 11); omega) (by show _ ≤ c; omega) (by show _ ≤ 4 * c; omega) dX0_pardoned_76 ?_
              refine au_iald dX0_pardoned_79 rfl (by omega) (by show _ < ((204 : Nat) : Int); omega) (v := au_i ((pasF n B Pr Lw Rj).1 (3 + 7 * a + 4))) (congrArg au_i ((au_gi_m (show au_reg XTried _ = 0 from au_reg_row hq7 _)).trans (show rowS mi XTried (pasF n B Pr Lw Rj).1 XTried (3 + 7 * a + 4) = (pasF n B Pr Lw Rj).1 (3 + 7 * a + 4) from (rowS_self _ _ _ _).trans (rfl)))) ?_
              refine au_iconst dX0_pardoned_80 rfl rfl ?_
              refine au_icmp_ne (tgt := 86) dX0_pardoned_81 (by decide) (fun c81 => ?_) (fun c81 => ?_)
              · rw [pdN_o e a j ⟨hj0, c56⟩ c81] at hw hv
                have hw : wj + (_ + _) ≤ c := hw
                refine au_iinc dX0_pardoned_86 rfl (show 3 < 4 by decide) (by omega) (by omega) (by decide) (by decide) ?_
                show au_Go G _ _ 89 [some (au_r XO), some (au_i a), some (au_i (dj + ((pasF n B Pr Lw Rj).2.1))), some (au_i (j + 1))] [] ((rowS mi XTried (pasF n B Pr Lw Rj).1), s2, hi, sl, r, n2) (wj + ((pasF n B Pr Lw Rj).2.2)) ((4 * wj) + (4 * (pasF n B Pr Lw Rj).2.2))
                refine au_goto (tgt := 28) dX0_pardoned_89 (by decide) ?_
                rw [show 4 * wj + 4 * (pasF n B Pr Lw Rj).2.2 = 4 * (wj + (pasF n B Pr Lw Rj).2.2) by omega]
                exact ih e _ _ _ _ _ _ (by omega) hpk.1 ⟨by omega, by omega⟩ (by omega) hv (by omega) (by omega) (by omega)
              · refine au_iload_n dX0_pardoned_84 rfl ?_
                refine au_iret dX0_pardoned_85 rfl rfl (by show _ ≤ c; omega) (by show _ ≤ 4 * c; omega) ?_
                rw [pdN_y e a j ⟨hj0, c56⟩ c81] at hv
                refine ⟨?_, _, _, _, (by omega), rfl, hY.tried _, FrX.tried _ _⟩
                unfold pdV
                rw [if_pos (by rw [hT2]; exact ca), ← hv]
    exact hl 61 60 (mv1 (mi XNrow) (mi XTried) 0 0 204) 0 1 0 si nx (by omega) hTR ⟨by omega, by omega⟩ (by omega) rfl (Nat.le_refl _) (by omega) (by omega)
  · have c5 := au_b0 c5
    refine au_iconst dX0_pardoned_8 rfl rfl ?_
    refine au_iret dX0_pardoned_9 rfl rfl (by show _ ≤ c; omega) (by show _ ≤ 4 * c; omega) ?_
    refine ⟨?_, mi, si, nx, Nat.le_refl _, rfl, hY, FrX.rf mi⟩
    unfold pdV
    rw [if_neg (fun q => c5 (by rw [← hT2]; exact q))]
theorem kX0_happens (G : au_G) (d : Nat) (n : Int) (B Pr : Int → Int) (Lw : au_Lw) (x : Int) (R : Int → Int) (c : Nat) (mi si hi sl : au_A → Int → Int) (r : au_A → Int → Option au_A) (nx : Nat) (hF : Fix r) (hnx : 1126 ≤ nx) (hX : EnX r hi mi d n B Pr Lw) (hRw : mi XNrow = R) (hR : RowOK R n B) (hx : 0 ≤ x) (hc : (hpF n B Pr Lw x R).2 ≤ c) : au_Ctr G yX0_happens cX0_happens 4 none (d + 11) c (7 * c) [au_r XO, au_i x] (mi, si, hi, sl, r, nx) (fun rv M' => rv = none ∧ ∃ (sj : au_A → Int → Int) (nx' : Nat), nx ≤ nx' ∧ M' = (rowS mi XNrow (hpF n B Pr Lw x R).1, sj, hi, sl, r, nx')) := by
  refine au_of (by decide) (Nat.le_of_ble_eq_true rfl) ?_
  obtain ⟨hN, hE, hB, hPr, hP9, tx, hRu, hTx⟩ := id hX
  have hb1 := hB.1
  have hb0 := hB.2.1
  subst hRw
  have hn : 0 ≤ n ∧ n ≤ 10 := ⟨hb1, hb0⟩
  have hq : 1003 = 1003 ∨ 1003 = 1107 := Or.inl rfl
  obtain ⟨⟨r0, r0b⟩, ⟨r1, r1b⟩, ⟨r2, r2b⟩, ⟨r83, r83b⟩, rA⟩ := id hR.1
  show au_Go G _ _ 0 [some (au_r XO), some (au_i x), none, none] [] (mi, si, hi, sl, r, nx) 0 0
  refine au_aload_n dX0_happens_0 rfl ?_
  refine au_getf (C := RX0) (T := TX0) (N := 15) in_X0 (by decide) rfl 0 (by decide) rfl rfl q245 rfl dX0_happens_1 (v := au_r XN) (congrArg au_q (fx_XO_0 hF)) ?_
  refine au_getN (C := RX1) (T := TX1) (N := 11) in_X1 (by decide) rfl 0 (by decide) rfl rfl q187 rfl dX0_happens_4 (v := au_r XNn) (congrArg au_q (fx_XN_0 hF)) ?_
  refine au_iconst dX0_happens_7 rfl rfl ?_
  refine au_iald dX0_happens_8 rfl (by omega) (by show _ < ((6 : Nat) : Int); omega) (v := au_i (n)) (congrArg au_i (hN)) ?_
  refine au_if_ne (tgt := 16) dX0_happens_9 (by decide) (fun c9 => ?_) (fun c9 => ?_)
  · have hm0 := Int.emod_nonneg x c9
    have hm1 := Int.emod_lt_of_pos x (show 0 < n by omega)
    refine au_iload_n dX0_happens_16 rfl ?_
    refine au_aload_n dX0_happens_17 rfl ?_
    refine au_getf (C := RX0) (T := TX0) (N := 15) in_X0 (by decide) rfl 0 (by decide) rfl rfl q245 rfl dX0_happens_18 (v := au_r XN) (congrArg au_q (fx_XO_0 hF)) ?_
    refine au_getN (C := RX1) (T := TX1) (N := 11) in_X1 (by decide) rfl 0 (by decide) rfl rfl q187 rfl dX0_happens_21 (v := au_r XNn) (congrArg au_q (fx_XN_0 hF)) ?_
    refine au_iconst dX0_happens_24 rfl rfl ?_
    refine au_iald dX0_happens_25 rfl (by omega) (by show _ < ((6 : Nat) : Int); omega) (v := au_i (n)) (congrArg au_i (hN)) ?_
    refine au_irem dX0_happens_26 (by omega) (by omega) ?_
    refine au_istore_n dX0_happens_27 (show 2 < 4 by decide) ?_
    show au_Go G _ _ 28 [some (au_r XO), some (au_i x), some (au_i (x % n)), none] [] (mi, si, hi, sl, r, nx) 0 0
    refine au_iconst dX0_happens_28 rfl rfl ?_
    refine au_istore_n dX0_happens_29 (show 3 < 4 by decide) ?_
    show au_Go G _ _ 30 [some (au_r XO), some (au_i x), some (au_i (x % n)), some (au_i 0)] [] (mi, si, hi, sl, r, nx) 0 0
    refine au_iload_n dX0_happens_30 rfl ?_
    refine au_iconst dX0_happens_31 rfl rfl ?_
    refine au_irem dX0_happens_32 (by omega) (by omega) ?_
    by_cases e33_0 : (x % 5) = 0
    · refine au_lookup (off := 27) (tgt := 60) dX0_happens_33 (by decide) (by show Op.lookupswitch.offset [((0 : Int), (27 : Int)), ((1 : Int), (52 : Int))] _ _ = _; simp only [Op.lookupswitch.offset_cons]; rw [if_pos e33_0.symm]) (by decide) ?_
      refine au_aload_n dX0_happens_60 rfl ?_
      refine au_iload_n dX0_happens_61 rfl ?_
      refine au_iconst dX0_happens_62 rfl rfl ?_
      refine au_callVp (n := 2) (kX0_canWrong G (x % n) 0 n B mi si hi sl r nx hF hN hE hB) (lw_V q1074 q1076 qs35 q130 q1077) rfl (by decide +kernel) (by decide) (T := TX0) (N := 15) rfl rfl rfl rfl (Nat.le_of_ble_eq_true rfl) (by show _ ≤ (d + 11); omega) (by show _ ≤ 80 * (d + 11); omega) (by show _ ≤ c; omega) (by show _ ≤ 7 * c; omega) dX0_happens_63 ?_
      refine au_if_eq (tgt := 131) dX0_happens_66 (by decide) (fun c66 => ?_) (fun c66 => ?_)
      · have c66 := au_b0 c66
        refine au_vret dX0_happens_131 rfl rfl (by show _ ≤ c; omega) (by show _ ≤ 7 * c; omega) ?_
        first
        | exact ⟨rfl, si, nx, (by omega), (by rw [show hpF n B Pr Lw x (mi XNrow) = _ from hpF_n0 c9 (Or.inl e33_0)]; exact congrArg (fun q => ((q, si, hi, sl, r, nx) : au_M)) (rowS_id mi XNrow).symm)⟩
        | exact ⟨rfl, si, nx, (by omega), (by rw [show hpF n B Pr Lw x (mi XNrow) = _ from hpF_n0 c9 (Or.inr e33_1)]; exact congrArg (fun q => ((q, si, hi, sl, r, nx) : au_M)) (rowS_id mi XNrow).symm)⟩
        | exact ⟨rfl, si, nx, (by omega), (by rw [show hpF n B Pr Lw x (mi XNrow) = _ from hpF_wn c9 e33_0 c66]; exact congrArg (fun q => ((q, si, hi, sl, r, nx) : au_M)) (rowS_id mi XNrow).symm)⟩
        | exact ⟨rfl, si, nx, (by omega), (by rw [show hpF n B Pr Lw x (mi XNrow) = _ from hpF_w c9 e33_0 c66])⟩
        | exact ⟨rfl, si, nx, (by omega), (by rw [show hpF n B Pr Lw x (mi XNrow) = _ from hpF_an c9 e33_1 c90]; exact congrArg (fun q => ((q, si, hi, sl, r, nx) : au_M)) (rowS_id mi XNrow).symm)⟩
        | exact ⟨rfl, si, nx, (by omega), (by rw [show hpF n B Pr Lw x (mi XNrow) = _ from hpF_a c9 e33_1 c90])⟩
        | exact ⟨rfl, si, nx, (by omega), (by rw [show hpF n B Pr Lw x (mi XNrow) = _ from hpF_p e33_0 e33_1 (by omega)])⟩
        | exact ⟨rfl, si, nx, (by omega), (by rw [show hpF n B Pr Lw x (mi XNrow) = _ from hpF_pn e33_0 e33_1 (by omega)]; exact congrArg (fun q => ((q, si, hi, sl, r, nx) : au_M)) (rowS_id mi XNrow).symm)⟩
      · have c66 := au_b1 c66
        have hcw := c66
        obtain ⟨q1, q2, q3, q4⟩ := hcw
        have hc1 : 1 ≤ c := by
          rw [show hpF n B Pr Lw x (mi XNrow) = _ from hpF_w c9 e33_0 c66] at hc
          exact hc
        refine au_aload_n dX0_happens_69 rfl ?_
        refine au_iload_n dX0_happens_70 rfl ?_
        refine au_iconst dX0_happens_71 rfl rfl ?_
        refine au_iconst dX0_happens_72 rfl rfl ?_
        refine au_iload_n dX0_happens_73 rfl ?_
        refine au_bipush dX0_happens_74 rfl rfl ?_
        refine au_irem dX0_happens_76 (by omega) (by omega) ?_
        refine au_iadd dX0_happens_77 (by omega) (by omega) ?_
        refine au_callV (n := 3) (kX0_wrongs G (x % n) 0 (1 + (x % 20)) mi si hi sl r nx hF hnx (by omega) (by omega)) (lw_V q1082 q1084 qs37 q130 q1085) rfl (by decide +kernel) (by decide) (T := TX0) (N := 15) rfl rfl rfl rfl (Nat.le_of_ble_eq_true rfl) (by show _ ≤ (d + 11); omega) (by show _ ≤ 80 * (d + 11); omega) (by show _ ≤ c; omega) (by show _ ≤ 7 * c; omega) dX0_happens_78 (fun rv_ M_ hp_ => ?_)
        obtain ⟨rfl, sj1_78, rfl⟩ := hp_
        show au_Go G _ _ 81 [some (au_r XO), some (au_i x), some (au_i (x % n)), some (au_i 0)] [au_i (mi XNrow 2)] ((rowS mi XNrow (wgF (mi XNrow) (x % n) 0 (1 + (x % 20)))), sj1_78, hi, sl, r, nx + 1) 1 7
        refine au_istore_n dX0_happens_81 (show 3 < 4 by decide) ?_
        show au_Go G _ _ 82 [some (au_r XO), some (au_i x), some (au_i (x % n)), some (au_i (mi XNrow 2))] [] ((rowS mi XNrow (wgF (mi XNrow) (x % n) 0 (1 + (x % 20)))), sj1_78, hi, sl, r, nx + 1) 1 7
        refine au_goto (tgt := 131) dX0_happens_82 (by decide) ?_
        refine au_vret dX0_happens_131 rfl rfl (by show _ ≤ c; omega) (by show _ ≤ 7 * c; omega) ?_
        first
        | exact ⟨rfl, sj1_78, (nx + 1), (by omega), (by rw [show hpF n B Pr Lw x (mi XNrow) = _ from hpF_n0 c9 (Or.inl e33_0)]; exact congrArg (fun q => ((q, sj1_78, hi, sl, r, (nx + 1)) : au_M)) (rowS_id mi XNrow).symm)⟩
        | exact ⟨rfl, sj1_78, (nx + 1), (by omega), (by rw [show hpF n B Pr Lw x (mi XNrow) = _ from hpF_n0 c9 (Or.inr e33_1)]; exact congrArg (fun q => ((q, sj1_78, hi, sl, r, (nx + 1)) : au_M)) (rowS_id mi XNrow).symm)⟩
        | exact ⟨rfl, sj1_78, (nx + 1), (by omega), (by rw [show hpF n B Pr Lw x (mi XNrow) = _ from hpF_wn c9 e33_0 c66]; exact congrArg (fun q => ((q, sj1_78, hi, sl, r, (nx + 1)) : au_M)) (rowS_id mi XNrow).symm)⟩
        | exact ⟨rfl, sj1_78, (nx + 1), (by omega), (by rw [show hpF n B Pr Lw x (mi XNrow) = _ from hpF_w c9 e33_0 c66])⟩
        | exact ⟨rfl, sj1_78, (nx + 1), (by omega), (by rw [show hpF n B Pr Lw x (mi XNrow) = _ from hpF_an c9 e33_1 c90]; exact congrArg (fun q => ((q, sj1_78, hi, sl, r, (nx + 1)) : au_M)) (rowS_id mi XNrow).symm)⟩
        | exact ⟨rfl, sj1_78, (nx + 1), (by omega), (by rw [show hpF n B Pr Lw x (mi XNrow) = _ from hpF_a c9 e33_1 c90])⟩
        | exact ⟨rfl, sj1_78, (nx + 1), (by omega), (by rw [show hpF n B Pr Lw x (mi XNrow) = _ from hpF_p e33_0 e33_1 (by omega)])⟩
        | exact ⟨rfl, sj1_78, (nx + 1), (by omega), (by rw [show hpF n B Pr Lw x (mi XNrow) = _ from hpF_pn e33_0 e33_1 (by omega)]; exact congrArg (fun q => ((q, sj1_78, hi, sl, r, (nx + 1)) : au_M)) (rowS_id mi XNrow).symm)⟩
    by_cases e33_1 : (x % 5) = 1
    · refine au_lookup (off := 52) (tgt := 85) dX0_happens_33 (by decide) (by show Op.lookupswitch.offset [((0 : Int), (27 : Int)), ((1 : Int), (52 : Int))] _ _ = _; simp only [Op.lookupswitch.offset_cons]; rw [if_neg (fun z => e33_0 z.symm), if_pos e33_1.symm]) (by decide) ?_
      refine au_aload_n dX0_happens_85 rfl ?_
      refine au_iload_n dX0_happens_86 rfl ?_
      refine au_callVp (n := 1) (kX0_isOfficer G (x % n) mi si hi sl r nx hF n hN hn ) (lw_V q296 q298 qs0 q130 q299) rfl (by decide +kernel) (by decide) (T := TX0) (N := 15) rfl rfl rfl rfl (Nat.le_of_ble_eq_true rfl) (by show _ ≤ (d + 11); omega) (by show _ ≤ 80 * (d + 11); omega) (by show _ ≤ c; omega) (by show _ ≤ 7 * c; omega) dX0_happens_87 ?_
      refine au_if_eq (tgt := 131) dX0_happens_90 (by decide) (fun c90 => ?_) (fun c90 => ?_)
      · have c90 := au_b0 c90
        refine au_vret dX0_happens_131 rfl rfl (by show _ ≤ c; omega) (by show _ ≤ 7 * c; omega) ?_
        first
        | exact ⟨rfl, si, nx, (by omega), (by rw [show hpF n B Pr Lw x (mi XNrow) = _ from hpF_n0 c9 (Or.inl e33_0)]; exact congrArg (fun q => ((q, si, hi, sl, r, nx) : au_M)) (rowS_id mi XNrow).symm)⟩
        | exact ⟨rfl, si, nx, (by omega), (by rw [show hpF n B Pr Lw x (mi XNrow) = _ from hpF_n0 c9 (Or.inr e33_1)]; exact congrArg (fun q => ((q, si, hi, sl, r, nx) : au_M)) (rowS_id mi XNrow).symm)⟩
        | exact ⟨rfl, si, nx, (by omega), (by rw [show hpF n B Pr Lw x (mi XNrow) = _ from hpF_wn c9 e33_0 c66]; exact congrArg (fun q => ((q, si, hi, sl, r, nx) : au_M)) (rowS_id mi XNrow).symm)⟩
        | exact ⟨rfl, si, nx, (by omega), (by rw [show hpF n B Pr Lw x (mi XNrow) = _ from hpF_w c9 e33_0 c66])⟩
        | exact ⟨rfl, si, nx, (by omega), (by rw [show hpF n B Pr Lw x (mi XNrow) = _ from hpF_an c9 e33_1 c90]; exact congrArg (fun q => ((q, si, hi, sl, r, nx) : au_M)) (rowS_id mi XNrow).symm)⟩
        | exact ⟨rfl, si, nx, (by omega), (by rw [show hpF n B Pr Lw x (mi XNrow) = _ from hpF_a c9 e33_1 c90])⟩
        | exact ⟨rfl, si, nx, (by omega), (by rw [show hpF n B Pr Lw x (mi XNrow) = _ from hpF_p e33_0 e33_1 (by omega)])⟩
        | exact ⟨rfl, si, nx, (by omega), (by rw [show hpF n B Pr Lw x (mi XNrow) = _ from hpF_pn e33_0 e33_1 (by omega)]; exact congrArg (fun q => ((q, si, hi, sl, r, nx) : au_M)) (rowS_id mi XNrow).symm)⟩
      · have c90 := au_b1 c90
        have hc4 : 0 ≤ x % 4 ∧ x % 4 ≤ 99 := by omega
        refine au_aload_n dX0_happens_93 rfl ?_
        refine au_iload_n dX0_happens_94 rfl ?_
        refine au_iload_n dX0_happens_95 rfl ?_
        refine au_iconst dX0_happens_96 rfl rfl ?_
        refine au_irem dX0_happens_97 (by omega) (by omega) ?_
        refine au_callV (n := 2) (kX0_goesAway G (x % n) (x % 4) mi si hi sl r nx hF (by omega) (by omega) ⟨by omega, by omega⟩ ⟨by omega, by omega⟩) (lw_V q1090 q1092 qs38 q130 q1093) rfl (by decide +kernel) (by decide) (T := TX0) (N := 15) rfl rfl rfl rfl (Nat.le_of_ble_eq_true rfl) (by show _ ≤ (d + 11); omega) (by show _ ≤ 80 * (d + 11); omega) (by show _ ≤ c; omega) (by show _ ≤ 7 * c; omega) dX0_happens_98 (fun rv_ M_ hp_ => ?_)
        obtain ⟨rfl, rfl⟩ := hp_
        show au_Go G _ _ 101 [some (au_r XO), some (au_i x), some (au_i (x % n)), some (au_i 0)] [] ((rowS mi XNrow (awF (mi XNrow) (x % n) (x % 4))), si, hi, sl, r, nx) 0 0
        refine au_goto (tgt := 131) dX0_happens_101 (by decide) ?_
        refine au_vret dX0_happens_131 rfl rfl (by show _ ≤ c; omega) (by show _ ≤ 7 * c; omega) ?_
        first
        | exact ⟨rfl, si, nx, (by omega), (by rw [show hpF n B Pr Lw x (mi XNrow) = _ from hpF_n0 c9 (Or.inl e33_0)]; exact congrArg (fun q => ((q, si, hi, sl, r, nx) : au_M)) (rowS_id mi XNrow).symm)⟩
        | exact ⟨rfl, si, nx, (by omega), (by rw [show hpF n B Pr Lw x (mi XNrow) = _ from hpF_n0 c9 (Or.inr e33_1)]; exact congrArg (fun q => ((q, si, hi, sl, r, nx) : au_M)) (rowS_id mi XNrow).symm)⟩
        | exact ⟨rfl, si, nx, (by omega), (by rw [show hpF n B Pr Lw x (mi XNrow) = _ from hpF_wn c9 e33_0 c66]; exact congrArg (fun q => ((q, si, hi, sl, r, nx) : au_M)) (rowS_id mi XNrow).symm)⟩
        | exact ⟨rfl, si, nx, (by omega), (by rw [show hpF n B Pr Lw x (mi XNrow) = _ from hpF_w c9 e33_0 c66])⟩
        | exact ⟨rfl, si, nx, (by omega), (by rw [show hpF n B Pr Lw x (mi XNrow) = _ from hpF_an c9 e33_1 c90]; exact congrArg (fun q => ((q, si, hi, sl, r, nx) : au_M)) (rowS_id mi XNrow).symm)⟩
        | exact ⟨rfl, si, nx, (by omega), (by rw [show hpF n B Pr Lw x (mi XNrow) = _ from hpF_a c9 e33_1 c90])⟩
        | exact ⟨rfl, si, nx, (by omega), (by rw [show hpF n B Pr Lw x (mi XNrow) = _ from hpF_p e33_0 e33_1 (by omega)])⟩
        | exact ⟨rfl, si, nx, (by omega), (by rw [show hpF n B Pr Lw x (mi XNrow) = _ from hpF_pn e33_0 e33_1 (by omega)]; exact congrArg (fun q => ((q, si, hi, sl, r, nx) : au_M)) (rowS_id mi XNrow).symm)⟩
    refine au_lookup (off := 71) (tgt := 104) dX0_happens_33 (by decide) (by show Op.lookupswitch.offset [((0 : Int), (27 : Int)), ((1 : Int), (52 : Int))] _ _ = _; simp only [Op.lookupswitch.offset_cons]; rw [if_neg (fun z => e33_0 z.symm), if_neg (fun z => e33_1 z.symm)]; rfl) (by decide) ?_
    refine au_aload_n dX0_happens_104 rfl ?_
    refine au_getf (C := RX0) (T := TX0) (N := 15) in_X0 (by decide) rfl 0 (by decide) rfl rfl q245 rfl dX0_happens_105 (v := au_r XN) (congrArg au_q (fx_XO_0 hF)) ?_
    refine au_getN (C := RX1) (T := TX1) (N := 11) in_X1 (by decide) rfl 1 (by decide) rfl rfl q189 rfl dX0_happens_108 (v := au_r XNrow) (congrArg au_q (fx_XN_1 hF)) ?_
    refine au_iconst dX0_happens_111 rfl rfl ?_
    refine au_iald dX0_happens_112 rfl (by omega) (by show _ < ((204 : Nat) : Int); omega) (v := au_i ((mi XNrow) 0)) (congrArg au_i (au_gi_m (show au_reg XNrow _ = 0 from au_reg_row hq _))) ?_
    refine au_sipush dX0_happens_113 rfl rfl ?_
    refine au_icmp_ge (tgt := 131) dX0_happens_116 (by decide) (fun c116 => ?_) (fun c116 => ?_)
    · refine au_vret dX0_happens_131 rfl rfl (by show _ ≤ c; omega) (by show _ ≤ 7 * c; omega) ?_
      first
      | exact ⟨rfl, si, nx, (by omega), (by rw [show hpF n B Pr Lw x (mi XNrow) = _ from hpF_n0 c9 (Or.inl e33_0)]; exact congrArg (fun q => ((q, si, hi, sl, r, nx) : au_M)) (rowS_id mi XNrow).symm)⟩
      | exact ⟨rfl, si, nx, (by omega), (by rw [show hpF n B Pr Lw x (mi XNrow) = _ from hpF_n0 c9 (Or.inr e33_1)]; exact congrArg (fun q => ((q, si, hi, sl, r, nx) : au_M)) (rowS_id mi XNrow).symm)⟩
      | exact ⟨rfl, si, nx, (by omega), (by rw [show hpF n B Pr Lw x (mi XNrow) = _ from hpF_wn c9 e33_0 c66]; exact congrArg (fun q => ((q, si, hi, sl, r, nx) : au_M)) (rowS_id mi XNrow).symm)⟩
      | exact ⟨rfl, si, nx, (by omega), (by rw [show hpF n B Pr Lw x (mi XNrow) = _ from hpF_w c9 e33_0 c66])⟩
      | exact ⟨rfl, si, nx, (by omega), (by rw [show hpF n B Pr Lw x (mi XNrow) = _ from hpF_an c9 e33_1 c90]; exact congrArg (fun q => ((q, si, hi, sl, r, nx) : au_M)) (rowS_id mi XNrow).symm)⟩
      | exact ⟨rfl, si, nx, (by omega), (by rw [show hpF n B Pr Lw x (mi XNrow) = _ from hpF_a c9 e33_1 c90])⟩
      | exact ⟨rfl, si, nx, (by omega), (by rw [show hpF n B Pr Lw x (mi XNrow) = _ from hpF_p e33_0 e33_1 (by omega)])⟩
      | exact ⟨rfl, si, nx, (by omega), (by rw [show hpF n B Pr Lw x (mi XNrow) = _ from hpF_pn e33_0 e33_1 (by omega)]; exact congrArg (fun q => ((q, si, hi, sl, r, nx) : au_M)) (rowS_id mi XNrow).symm)⟩
    · rw [show hpF n B Pr Lw x (mi XNrow) = _ from hpF_p e33_0 e33_1 (by omega)] at hc
      have hc : (pasF n B Pr Lw (mi XNrow)).2.2 ≤ c := hc
      have c116 : mi XNrow 0 < 9999 := by omega
      refine au_aload_n dX0_happens_119 rfl ?_
      refine au_aload_n dX0_happens_120 rfl ?_
      refine au_getf (C := RX0) (T := TX0) (N := 15) in_X0 (by decide) rfl 0 (by decide) rfl rfl q245 rfl dX0_happens_121 (v := au_r XN) (congrArg au_q (fx_XO_0 hF)) ?_
      refine au_getN (C := RX1) (T := TX1) (N := 11) in_X1 (by decide) rfl 1 (by decide) rfl rfl q189 rfl dX0_happens_124 (v := au_r XNrow) (congrArg au_q (fx_XN_1 hF)) ?_
      refine au_callV (n := 1) (kX0_passesN G d n B Pr Lw (mi XNrow) mi si hi sl r nx hF (by omega) hX rfl hR c116) (lw_V q894 q896 qs25 q130 q897) rfl (by decide +kernel) (by decide) (T := TX0) (N := 15) rfl rfl rfl rfl (Nat.le_of_ble_eq_true rfl) (by show _ ≤ (d + 11); omega) (by show _ ≤ 80 * (d + 11); omega) (by show _ ≤ c; omega) (by show _ ≤ 7 * c; omega) dX0_happens_127 (fun rv_ M_ hp_ => ?_)
      obtain ⟨rfl, s2, n2, hn2, rfl⟩ := hp_
      show au_Go G _ _ 130 [some (au_r XO), some (au_i x), some (au_i (x % n)), some (au_i 0)] [au_i ((pasF n B Pr Lw (mi XNrow)).2.1)] ((rowS mi XNrow (pasF n B Pr Lw (mi XNrow)).1), s2, hi, sl, r, n2) (0 + ((pasF n B Pr Lw (mi XNrow)).2.2)) (0 + (4 * (pasF n B Pr Lw (mi XNrow)).2.2))
      refine au_istore_n dX0_happens_130 (show 3 < 4 by decide) ?_
      show au_Go G _ _ 131 [some (au_r XO), some (au_i x), some (au_i (x % n)), some (au_i ((pasF n B Pr Lw (mi XNrow)).2.1))] [] ((rowS mi XNrow (pasF n B Pr Lw (mi XNrow)).1), s2, hi, sl, r, n2) (0 + ((pasF n B Pr Lw (mi XNrow)).2.2)) (0 + (4 * (pasF n B Pr Lw (mi XNrow)).2.2))
      refine au_vret dX0_happens_131 rfl rfl (by show _ ≤ c; omega) (by show _ ≤ 7 * c; omega) ?_
      first
      | exact ⟨rfl, s2, n2, (by omega), (by rw [show hpF n B Pr Lw x (mi XNrow) = _ from hpF_n0 c9 (Or.inl e33_0)]; exact congrArg (fun q => ((q, s2, hi, sl, r, n2) : au_M)) (rowS_id mi XNrow).symm)⟩
      | exact ⟨rfl, s2, n2, (by omega), (by rw [show hpF n B Pr Lw x (mi XNrow) = _ from hpF_n0 c9 (Or.inr e33_1)]; exact congrArg (fun q => ((q, s2, hi, sl, r, n2) : au_M)) (rowS_id mi XNrow).symm)⟩
      | exact ⟨rfl, s2, n2, (by omega), (by rw [show hpF n B Pr Lw x (mi XNrow) = _ from hpF_wn c9 e33_0 c66]; exact congrArg (fun q => ((q, s2, hi, sl, r, n2) : au_M)) (rowS_id mi XNrow).symm)⟩
      | exact ⟨rfl, s2, n2, (by omega), (by rw [show hpF n B Pr Lw x (mi XNrow) = _ from hpF_w c9 e33_0 c66])⟩
      | exact ⟨rfl, s2, n2, (by omega), (by rw [show hpF n B Pr Lw x (mi XNrow) = _ from hpF_an c9 e33_1 c90]; exact congrArg (fun q => ((q, s2, hi, sl, r, n2) : au_M)) (rowS_id mi XNrow).symm)⟩
      | exact ⟨rfl, s2, n2, (by omega), (by rw [show hpF n B Pr Lw x (mi XNrow) = _ from hpF_a c9 e33_1 c90])⟩
      | exact ⟨rfl, s2, n2, (by omega), (by rw [show hpF n B Pr Lw x (mi XNrow) = _ from hpF_p e33_0 e33_1 (by omega)])⟩
      | exact ⟨rfl, s2, n2, (by omega), (by rw [show hpF n B Pr Lw x (mi XNrow) = _ from hpF_pn e33_0 e33_1 (by omega)]; exact congrArg (fun q => ((q, s2, hi, sl, r, n2) : au_M)) (rowS_id mi XNrow).symm)⟩
  · refine au_iconst dX0_happens_12 rfl rfl ?_
    refine au_goto (tgt := 27) dX0_happens_13 (by decide) ?_
    refine au_istore_n dX0_happens_27 (show 2 < 4 by decide) ?_
    show au_Go G _ _ 28 [some (au_r XO), some (au_i x), some (au_i (-1)), none] [] (mi, si, hi, sl, r, nx) 0 0
    refine au_iconst dX0_happens_28 rfl rfl ?_
    refine au_istore_n dX0_happens_29 (show 3 < 4 by decide) ?_
    show au_Go G _ _ 30 [some (au_r XO), some (au_i x), some (au_i (-1)), some (au_i 0)] [] (mi, si, hi, sl, r, nx) 0 0
    refine au_iload_n dX0_happens_30 rfl ?_
    refine au_iconst dX0_happens_31 rfl rfl ?_
    refine au_irem dX0_happens_32 (by omega) (by omega) ?_
    by_cases e33_0 : (x % 5) = 0
    · refine au_lookup (off := 27) (tgt := 60) dX0_happens_33 (by decide) (by show Op.lookupswitch.offset [((0 : Int), (27 : Int)), ((1 : Int), (52 : Int))] _ _ = _; simp only [Op.lookupswitch.offset_cons]; rw [if_pos e33_0.symm]) (by decide) ?_
      refine au_aload_n dX0_happens_60 rfl ?_
      refine au_iload_n dX0_happens_61 rfl ?_
      refine au_iconst dX0_happens_62 rfl rfl ?_
      refine au_callVp (n := 2) (kX0_canWrong G (-1) 0 n B mi si hi sl r nx hF hN hE hB) (lw_V q1074 q1076 qs35 q130 q1077) rfl (by decide +kernel) (by decide) (T := TX0) (N := 15) rfl rfl rfl rfl (Nat.le_of_ble_eq_true rfl) (by show _ ≤ (d + 11); omega) (by show _ ≤ 80 * (d + 11); omega) (by show _ ≤ c; omega) (by show _ ≤ 7 * c; omega) dX0_happens_63 ?_
      refine au_if_eq (tgt := 131) dX0_happens_66 (by decide) (fun c66 => ?_) (fun c66 => ?_)
      · have c66 := au_b0 c66
        refine au_vret dX0_happens_131 rfl rfl (by show _ ≤ c; omega) (by show _ ≤ 7 * c; omega) ?_
        first
        | exact ⟨rfl, si, nx, (by omega), (by rw [show hpF n B Pr Lw x (mi XNrow) = _ from hpF_n0 c9 (Or.inl e33_0)]; exact congrArg (fun q => ((q, si, hi, sl, r, nx) : au_M)) (rowS_id mi XNrow).symm)⟩
        | exact ⟨rfl, si, nx, (by omega), (by rw [show hpF n B Pr Lw x (mi XNrow) = _ from hpF_n0 c9 (Or.inr e33_1)]; exact congrArg (fun q => ((q, si, hi, sl, r, nx) : au_M)) (rowS_id mi XNrow).symm)⟩
        | exact ⟨rfl, si, nx, (by omega), (by rw [show hpF n B Pr Lw x (mi XNrow) = _ from hpF_wn c9 e33_0 c66]; exact congrArg (fun q => ((q, si, hi, sl, r, nx) : au_M)) (rowS_id mi XNrow).symm)⟩
        | exact ⟨rfl, si, nx, (by omega), (by rw [show hpF n B Pr Lw x (mi XNrow) = _ from hpF_w c9 e33_0 c66])⟩
        | exact ⟨rfl, si, nx, (by omega), (by rw [show hpF n B Pr Lw x (mi XNrow) = _ from hpF_an c9 e33_1 c90]; exact congrArg (fun q => ((q, si, hi, sl, r, nx) : au_M)) (rowS_id mi XNrow).symm)⟩
        | exact ⟨rfl, si, nx, (by omega), (by rw [show hpF n B Pr Lw x (mi XNrow) = _ from hpF_a c9 e33_1 c90])⟩
        | exact ⟨rfl, si, nx, (by omega), (by rw [show hpF n B Pr Lw x (mi XNrow) = _ from hpF_p e33_0 e33_1 (by omega)])⟩
        | exact ⟨rfl, si, nx, (by omega), (by rw [show hpF n B Pr Lw x (mi XNrow) = _ from hpF_pn e33_0 e33_1 (by omega)]; exact congrArg (fun q => ((q, si, hi, sl, r, nx) : au_M)) (rowS_id mi XNrow).symm)⟩
      · have c66 := au_b1 c66
        exact absurd c66.1.1 (by decide)
    by_cases e33_1 : (x % 5) = 1
    · refine au_lookup (off := 52) (tgt := 85) dX0_happens_33 (by decide) (by show Op.lookupswitch.offset [((0 : Int), (27 : Int)), ((1 : Int), (52 : Int))] _ _ = _; simp only [Op.lookupswitch.offset_cons]; rw [if_neg (fun z => e33_0 z.symm), if_pos e33_1.symm]) (by decide) ?_
      refine au_aload_n dX0_happens_85 rfl ?_
      refine au_iload_n dX0_happens_86 rfl ?_
      refine au_callVp (n := 1) (kX0_isOfficer G (-1) mi si hi sl r nx hF n hN hn ) (lw_V q296 q298 qs0 q130 q299) rfl (by decide +kernel) (by decide) (T := TX0) (N := 15) rfl rfl rfl rfl (Nat.le_of_ble_eq_true rfl) (by show _ ≤ (d + 11); omega) (by show _ ≤ 80 * (d + 11); omega) (by show _ ≤ c; omega) (by show _ ≤ 7 * c; omega) dX0_happens_87 ?_
      refine au_if_eq (tgt := 131) dX0_happens_90 (by decide) (fun c90 => ?_) (fun c90 => ?_)
      · have c90 := au_b0 c90
        refine au_vret dX0_happens_131 rfl rfl (by show _ ≤ c; omega) (by show _ ≤ 7 * c; omega) ?_
        first
        | exact ⟨rfl, si, nx, (by omega), (by rw [show hpF n B Pr Lw x (mi XNrow) = _ from hpF_n0 c9 (Or.inl e33_0)]; exact congrArg (fun q => ((q, si, hi, sl, r, nx) : au_M)) (rowS_id mi XNrow).symm)⟩
        | exact ⟨rfl, si, nx, (by omega), (by rw [show hpF n B Pr Lw x (mi XNrow) = _ from hpF_n0 c9 (Or.inr e33_1)]; exact congrArg (fun q => ((q, si, hi, sl, r, nx) : au_M)) (rowS_id mi XNrow).symm)⟩
        | exact ⟨rfl, si, nx, (by omega), (by rw [show hpF n B Pr Lw x (mi XNrow) = _ from hpF_wn c9 e33_0 c66]; exact congrArg (fun q => ((q, si, hi, sl, r, nx) : au_M)) (rowS_id mi XNrow).symm)⟩
        | exact ⟨rfl, si, nx, (by omega), (by rw [show hpF n B Pr Lw x (mi XNrow) = _ from hpF_w c9 e33_0 c66])⟩
        | exact ⟨rfl, si, nx, (by omega), (by rw [show hpF n B Pr Lw x (mi XNrow) = _ from hpF_an c9 e33_1 c90]; exact congrArg (fun q => ((q, si, hi, sl, r, nx) : au_M)) (rowS_id mi XNrow).symm)⟩
        | exact ⟨rfl, si, nx, (by omega), (by rw [show hpF n B Pr Lw x (mi XNrow) = _ from hpF_a c9 e33_1 c90])⟩
        | exact ⟨rfl, si, nx, (by omega), (by rw [show hpF n B Pr Lw x (mi XNrow) = _ from hpF_p e33_0 e33_1 (by omega)])⟩
        | exact ⟨rfl, si, nx, (by omega), (by rw [show hpF n B Pr Lw x (mi XNrow) = _ from hpF_pn e33_0 e33_1 (by omega)]; exact congrArg (fun q => ((q, si, hi, sl, r, nx) : au_M)) (rowS_id mi XNrow).symm)⟩
      · have c90 := au_b1 c90
        exact absurd c90.1 (by decide)
    refine au_lookup (off := 71) (tgt := 104) dX0_happens_33 (by decide) (by show Op.lookupswitch.offset [((0 : Int), (27 : Int)), ((1 : Int), (52 : Int))] _ _ = _; simp only [Op.lookupswitch.offset_cons]; rw [if_neg (fun z => e33_0 z.symm), if_neg (fun z => e33_1 z.symm)]; rfl) (by decide) ?_
    refine au_aload_n dX0_happens_104 rfl ?_
    refine au_getf (C := RX0) (T := TX0) (N := 15) in_X0 (by decide) rfl 0 (by decide) rfl rfl q245 rfl dX0_happens_105 (v := au_r XN) (congrArg au_q (fx_XO_0 hF)) ?_
    refine au_getN (C := RX1) (T := TX1) (N := 11) in_X1 (by decide) rfl 1 (by decide) rfl rfl q189 rfl dX0_happens_108 (v := au_r XNrow) (congrArg au_q (fx_XN_1 hF)) ?_
    refine au_iconst dX0_happens_111 rfl rfl ?_
    refine au_iald dX0_happens_112 rfl (by omega) (by show _ < ((204 : Nat) : Int); omega) (v := au_i ((mi XNrow) 0)) (congrArg au_i (au_gi_m (show au_reg XNrow _ = 0 from au_reg_row hq _))) ?_
    refine au_sipush dX0_happens_113 rfl rfl ?_
    refine au_icmp_ge (tgt := 131) dX0_happens_116 (by decide) (fun c116 => ?_) (fun c116 => ?_)
    · refine au_vret dX0_happens_131 rfl rfl (by show _ ≤ c; omega) (by show _ ≤ 7 * c; omega) ?_
      first
      | exact ⟨rfl, si, nx, (by omega), (by rw [show hpF n B Pr Lw x (mi XNrow) = _ from hpF_n0 c9 (Or.inl e33_0)]; exact congrArg (fun q => ((q, si, hi, sl, r, nx) : au_M)) (rowS_id mi XNrow).symm)⟩
      | exact ⟨rfl, si, nx, (by omega), (by rw [show hpF n B Pr Lw x (mi XNrow) = _ from hpF_n0 c9 (Or.inr e33_1)]; exact congrArg (fun q => ((q, si, hi, sl, r, nx) : au_M)) (rowS_id mi XNrow).symm)⟩
      | exact ⟨rfl, si, nx, (by omega), (by rw [show hpF n B Pr Lw x (mi XNrow) = _ from hpF_wn c9 e33_0 c66]; exact congrArg (fun q => ((q, si, hi, sl, r, nx) : au_M)) (rowS_id mi XNrow).symm)⟩
      | exact ⟨rfl, si, nx, (by omega), (by rw [show hpF n B Pr Lw x (mi XNrow) = _ from hpF_w c9 e33_0 c66])⟩
      | exact ⟨rfl, si, nx, (by omega), (by rw [show hpF n B Pr Lw x (mi XNrow) = _ from hpF_an c9 e33_1 c90]; exact congrArg (fun q => ((q, si, hi, sl, r, nx) : au_M)) (rowS_id mi XNrow).symm)⟩
      | exact ⟨rfl, si, nx, (by omega), (by rw [show hpF n B Pr Lw x (mi XNrow) = _ from hpF_a c9 e33_1 c90])⟩
      | exact ⟨rfl, si, nx, (by omega), (by rw [show hpF n B Pr Lw x (mi XNrow) = _ from hpF_p e33_0 e33_1 (by omega)])⟩
      | exact ⟨rfl, si, nx, (by omega), (by rw [show hpF n B Pr Lw x (mi XNrow) = _ from hpF_pn e33_0 e33_1 (by omega)]; exact congrArg (fun q => ((q, si, hi, sl, r, nx) : au_M)) (rowS_id mi XNrow).symm)⟩
    · rw [show hpF n B Pr Lw x (mi XNrow) = _ from hpF_p e33_0 e33_1 (by omega)] at hc
      have hc : (pasF n B Pr Lw (mi XNrow)).2.2 ≤ c := hc
      have c116 : mi XNrow 0 < 9999 := by omega
      refine au_aload_n dX0_happens_119 rfl ?_
      refine au_aload_n dX0_happens_120 rfl ?_
      refine au_getf (C := RX0) (T := TX0) (N := 15) in_X0 (by decide) rfl 0 (by decide) rfl rfl q245 rfl dX0_happens_121 (v := au_r XN) (congrArg au_q (fx_XO_0 hF)) ?_
      refine au_getN (C := RX1) (T := TX1) (N := 11) in_X1 (by decide) rfl 1 (by decide) rfl rfl q189 rfl dX0_happens_124 (v := au_r XNrow) (congrArg au_q (fx_XN_1 hF)) ?_
      refine au_callV (n := 1) (kX0_passesN G d n B Pr Lw (mi XNrow) mi si hi sl r nx hF (by omega) hX rfl hR c116) (lw_V q894 q896 qs25 q130 q897) rfl (by decide +kernel) (by decide) (T := TX0) (N := 15) rfl rfl rfl rfl (Nat.le_of_ble_eq_true rfl) (by show _ ≤ (d + 11); omega) (by show _ ≤ 80 * (d + 11); omega) (by show _ ≤ c; omega) (by show _ ≤ 7 * c; omega) dX0_happens_127 (fun rv_ M_ hp_ => ?_)
      obtain ⟨rfl, s2, n2, hn2, rfl⟩ := hp_
      show au_Go G _ _ 130 [some (au_r XO), some (au_i x), some (au_i (-1)), some (au_i 0)] [au_i ((pasF n B Pr Lw (mi XNrow)).2.1)] ((rowS mi XNrow (pasF n B Pr Lw (mi XNrow)).1), s2, hi, sl, r, n2) (0 + ((pasF n B Pr Lw (mi XNrow)).2.2)) (0 + (4 * (pasF n B Pr Lw (mi XNrow)).2.2))
      refine au_istore_n dX0_happens_130 (show 3 < 4 by decide) ?_
      show au_Go G _ _ 131 [some (au_r XO), some (au_i x), some (au_i (-1)), some (au_i ((pasF n B Pr Lw (mi XNrow)).2.1))] [] ((rowS mi XNrow (pasF n B Pr Lw (mi XNrow)).1), s2, hi, sl, r, n2) (0 + ((pasF n B Pr Lw (mi XNrow)).2.2)) (0 + (4 * (pasF n B Pr Lw (mi XNrow)).2.2))
      refine au_vret dX0_happens_131 rfl rfl (by show _ ≤ c; omega) (by show _ ≤ 7 * c; omega) ?_
      first
      | exact ⟨rfl, s2, n2, (by omega), (by rw [show hpF n B Pr Lw x (mi XNrow) = _ from hpF_n0 c9 (Or.inl e33_0)]; exact congrArg (fun q => ((q, s2, hi, sl, r, n2) : au_M)) (rowS_id mi XNrow).symm)⟩
      | exact ⟨rfl, s2, n2, (by omega), (by rw [show hpF n B Pr Lw x (mi XNrow) = _ from hpF_n0 c9 (Or.inr e33_1)]; exact congrArg (fun q => ((q, s2, hi, sl, r, n2) : au_M)) (rowS_id mi XNrow).symm)⟩
      | exact ⟨rfl, s2, n2, (by omega), (by rw [show hpF n B Pr Lw x (mi XNrow) = _ from hpF_wn c9 e33_0 c66]; exact congrArg (fun q => ((q, s2, hi, sl, r, n2) : au_M)) (rowS_id mi XNrow).symm)⟩
      | exact ⟨rfl, s2, n2, (by omega), (by rw [show hpF n B Pr Lw x (mi XNrow) = _ from hpF_w c9 e33_0 c66])⟩
      | exact ⟨rfl, s2, n2, (by omega), (by rw [show hpF n B Pr Lw x (mi XNrow) = _ from hpF_an c9 e33_1 c90]; exact congrArg (fun q => ((q, s2, hi, sl, r, n2) : au_M)) (rowS_id mi XNrow).symm)⟩
      | exact ⟨rfl, s2, n2, (by omega), (by rw [show hpF n B Pr Lw x (mi XNrow) = _ from hpF_a c9 e33_1 c90])⟩
      | exact ⟨rfl, s2, n2, (by omega), (by rw [show hpF n B Pr Lw x (mi XNrow) = _ from hpF_p e33_0 e33_1 (by omega)])⟩
      | exact ⟨rfl, s2, n2, (by omega), (by rw [show hpF n B Pr Lw x (mi XNrow) = _ from hpF_pn e33_0 e33_1 (by omega)]; exact congrArg (fun q => ((q, s2, hi, sl, r, n2) : au_M)) (rowS_id mi XNrow).symm)⟩
theorem kX0_years (G : au_G) (d : Nat) (Lw : au_Lw) (sd z : Int) (n : Int) (B Pr Co R : Int → Int) (ns : Int) (S : Nat → Int → Int) (c : Nat) (mi si hi sl : au_A → Int → Int) (r : au_A → Int → Option au_A) (nx : Nat) (hF : Fix r) (hnx : 1126 ≤ nx) (hX : EnX r hi mi d n B Pr Lw) (hY : XY mi (n, B, Pr, Co, R, ns, S)) (hK : YOK (n, B, Pr, Co, R, ns, S)) (hc : (0 ≤ sd ∧ sd ≤ 9999) ∧ 1 ≤ z ∧ z ≤ 40 → (yrN n B Pr Lw z.toNat (up1 R 1 (sd * 2 + 181))).2 ≤ c) : au_Ctr G yX0_years cX0_years 5 (some .int) (d + 12) c (7 * c) [au_r XO, au_i sd, au_i z] (mi, si, hi, sl, r, nx) (PoX hi sl r nx mi (some (au_i (yrY Lw (n, B, Pr, Co, R, ns, S) sd z).1)) (yrY Lw (n, B, Pr, Co, R, ns, S) sd z).2) := by
  refine au_of (by decide) (Nat.le_of_ble_eq_true rfl) ?_
  obtain ⟨jN, jE, jPr, jCo, jRw, jSt⟩ := id hY
  obtain ⟨jB, jP9, jC0, jR, jns, jSR⟩ := id hK
  have hN : mi XNn 0 = n := jN
  have hE : ∀ o, 0 ≤ o → o < 10 → mi XNboss o = B o := jE
  have hPr : ∀ o, 0 ≤ o → o < 10 → mi XNpride o = Pr o := jPr
  have hCo : ∀ o, 0 ≤ o → o < 10 → mi XNcousin o = Co o := jCo
  have hRw : mi XNrow = R := jRw
  have hSt : StX mi ns S := jSt
  have hB : Bs B n := jB
  have hns : 0 ≤ ns ∧ ns ≤ 30 := jns
  have hb1 := hB.1
  have hb0 := hB.2.1
  have hn : 0 ≤ n ∧ n ≤ 10 := ⟨hb1, hb0⟩
  have hR : RowOK R n B := jR
  subst hRw
  obtain ⟨⟨r0, r0b⟩, ⟨r1, r1b⟩, ⟨r2, r2b⟩, ⟨r83, r83b⟩, rA⟩ := id hR.1
  have hq : 1003 = 1003 ∨ 1003 = 1107 := Or.inl rfl
  show au_Go G _ _ 0 [some (au_r XO), some (au_i sd), some (au_i z), none, none] [] (mi, si, hi, sl, r, nx) 0 0
  refine au_iload_n dX0_years_0 rfl ?_
  refine au_iconst dX0_years_1 rfl rfl ?_
  refine au_sipush dX0_years_2 rfl rfl ?_
  refine au_callSp (n := 3) (kX0_in G sd 0 9999 (mi, si, hi, sl, r, nx)) (lw_S q300 q301 q130 q302) (by decide +kernel) rfl rfl rfl (Nat.le_of_ble_eq_true rfl) (by show _ ≤ (d + 12); omega) (by show _ ≤ 80 * (d + 12); omega) (by show _ ≤ c; omega) (by show _ ≤ 7 * c; omega) dX0_years_5 ?_
  refine au_if_eq (tgt := 21) dX0_years_8 (by decide) (fun c8 => ?_) (fun c8 => ?_)
  · have c8 := au_b0 c8
    refine au_iconst dX0_years_21 rfl rfl ?_
    refine au_iret dX0_years_22 rfl rfl (by show _ ≤ c; omega) (by show _ ≤ 7 * c; omega) ?_
    first
    | exact PoX.of (show yrY Lw (n, B, Pr, Co, mi XNrow, ns, S) sd z = _ from if_neg (fun q => c8 q.1)) (Nat.le_refl _) hY (FrX.rf mi) rfl
    | exact PoX.of (show yrY Lw (n, B, Pr, Co, mi XNrow, ns, S) sd z = _ from if_neg (fun q => c18 q.2)) (Nat.le_refl _) hY (FrX.rf mi) rfl
  · have c8 := au_b1 c8
    refine au_iload_n dX0_years_11 rfl ?_
    refine au_iconst dX0_years_12 rfl rfl ?_
    refine au_bipush dX0_years_13 rfl rfl ?_
    refine au_callSp (n := 3) (kX0_in G z 1 40 (mi, si, hi, sl, r, nx)) (lw_S q300 q301 q130 q302) (by decide +kernel) rfl rfl rfl (Nat.le_of_ble_eq_true rfl) (by show _ ≤ (d + 12); omega) (by show _ ≤ 80 * (d + 12); omega) (by show _ ≤ c; omega) (by show _ ≤ 7 * c; omega) dX0_years_15 ?_
    refine au_if_ne (tgt := 23) dX0_years_18 (by decide) (fun c18 => ?_) (fun c18 => ?_)
    · have c18 := au_b1 c18
      refine au_aload_n dX0_years_23 rfl ?_
      refine au_getf (C := RX0) (T := TX0) (N := 15) in_X0 (by decide) rfl 0 (by decide) rfl rfl q245 rfl dX0_years_24 (v := au_r XN) (congrArg au_q (fx_XO_0 hF)) ?_
      refine au_callV (n := 0) (kX1_keeps G ns S mi si hi sl r nx hF hSt hns) (lw_V q890 q891 q892 q131 q893) rfl (by decide +kernel) (by decide) (T := TX1) (N := 11) rfl rfl rfl rfl (Nat.le_of_ble_eq_true rfl) (by show _ ≤ (d + 12); omega) (by show _ ≤ 80 * (d + 12); omega) (by show _ ≤ c; omega) (by show _ ≤ 7 * c; omega) dX0_years_27 (fun rv_ M_ hp_ => ?_)
      obtain ⟨rfl, m1, rfl, hst, hfr⟩ := hp_
      have hr1 : m1 XNrow = mi XNrow := hfr.F (by decide) (by decide)
      have hY1 := hY.keep hst hfr
      have hX1 := hX.keep hfr
      show au_Go G _ _ 30 [some (au_r XO), some (au_i sd), some (au_i z), none, none] [] (m1, si, hi, sl, r, nx) 0 0
      refine au_aload_n dX0_years_30 rfl ?_
      refine au_getf (C := RX0) (T := TX0) (N := 15) in_X0 (by decide) rfl 0 (by decide) rfl rfl q245 rfl dX0_years_31 (v := au_r XN) (congrArg au_q (fx_XO_0 hF)) ?_
      refine au_getN (C := RX1) (T := TX1) (N := 11) in_X1 (by decide) rfl 1 (by decide) rfl rfl q189 rfl dX0_years_34 (v := au_r XNrow) (congrArg au_q (fx_XN_1 hF)) ?_
      refine au_iconst dX0_years_37 rfl rfl ?_
      refine au_iload_n dX0_years_38 rfl ?_
      refine au_iconst dX0_years_39 rfl rfl ?_
      refine au_imul dX0_years_40 (by omega) (by omega) ?_
      refine au_sipush dX0_years_41 rfl rfl ?_
      refine au_iadd dX0_years_44 (by omega) (by omega) ?_
      refine au_iast dX0_years_45 rfl (by decide) (by omega) (by show _ < ((204 : Nat) : Int); omega) (M' := ((au_up m1 XNrow 1 ((sd * 2) + 181)), si, hi, sl, r, nx)) (au_wv_m (au_reg_row hq _)) ?_
      rw [au_up_row m1 XNrow 1 ((sd * 2) + 181)]
      refine au_iconst dX0_years_46 rfl rfl ?_
      refine au_istore_n dX0_years_47 (show 3 < 5 by decide) ?_
      show au_Go G _ _ 48 [some (au_r XO), some (au_i sd), some (au_i z), some (au_i 0), none] [] ((rowS m1 XNrow (up1 (m1 XNrow) 1 ((sd * 2) + 181))), si, hi, sl, r, nx) 0 0
      have hcc := hc ⟨⟨by omega, by omega⟩, by omega, by omega⟩
      rw [hr1]
      have hl : ∀ (f : Nat) (e : Nat) (Rj : Int → Int) (j : Int) (x4 : Option au_V) (wj : Nat) (sj : au_A → Int → Int) (xj : Nat), j + (e : Int) = z → RowOK Rj n B → wj + (yrN n B Pr Lw e Rj).2 ≤ c → (yrN n B Pr Lw e Rj).1 = (yrN n B Pr Lw z.toNat (up1 (mi XNrow) 1 (sd * 2 + 181))).1 → nx ≤ xj → e < f → 0 ≤ j → au_Go G (yX0_years.cls, cX0_years, 5, (some .int), au_rm (d + 12) c (7 * c), yX0_years.name) (au_QM G (au_rm (d + 12) c (7 * c)) (PoX hi sl r nx mi (some (au_i (yrY Lw (n, B, Pr, Co, mi XNrow, ns, S) sd z).1)) (yrY Lw (n, B, Pr, Co, mi XNrow, ns, S) sd z).2)) 48 [some (au_r XO), some (au_i sd), some (au_i z), some (au_i j), x4] [] (rowS m1 XNrow Rj, sj, hi, sl, r, xj) wj (7 * wj) := by
        intro f
        induction f with
        | zero => intro e Rj j x4 wj sj xj h1 hRj hw hv hn3 hf hj; exfalso; omega
        | succ f ih =>
          intro e Rj j x4 wj sj xj h1 hRj hw hv hn3 hf hj
          refine au_iload_n dX0_years_48 rfl ?_
          refine au_iload_n dX0_years_49 rfl ?_
          refine au_icmp_ge (tgt := 86) dX0_years_50 (by decide) (fun c50 => ?_) (fun c50 => ?_)
          · have he : e = 0 := by omega
            subst he
            have hRv : Rj = _ := hv
            refine au_aload_n dX0_years_86 rfl ?_
            refine au_getf (C := RX0) (T := TX0) (N := 15) in_X0 (by decide) rfl 0 (by decide) rfl rfl q245 rfl dX0_years_87 (v := au_r XN) (congrArg au_q (fx_XO_0 hF)) ?_
            refine au_getN (C := RX1) (T := TX1) (N := 11) in_X1 (by decide) rfl 1 (by decide) rfl rfl q189 rfl dX0_years_90 (v := au_r XNrow) (congrArg au_q (fx_XN_1 hF)) ?_
            refine au_iconst dX0_years_93 rfl rfl ?_
            refine au_iald dX0_years_94 rfl (by omega) (by show _ < ((204 : Nat) : Int); omega) (v := au_i (Rj 0)) (congrArg au_i ((au_gi_m (show au_reg XNrow _ = 0 from au_reg_row hq _)).trans (show rowS m1 XNrow Rj XNrow 0 = Rj 0 from (rowS_self _ _ _ _).trans (rfl)))) ?_
            refine au_iret dX0_years_95 rfl rfl (by show _ ≤ c; omega) (by show _ ≤ 7 * c; omega) ?_
            rw [hRv]
            exact PoX.of (show yrY Lw (n, B, Pr, Co, mi XNrow, ns, S) sd z = _ from if_pos ⟨⟨by omega, by omega⟩, by omega, by omega⟩) hn3 (hY1.row _) (hfr.X.tr (FrX.row _ _)) rfl
          · obtain ⟨e, rfl⟩ : ∃ e', e = e' + 1 := ⟨e - 1, by omega⟩
            rw [yrN_s e] at hw hv
            have hw : wj + (_ + _) ≤ c := hw
            have hok := hpF_ok (Pr := Pr) (Lw := Lw) hB hRj.drF (x := Rj 1) hRj.1.2.1.1
            refine au_aload_n dX0_years_53 rfl ?_
            refine au_getf (C := RX0) (T := TX0) (N := 15) in_X0 (by decide) rfl 0 (by decide) rfl rfl q245 rfl dX0_years_54 (v := au_r XN) (congrArg au_q (fx_XO_0 hF)) ?_
            refine au_getN (C := RX1) (T := TX1) (N := 11) in_X1 (by decide) rfl 1 (by decide) rfl rfl q189 rfl dX0_years_57 (v := au_r XNrow) (congrArg au_q (fx_XN_1 hF)) ?_
            refine au_iconst dX0_years_60 rfl rfl ?_
            refine au_iald dX0_years_61 rfl (by omega) (by show _ < ((204 : Nat) : Int); omega) (v := au_i (Rj 1)) (congrArg au_i ((au_gi_m (show au_reg XNrow _ = 0 from au_reg_row hq _)).trans (show rowS m1 XNrow Rj XNrow 1 = Rj 1 from (rowS_self _ _ _ _).trans (rfl)))) ?_
            refine au_istore dX0_years_62 (show 4 < 5 by decide) ?_
            show au_Go G _ _ 64 [some (au_r XO), some (au_i sd), some (au_i z), some (au_i j), some (au_i (Rj 1))] [] ((rowS m1 XNrow Rj), sj, hi, sl, r, xj) wj (7 * wj)
            refine au_aload_n dX0_years_64 rfl ?_
            refine au_getf (C := RX0) (T := TX0) (N := 15) in_X0 (by decide) rfl 0 (by decide) rfl rfl q245 rfl dX0_years_65 (v := au_r XN) (congrArg au_q (fx_XO_0 hF)) ?_
            refine au_getN (C := RX1) (T := TX1) (N := 11) in_X1 (by decide) rfl 1 (by decide) rfl rfl q189 rfl dX0_years_68 (v := au_r XNrow) (congrArg au_q (fx_XN_1 hF)) ?_
            refine au_callS (n := 1) (kX0_drawsR G Rj 1003 hq m1 sj hi sl r xj hRj.1.2.1.1 hRj.1.2.1.2) (lw_S q1048 q1049 q130 q1050) (by decide +kernel) rfl rfl rfl (Nat.le_of_ble_eq_true rfl) (by show _ ≤ (d + 12); omega) (by show _ ≤ 80 * (d + 12); omega) (by show _ ≤ c; omega) (by show _ ≤ 7 * c; omega) dX0_years_71 (fun rv_ M_ hp_ => ?_)
            obtain ⟨rfl, rfl⟩ := hp_
            show au_Go G _ _ 74 [some (au_r XO), some (au_i sd), some (au_i z), some (au_i j), some (au_i (Rj 1))] [] ((rowS m1 XNrow (drF Rj)), sj, hi, sl, r, xj) wj (7 * wj)
            refine au_aload_n dX0_years_74 rfl ?_
            refine au_iload dX0_years_75 rfl ?_
            refine au_callV (n := 1) (kX0_happens G d n B Pr Lw (Rj 1) (drF Rj) (hpF n B Pr Lw (Rj 1) (drF Rj)).2 (rowS m1 XNrow (drF Rj)) sj hi sl r xj hF (by omega) (hX1.row 1003 hq _) (rowS_selfF _ _ _) hRj.drF hRj.1.2.1.1 (Nat.le_refl _)) (lw_V q1147 q1149 qs42 q130 q1150) rfl (by decide +kernel) (by decide) (T := TX0) (N := 15) rfl rfl rfl rfl (Nat.le_of_ble_eq_true rfl) (by show _ ≤ (d + 12); omega) (by show _ ≤ 80 * (d + 12); omega) (by show _ ≤ c; omega) (by show _ ≤ 7 * c; omega) dX0_years_77 (fun rv_ M_ hp_ => ?_)
            obtain ⟨rfl, s2, n2, hn2, rfl⟩ := hp_
            rw [rowS_rowS]
            show au_Go G _ _ 80 [some (au_r XO), some (au_i sd), some (au_i z), some (au_i j), some (au_i (Rj 1))] [] ((rowS m1 XNrow (hpF n B Pr Lw (Rj 1) (drF Rj)).1), s2, hi, sl, r, n2) (wj + ((hpF n B Pr Lw (Rj 1) (drF Rj)).2)) ((7 * wj) + (7 * (hpF n B Pr Lw (Rj 1) (drF Rj)).2))
            refine au_iinc dX0_years_80 rfl (show 3 < 5 by decide) (by omega) (by omega) (by decide) (by decide) ?_
            show au_Go G _ _ 83 [some (au_r XO), some (au_i sd), some (au_i z), some (au_i (j + 1)), some (au_i (Rj 1))] [] ((rowS m1 XNrow (hpF n B Pr Lw (Rj 1) (drF Rj)).1), s2, hi, sl, r, n2) (wj + ((hpF n B Pr Lw (Rj 1) (drF Rj)).2)) ((7 * wj) + (7 * (hpF n B Pr Lw (Rj 1) (drF Rj)).2))
            refine au_goto (tgt := 48) dX0_years_83 (by decide) ?_
            rw [show 7 * wj + 7 * (hpF n B Pr Lw (Rj 1) (drF Rj)).2 = 7 * (wj + (hpF n B Pr Lw (Rj 1) (drF Rj)).2) by omega]
            exact ih e _ _ _ _ _ _ (by omega) hok.1 (by omega) hv (by omega) (by omega) (by omega)
      exact hl (z.toNat + 1) z.toNat (up1 (mi XNrow) 1 (sd * 2 + 181)) 0 none 0 si nx (by omega) (hR.draw (by omega) (by omega)) (by omega) rfl (Nat.le_refl _) (by omega) (by omega)
    · have c18 := au_b0 c18
      refine au_iconst dX0_years_21 rfl rfl ?_
      refine au_iret dX0_years_22 rfl rfl (by show _ ≤ c; omega) (by show _ ≤ 7 * c; omega) ?_
      first
      | exact PoX.of (show yrY Lw (n, B, Pr, Co, mi XNrow, ns, S) sd z = _ from if_neg (fun q => c8 q.1)) (Nat.le_refl _) hY (FrX.rf mi) rfl
      | exact PoX.of (show yrY Lw (n, B, Pr, Co, mi XNrow, ns, S) sd z = _ from if_neg (fun q => c18 q.2)) (Nat.le_refl _) hY (FrX.rf mi) rfl
