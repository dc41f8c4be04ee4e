/-! A DAY OF A ROW (printed by tools/m50.py) -/
set_option maxRecDepth 100000
set_option maxHeartbeats 4000000

section AUQ2
variable {n : Int} {B Pr : Int → Int} {Lw : au_Lw}
theorem act1_dn0 {s : au_D} {a : Int} (h : ¬ (s.1 (3 + 7 * a + 4) = 2 ∨ waF s.1 a)) (h4 : ¬ s.1 (3 + 7 * a + 4) = 0) (h5 : ¬ dnT B s.1 a = s.1 (3 + 7 * a + 0)) : act1 n B Pr Lw s a = (dnF n B Pr Lw s.1 a, s.2.1, s.2.2 + 1) := by
  rw [act1_dn h h4, if_neg h5, Int.add_zero]
theorem act1_dn1 {s : au_D} {a : Int} (h : ¬ (s.1 (3 + 7 * a + 4) = 2 ∨ waF s.1 a)) (h4 : ¬ s.1 (3 + 7 * a + 4) = 0) (h5 : dnT B s.1 a = s.1 (3 + 7 * a + 0)) : act1 n B Pr Lw s a = (dnF n B Pr Lw s.1 a, s.2.1 + 1, s.2.2 + 1) := by
  rw [act1_dn h h4, if_pos h5]
theorem actN_s {k : Nat} {s t : au_D} (h : actN n B Pr Lw k s = t) : actN n B Pr Lw (k + 1) s = act1 n B Pr Lw t (k : Int) := by
  rw [← h]; rfl
theorem mrg1_y {s : au_D} {a b : Int} (h : mtF s.1 a b) : mrg1 s a b = (mgF s.1 a b, s.2.1 + 1, s.2.2 + 1) := if_pos h
theorem mrg1_n {s : au_D} {a b : Int} (h : ¬ mtF s.1 a b) : mrg1 s a b = s := if_neg h
theorem mrgB_s {k : Nat} {a : Int} {s t : au_D} (h : mrgB a k s = t) : mrgB a (k + 1) s = mrg1 t a (a + 1 + (k : Int)) := by
  rw [← h]; rfl
theorem mrgN_s {m k : Nat} {s t : au_D} (h : mrgN m k s = t) : mrgN m (k + 1) s = mrgB (k : Int) (m - 1 - k) t := by
  rw [← h]; rfl
theorem pasF_w (R : Int → Int) : (pasF n B Pr Lw R).2.2 = (mrgN (R 2).toNat (R 2).toNat (actN n B Pr Lw (R 2).toNat (R, 0, 0))).2.2 := rfl
end AUQ2

theorem kX0_goesUpR (G : au_G) (d : Nat) (n : Int) (B Pr : Int → Int) (Lw : au_Lw) (a : Int) (R : Int → Int) (q : Nat) (hq : q = 1003 ∨ q = 1107) (mi si hi sl : au_A → Int → Int) (r : au_A → Int → Option au_A) (nx : Nat) (hF : Fix r) (hnx : 1126 ≤ nx) (hX : EnX r hi mi d n B Pr Lw) (hR : RowIn R n) (ha : 0 ≤ a) (ha2 : a < R 2) (hbt : 0 ≤ B (R (3 + 7 * a + 2))) : au_Ctr G yX0_goesUp cX0_goesUp 5 none (d + 9) 1 4 [au_r XO, au_r (q, 204, 40), au_i a] (rowS mi (q, 204, 40) R, si, hi, sl, r, nx) (fun rv M' => rv = none ∧ ∃ (sj : au_A → Int → Int) (nx' : Nat), nx ≤ nx' ∧ M' = (rowS mi (q, 204, 40) (upF n B Pr Lw R a), sj, hi, sl, r, nx')) := by
  have h := kX0_goesUp G d n B Pr Lw a q hq (rowS mi (q, 204, 40) R) si hi sl r nx hF hnx (hX.row q hq R) (by rw [rowS_selfF]; exact hR) ha (by rw [rowS_selfF]; exact ha2) (by rw [rowS_selfF]; exact hbt)
  simp only [rowS_selfF, rowS_rowS] at h
  exact h
theorem kX0_comesDownR (G : au_G) (d : Nat) (n : Int) (B Pr : Int → Int) (Lw : au_Lw) (a : Int) (R : Int → Int) (q : Nat) (hq : q = 1003 ∨ q = 1107) (mi si hi sl : au_A → Int → Int) (r : au_A → Int → Option au_A) (nx : Nat) (hF : Fix r) (hnx : 1126 ≤ nx) (hX : EnX r hi mi d n B Pr Lw) (hR : RowIn R n) (ha : 0 ≤ a) (ha2 : a < R 2) (hbd : below B (R (3 + 7 * a + 0)) (R (3 + 7 * a + 2))) : au_Ctr G yX0_comesDown cX0_comesDown 5 (some .boolean) (d + 9) 1 4 [au_r XO, au_r (q, 204, 40), au_i a] (rowS mi (q, 204, 40) R, si, hi, sl, r, nx) (fun rv M' => rv = some (au_i (au_b (dnT B R a = R (3 + 7 * a + 0)))) ∧ ∃ (sj : au_A → Int → Int) (nx' : Nat), nx ≤ nx' ∧ M' = (rowS mi (q, 204, 40) (dnF n B Pr Lw R a), sj, hi, sl, r, nx')) := by
  have h := kX0_comesDown G d n B Pr Lw a q hq (rowS mi (q, 204, 40) R) si hi sl r nx hF hnx (hX.row q hq R) (by rw [rowS_selfF]; exact hR) ha (by rw [rowS_selfF]; exact ha2) (by rw [rowS_selfF]; exact hbd)
  simp only [rowS_selfF, rowS_rowS] at h
  exact h
theorem kX0_passes (G : au_G) (d : Nat) (n : Int) (B Pr : Int → Int) (Lw : au_Lw) (c : Nat) (q : Nat) (hq : q = 1003 ∨ q = 1107) (mi si hi sl : au_A → Int → Int) (r : au_A → Int → Option au_A) (nx : Nat) (hF : Fix r) (hnx : 1126 ≤ nx) (hX : EnX r hi mi d n B Pr Lw) (hR : RowOK (mi (q, 204, 40)) n B) (h0 : (mi (q, 204, 40)) 0 < 9999) (hc : (pasF n B Pr Lw (mi (q, 204, 40))).2.2 ≤ c) : au_Ctr G yX0_passes cX0_passes 5 (some .int) (d + 10) c (4 * c) [au_r XO, au_r (q, 204, 40)] (mi, si, hi, sl, r, nx) (fun rv M' => rv = some (au_i (pasF n B Pr Lw (mi (q, 204, 40))).2.1) ∧ ∃ (sj : au_A → Int → Int) (nx' : Nat), nx ≤ nx' ∧ M' = (rowS mi (q, 204, 40) ((pasF n B Pr Lw (mi (q, 204, 40))).1), sj, hi, sl, r, nx')) := by
  refine au_of (by decide) (Nat.le_of_ble_eq_true rfl) ?_
  obtain ⟨hN, hE, hB, hPr, hP9, tx, hRu, hTx⟩ := id hX
  have hb1 := hB.1
  have hb0 := hB.2.1
  obtain ⟨r2, r2b⟩ := hR.1.2.2.1
  obtain ⟨r0, r0b⟩ := hR.1.1
  have hA1 := actN_kp (Pr := Pr) (Lw := Lw) hB (s := ((mi (q, 204, 40)), 0, 0)) hR ((mi (q, 204, 40)) 2).toNat (by show _ ≤ (mi (q, 204, 40)) 2; omega)
  have hA2 : (actN n B Pr Lw ((mi (q, 204, 40)) 2).toNat ((mi (q, 204, 40)), 0, 0)).1 2 = (mi (q, 204, 40)) 2 := hA1.2.1
  have hm1 : ((((mi (q, 204, 40)) 2).toNat : Nat) : Int) = (actN n B Pr Lw ((mi (q, 204, 40)) 2).toNat ((mi (q, 204, 40)), 0, 0)).1 2 := by rw [hA2]; omega
  have hM1 := mrgN_kp (n := n) (B := B) hA1.1 hm1 ((mi (q, 204, 40)) 2).toNat (Nat.le_refl _)
  have hAc : (actN n B Pr Lw ((mi (q, 204, 40)) 2).toNat ((mi (q, 204, 40)), 0, 0)).2.2 ≤ c := Nat.le_trans hM1.2.2.2.1 hc
  have hO : ∀ (f : Nat) (k : Nat) (Rk : Int → Int) (dk : Int) (wk : Nat) (x4 : Option au_V) (sk_ : au_A → Int → Int) (nk : Nat), (k : Int) ≤ (mi (q, 204, 40)) 2 → mrgN ((mi (q, 204, 40)) 2).toNat k (actN n B Pr Lw ((mi (q, 204, 40)) 2).toNat ((mi (q, 204, 40)), 0, 0)) = (Rk, dk, wk) → nx ≤ nk → 10 - k < f → au_Go G (yX0_passes.cls, cX0_passes, 5, (some .int), au_rm (d + 10) c (4 * c), yX0_passes.name) (au_QM G (au_rm (d + 10) c (4 * c)) (fun rv M' => rv = some (au_i (pasF n B Pr Lw (mi (q, 204, 40))).2.1) ∧ ∃ (sj : au_A → Int → Int) (nx' : Nat), nx ≤ nx' ∧ M' = (rowS mi (q, 204, 40) ((pasF n B Pr Lw (mi (q, 204, 40))).1), sj, hi, sl, r, nx'))) 72 [some (au_r XO), some (au_r (q, 204, 40)), some (au_i dk), some (au_i (k : Int)), x4] [] (rowS mi (q, 204, 40) Rk, sk_, hi, sl, r, nk) wk (4 * wk) := by
    intro f
    induction f with
    | zero => intro k Rk dk wk x4 sk_ nk hk hs hn hf; exfalso; omega
    | succ f ih =>
      intro k Rk dk wk x4 sk_ nk hk hs hn hf
      have hkp := mrgN_kp (n := n) (B := B) hA1.1 hm1 k (by omega)
      rw [hs] at hkp
      have okK : RowOK Rk n B := hkp.1
      have eK : Rk 2 = (mi (q, 204, 40)) 2 := hkp.2.1.trans hA2
      have eK0 : Rk 0 = (mi (q, 204, 40)) 0 := hkp.2.2.1.trans hA1.2.2.1
      have hu2 := mrgN_und (n := n) (B := B) hA1.1 hm1 k (by omega)
      rw [hs] at hu2
      have hu2 : wk + undN Rk 10 ≤ (actN n B Pr Lw ((mi (q, 204, 40)) 2).toNat ((mi (q, 204, 40)), 0, 0)).2.2 + undN (actN n B Pr Lw ((mi (q, 204, 40)) 2).toNat ((mi (q, 204, 40)), 0, 0)).1 10 := hu2
      have hu3 := (actN_und (Pr := Pr) (Lw := Lw) hB (s := ((mi (q, 204, 40)), 0, 0)) hR ((mi (q, 204, 40)) 2).toNat (by show _ ≤ (mi (q, 204, 40)) 2; omega)).1
      have hu3 : (actN n B Pr Lw ((mi (q, 204, 40)) 2).toNat ((mi (q, 204, 40)), 0, 0)).2.2 ≤ 0 + ((mi (q, 204, 40)) 2).toNat := hu3
      have hu4 := undN_bd (actN n B Pr Lw ((mi (q, 204, 40)) 2).toNat ((mi (q, 204, 40)), 0, 0)).1 10
      have hkw : wk ≤ c := by
        have h := mrgN_le (n := n) (B := B) hA1.1 hm1 (k := k) (j := ((mi (q, 204, 40)) 2).toNat) (by omega) (Nat.le_refl _)
        rw [hs] at h
        exact Nat.le_trans h hc
      refine au_iload_n dX0_passes_72 rfl ?_
      refine au_aload_n dX0_passes_73 rfl ?_
      refine au_iconst dX0_passes_74 rfl rfl ?_
      refine au_iald dX0_passes_75 rfl (by omega) (by show _ < ((204 : Nat) : Int); omega) (v := au_i (Rk 2)) (congrArg au_i ((au_gi_m (au_reg_row hq _)).trans ((rowS_self _ _ _ _).trans (rfl)))) ?_
      refine au_icmp_ge (tgt := 127) dX0_passes_76 (by decide) (fun c76 => ?_) (fun c76 => ?_)
      · have hkm : k = ((mi (q, 204, 40)) 2).toNat := by omega
        subst hkm
        have e1 : pasF n B Pr Lw (mi (q, 204, 40)) = (up1 Rk 0 (Rk 0 + 1), dk, wk) := by
          unfold pasF
          simp only [hs]
        refine au_aload_n dX0_passes_127 rfl ?_
        refine au_iconst dX0_passes_128 rfl rfl ?_
        refine au_dup2 dX0_passes_129 rfl rfl ?_
        refine au_iald dX0_passes_130 rfl (by omega) (by show _ < ((204 : Nat) : Int); omega) (v := au_i (Rk 0)) (congrArg au_i ((au_gi_m (au_reg_row hq _)).trans ((rowS_self _ _ _ _).trans (rfl)))) ?_
        refine au_iconst dX0_passes_131 rfl rfl ?_
        refine au_iadd dX0_passes_132 (by omega) (by omega) ?_
        refine au_iast dX0_passes_133 rfl (by show 1000 ≤ _; omega) (by omega) (by show _ < ((204 : Nat) : Int); omega) (M' := ((au_up (rowS mi (q, 204, 40) Rk) (q, 204, 40) 0 ((Rk 0) + 1)), sk_, hi, sl, r, nk)) (au_wv_m (au_reg_row hq _)) ?_
        rw [au_up_row (rowS mi (q, 204, 40) Rk) (q, 204, 40) 0 ((Rk 0) + 1), rowS_selfF, rowS_rowS]
        refine au_iload_n dX0_passes_134 rfl ?_
        exact au_iret dX0_passes_135 rfl rfl (by show _ ≤ c; omega) (by show _ ≤ 4 * c; omega) (⟨by rw [e1], sk_, nk, by omega, by rw [e1]⟩)
      · refine au_iload_n dX0_passes_79 rfl ?_
        refine au_iconst dX0_passes_80 rfl rfl ?_
        refine au_iadd dX0_passes_81 (by omega) (by omega) ?_
        refine au_istore dX0_passes_82 (show 4 < 5 by decide) ?_
        show au_Go G _ _ 84 [some (au_r XO), some (au_r (q, 204, 40)), some (au_i dk), some (au_i (k : Int)), some (au_i ((k : Int) + 1))] [] ((rowS mi (q, 204, 40) Rk), sk_, hi, sl, r, nk) wk (4 * wk)
        have hkc : (mrgB (k : Int) (((mi (q, 204, 40)) 2).toNat - 1 - k) (Rk, dk, wk)).2.2 ≤ c := by
          have h := mrgN_le (n := n) (B := B) hA1.1 hm1 (k := k + 1) (j := ((mi (q, 204, 40)) 2).toNat) (by omega) (Nat.le_refl _)
          rw [mrgN_s hs] at h
          exact Nat.le_trans h hc
        have hIn : ∀ (g : Nat) (e : Nat) (Ri : Int → Int) (di : Int) (wi : Nat) (sb : au_A → Int → Int) (nb : Nat), (k : Int) + 1 + (e : Int) ≤ (mi (q, 204, 40)) 2 → mrgB (k : Int) e (Rk, dk, wk) = (Ri, di, wi) → nx ≤ nb → 10 - e < g → au_Go G (yX0_passes.cls, cX0_passes, 5, (some .int), au_rm (d + 10) c (4 * c), yX0_passes.name) (au_QM G (au_rm (d + 10) c (4 * c)) (fun rv M' => rv = some (au_i (pasF n B Pr Lw (mi (q, 204, 40))).2.1) ∧ ∃ (sj : au_A → Int → Int) (nx' : Nat), nx ≤ nx' ∧ M' = (rowS mi (q, 204, 40) ((pasF n B Pr Lw (mi (q, 204, 40))).1), sj, hi, sl, r, nx'))) 84 [some (au_r XO), some (au_r (q, 204, 40)), some (au_i di), some (au_i (k : Int)), some (au_i ((k : Int) + 1 + (e : Int)))] [] (rowS mi (q, 204, 40) Ri, sb, hi, sl, r, nb) wi (4 * wi) := by
          intro g
          induction g with
          | zero => intro e Ri di wi sb nb he hI hn2 hg; exfalso; omega
          | succ g ihI =>
            intro e Ri di wi sb nb he hI hn2 hg
            have hip := mrgB_kp (n := n) (B := B) (s := (Rk, dk, wk)) okK (a := (k : Int)) (by omega) e (by show _ ≤ Rk 2; omega)
            rw [hI] at hip
            have okI : RowOK Ri n B := hip.1
            have eI : Ri 2 = (mi (q, 204, 40)) 2 := hip.2.1.trans eK
            have hAB := (hA1.tr hkp).tr hip
            have hd0 : 0 ≤ di := hAB.2.2.2.2.1
            have hd1 : di + ((0 : Nat) : Int) ≤ 0 + (wi : Int) := hAB.2.2.2.2.2
            have hu := mrgB_und (n := n) (B := B) (s := (Rk, dk, wk)) okK (a := (k : Int)) (by omega) e (by show _ ≤ Rk 2; omega)
            rw [hI] at hu
            have hu : wi + undN Ri 10 ≤ wk + undN Rk 10 := hu
            have hwc : wi ≤ c := by
              have h := mrgB_le (n := n) (B := B) (s := (Rk, dk, wk)) okK (a := (k : Int)) (by omega) (k := e) (m := ((mi (q, 204, 40)) 2).toNat - 1 - k) (by omega) (by show _ ≤ Rk 2; omega)
              rw [hI] at h
              exact Nat.le_trans h hkc
            refine au_iload dX0_passes_84 rfl ?_
            refine au_aload_n dX0_passes_86 rfl ?_
            refine au_iconst dX0_passes_87 rfl rfl ?_
            refine au_iald dX0_passes_88 rfl (by omega) (by show _ < ((204 : Nat) : Int); omega) (v := au_i (Ri 2)) (congrArg au_i ((au_gi_m (au_reg_row hq _)).trans ((rowS_self _ _ _ _).trans (rfl)))) ?_
            refine au_icmp_ge (tgt := 121) dX0_passes_89 (by decide) (fun c89 => ?_) (fun c89 => ?_)
            · refine au_iinc dX0_passes_121 rfl (show 3 < 5 by decide) (by omega) (by omega) (by decide) (by decide) ?_
              show au_Go G _ _ 124 [some (au_r XO), some (au_r (q, 204, 40)), some (au_i di), some (au_i ((k : Int) + 1)), some (au_i ((k : Int) + 1 + (e : Int)))] [] ((rowS mi (q, 204, 40) Ri), sb, hi, sl, r, nb) wi (4 * wi)
              refine au_goto (tgt := 72) dX0_passes_124 (by decide) ?_
              have hei : e = ((mi (q, 204, 40)) 2).toNat - 1 - k := by omega
              exact ih (k + 1) _ _ _ _ _ _ (by omega) ((mrgN_s hs).trans (by rw [← hei]; exact hI)) (by omega) (by omega)
            · have hle := mrgB_le (n := n) (B := B) (s := (Rk, dk, wk)) okK (a := (k : Int)) (by omega) (k := e + 1) (m := ((mi (q, 204, 40)) 2).toNat - 1 - k) (by omega) (by show _ ≤ Rk 2; omega)
              rw [mrgB_s hI] at hle
              refine au_aload_n dX0_passes_92 rfl ?_
              refine au_iload_n dX0_passes_93 rfl ?_
              refine au_iload dX0_passes_94 rfl ?_
              refine au_callSp (n := 3) (kX0_doMeetR G (k : Int) ((k : Int) + 1 + (e : Int)) Ri q hq mi sb hi sl r nb (by omega) (by omega) (by omega) (by omega)) (lw_S q1063 q1064 q130 q1065) (by decide +kernel) rfl rfl rfl (Nat.le_of_ble_eq_true rfl) (by show _ ≤ (d + 10); omega) (by show _ ≤ 80 * (d + 10); omega) (by show _ ≤ c; omega) (by show _ ≤ 4 * c; omega) dX0_passes_96 ?_
              refine au_if_ne (tgt := 105) dX0_passes_99 (by decide) (fun c99 => ?_) (fun c99 => ?_)
              · have c99 := au_b1 c99
                rw [mrg1_y (s := (Ri, di, wi)) c99] at hle
                have hle : wi + 1 ≤ _ := hle
                refine au_aload_n dX0_passes_105 rfl ?_
                refine au_iload_n dX0_passes_106 rfl ?_
                refine au_iload dX0_passes_107 rfl ?_
                refine au_callS (n := 3) (kX0_mergesR G (k : Int) ((k : Int) + 1 + (e : Int)) Ri q hq mi sb hi sl r nb (by omega) (by omega) (by omega) (by omega) okI.1.2.2.2.1.1 okI.1.2.2.2.1.2 (okI.1.2.2.2.2 _ (by omega) (by omega)).2.2.2.1 (okI.1.2.2.2.2 _ (by omega) (by omega)).2.2.2.1) (lw_S q1066 q1067 q130 q1068) (by decide +kernel) rfl rfl rfl (Nat.le_of_ble_eq_true rfl) (by show _ ≤ (d + 10); omega) (by show _ ≤ 80 * (d + 10); omega) (by show _ ≤ c; omega) (by show _ ≤ 4 * c; omega) dX0_passes_109 (fun rv_ M_ hp_ => ?_)
                obtain ⟨rfl, sj1_109, rfl⟩ := hp_
                show au_Go G _ _ 112 [some (au_r XO), some (au_r (q, 204, 40)), some (au_i di), some (au_i (k : Int)), some (au_i ((k : Int) + 1 + (e : Int)))] [] ((rowS mi (q, 204, 40) (mgF Ri (k : Int) ((k : Int) + 1 + (e : Int)))), sj1_109, hi, sl, r, nb + 1) (wi + 1) ((4 * wi) + 4)
                refine au_iinc dX0_passes_112 rfl (show 2 < 5 by decide) (by omega) (by omega) (by decide) (by decide) ?_
                show au_Go G _ _ 115 [some (au_r XO), some (au_r (q, 204, 40)), some (au_i (di + 1)), some (au_i (k : Int)), some (au_i ((k : Int) + 1 + (e : Int)))] [] ((rowS mi (q, 204, 40) (mgF Ri (k : Int) ((k : Int) + 1 + (e : Int)))), sj1_109, hi, sl, r, nb + 1) (wi + 1) ((4 * wi) + 4)
                refine au_iinc dX0_passes_115 rfl (show 4 < 5 by decide) (by omega) (by omega) (by decide) (by decide) ?_
                show au_Go G _ _ 118 [some (au_r XO), some (au_r (q, 204, 40)), some (au_i (di + 1)), some (au_i (k : Int)), some (au_i (((k : Int) + 1 + (e : Int)) + 1))] [] ((rowS mi (q, 204, 40) (mgF Ri (k : Int) ((k : Int) + 1 + (e : Int)))), sj1_109, hi, sl, r, nb + 1) (wi + 1) ((4 * wi) + 4)
                refine au_goto (tgt := 84) dX0_passes_118 (by decide) ?_
                rw [show 4 * wi + 4 = 4 * (wi + 1) by omega]
                exact ihI (e + 1) _ _ _ _ _ (by omega) ((mrgB_s hI).trans (mrg1_y (s := (Ri, di, wi)) c99)) (by omega) (by omega)
              · have c99 := au_b0 c99
                refine au_goto (tgt := 115) dX0_passes_102 (by decide) ?_
                refine au_iinc dX0_passes_115 rfl (show 4 < 5 by decide) (by omega) (by omega) (by decide) (by decide) ?_
                show au_Go G _ _ 118 [some (au_r XO), some (au_r (q, 204, 40)), some (au_i di), some (au_i (k : Int)), some (au_i (((k : Int) + 1 + (e : Int)) + 1))] [] ((rowS mi (q, 204, 40) Ri), sb, hi, sl, r, nb) wi (4 * wi)
                refine au_goto (tgt := 84) dX0_passes_118 (by decide) ?_
                exact ihI (e + 1) _ _ _ _ _ (by omega) ((mrgB_s hI).trans (mrg1_n (s := (Ri, di, wi)) c99)) (by omega) (by omega)
        have hIn0 := hIn 11 0 Rk dk wk sk_ nk (by omega) rfl (by omega) (by omega)
        rw [show (k : Int) + 1 + ((0 : Nat) : Int) = (k : Int) + 1 by omega] at hIn0
        exact hIn0
  show au_Go G _ _ 0 [some (au_r XO), some (au_r (q, 204, 40)), none, none, none] [] (mi, si, hi, sl, r, nx) 0 0
  refine au_iconst dX0_passes_0 rfl rfl ?_
  refine au_istore_n dX0_passes_1 (show 2 < 5 by decide) ?_
  show au_Go G _ _ 2 [some (au_r XO), some (au_r (q, 204, 40)), some (au_i 0), none, none] [] (mi, si, hi, sl, r, nx) 0 0
  refine au_iconst dX0_passes_2 rfl rfl ?_
  refine au_istore_n dX0_passes_3 (show 3 < 5 by decide) ?_
  show au_Go G _ _ 4 [some (au_r XO), some (au_r (q, 204, 40)), some (au_i 0), some (au_i 0), none] [] (mi, si, hi, sl, r, nx) 0 0
  have hA : ∀ (f : Nat) (j : Nat) (Rj : Int → Int) (dj : Int) (wj : Nat) (sj : au_A → Int → Int) (nj : Nat), (j : Int) ≤ (mi (q, 204, 40)) 2 → actN n B Pr Lw j ((mi (q, 204, 40)), 0, 0) = (Rj, dj, wj) → nx ≤ nj → 10 - j < f → au_Go G (yX0_passes.cls, cX0_passes, 5, (some .int), au_rm (d + 10) c (4 * c), yX0_passes.name) (au_QM G (au_rm (d + 10) c (4 * c)) (fun rv M' => rv = some (au_i (pasF n B Pr Lw (mi (q, 204, 40))).2.1) ∧ ∃ (sj : au_A → Int → Int) (nx' : Nat), nx ≤ nx' ∧ M' = (rowS mi (q, 204, 40) ((pasF n B Pr Lw (mi (q, 204, 40))).1), sj, hi, sl, r, nx'))) 4 [some (au_r XO), some (au_r (q, 204, 40)), some (au_i dj), some (au_i (j : Int)), none] [] (rowS mi (q, 204, 40) Rj, sj, hi, sl, r, nj) wj (4 * wj) := by
    intro f
    induction f with
    | zero => intro j Rj dj wj sj nj hj hs hn hf; exfalso; omega
    | succ f ih =>
      intro j Rj dj wj sj nj hj hs hn hf
      have hkp := actN_kp (Pr := Pr) (Lw := Lw) hB (s := ((mi (q, 204, 40)), 0, 0)) hR j hj
      rw [hs] at hkp
      have okJ : RowOK Rj n B := hkp.1
      have eJ : Rj 2 = (mi (q, 204, 40)) 2 := hkp.2.1
      have hjw := actN_le (Pr := Pr) (Lw := Lw) hB (s := ((mi (q, 204, 40)), 0, 0)) hR (k := j) (m := ((mi (q, 204, 40)) 2).toNat) (by omega) (by show _ ≤ (mi (q, 204, 40)) 2; omega)
      rw [hs] at hjw
      have hjw : wj ≤ c := Nat.le_trans hjw hAc
      have hd0 : 0 ≤ dj := hkp.2.2.2.2.1
      have hd1 : dj + ((0 : Nat) : Int) ≤ 0 + (wj : Int) := hkp.2.2.2.2.2
      have hu := (actN_und (Pr := Pr) (Lw := Lw) hB (s := ((mi (q, 204, 40)), 0, 0)) hR j hj).1
      rw [hs] at hu
      have hu : wj ≤ 0 + j := hu
      refine au_iload_n dX0_passes_4 rfl ?_
      refine au_aload_n dX0_passes_5 rfl ?_
      refine au_iconst dX0_passes_6 rfl rfl ?_
      refine au_iald dX0_passes_7 rfl (by omega) (by show _ < ((204 : Nat) : Int); omega) (v := au_i (Rj 2)) (congrArg au_i ((au_gi_m (au_reg_row hq _)).trans ((rowS_self _ _ _ _).trans (rfl)))) ?_
      refine au_icmp_ge (tgt := 70) dX0_passes_8 (by decide) (fun c8 => ?_) (fun c8 => ?_)
      · refine au_iconst dX0_passes_70 rfl rfl ?_
        refine au_istore_n dX0_passes_71 (show 3 < 5 by decide) ?_
        show au_Go G _ _ 72 [some (au_r XO), some (au_r (q, 204, 40)), some (au_i dj), some (au_i 0), none] [] ((rowS mi (q, 204, 40) Rj), sj, hi, sl, r, nj) wj (4 * wj)
        have hjm : j = ((mi (q, 204, 40)) 2).toNat := by omega
        subst hjm
        exact hO 11 0 _ _ _ none _ _ (by omega) hs hn (by omega)
      · have hj2 : (j : Int) < Rj 2 := by omega
        obtain ⟨f0, t0, p0, s0, w0, g0⟩ := okJ.1.2.2.2.2 (j : Int) (by omega) hj2
        obtain ⟨bel0, bel1, bel2⟩ := okJ.2 (j : Int) (by omega) hj2
        have hle := actN_le (Pr := Pr) (Lw := Lw) hB (s := ((mi (q, 204, 40)), 0, 0)) hR (k := j + 1) (m := ((mi (q, 204, 40)) 2).toNat) (by omega) (by show _ ≤ (mi (q, 204, 40)) 2; omega)
        rw [actN_s hs] at hle
        refine au_aload_n dX0_passes_11 rfl ?_
        refine au_iload_n dX0_passes_12 rfl ?_
        refine au_iconst dX0_passes_13 rfl rfl ?_
        refine au_callSp (n := 2) (kX0_at G (j : Int) 4 ((rowS mi (q, 204, 40) Rj), sj, hi, sl, r, nj) (by omega) (by omega) (by omega) (by omega)) (lw_S q898 q899 q130 q900) (by decide +kernel) rfl rfl rfl (Nat.le_of_ble_eq_true rfl) (by show _ ≤ (d + 10); omega) (by show _ ≤ 80 * (d + 10); omega) (by show _ ≤ c; omega) (by show _ ≤ 4 * c; omega) dX0_passes_14 ?_
        refine au_iald dX0_passes_17 rfl (by omega) (by show _ < ((204 : Nat) : Int); omega) (v := au_i (Rj (3 + 7 * (j : Int) + 4))) (congrArg au_i ((au_gi_m (au_reg_row hq _)).trans ((rowS_self _ _ _ _).trans (rfl)))) ?_
        refine au_iconst dX0_passes_18 rfl rfl ?_
        refine au_icmp_eq (tgt := 64) dX0_passes_19 (by decide) (fun c19 => ?_) (fun c19 => ?_)
        · refine au_iinc dX0_passes_64 rfl (show 3 < 5 by decide) (by omega) (by omega) (by decide) (by decide) ?_
          show au_Go G _ _ 67 [some (au_r XO), some (au_r (q, 204, 40)), some (au_i dj), some (au_i ((j : Int) + 1)), none] [] ((rowS mi (q, 204, 40) Rj), sj, hi, sl, r, nj) wj (4 * wj)
          refine au_goto (tgt := 4) dX0_passes_67 (by decide) ?_
          exact ih (j + 1) _ _ _ _ _ (by omega) ((actN_s hs).trans (act1_skip (s := (Rj, dj, wj)) (Or.inl c19))) (by omega) (by omega)
        · refine au_aload_n dX0_passes_22 rfl ?_
          refine au_iload_n dX0_passes_23 rfl ?_
          refine au_callSp (n := 2) (kX0_waitsR G (j : Int) Rj q hq mi sj hi sl r nj (by omega) (by omega) ⟨p0.1, by omega⟩) (lw_S q901 q902 q130 q903) (by decide +kernel) rfl rfl rfl (Nat.le_of_ble_eq_true rfl) (by show _ ≤ (d + 10); omega) (by show _ ≤ 80 * (d + 10); omega) (by show _ ≤ c; omega) (by show _ ≤ 4 * c; omega) dX0_passes_24 ?_
          refine au_if_eq (tgt := 33) dX0_passes_27 (by decide) (fun c27 => ?_) (fun c27 => ?_)
          · have c27 := au_b0 c27
            refine au_aload_n dX0_passes_33 rfl ?_
            refine au_iload_n dX0_passes_34 rfl ?_
            refine au_iconst dX0_passes_35 rfl rfl ?_
            refine au_callSp (n := 2) (kX0_at G (j : Int) 4 ((rowS mi (q, 204, 40) Rj), sj, hi, sl, r, nj) (by omega) (by omega) (by omega) (by omega)) (lw_S q898 q899 q130 q900) (by decide +kernel) rfl rfl rfl (Nat.le_of_ble_eq_true rfl) (by show _ ≤ (d + 10); omega) (by show _ ≤ 80 * (d + 10); omega) (by show _ ≤ c; omega) (by show _ ≤ 4 * c; omega) dX0_passes_36 ?_
            refine au_iald dX0_passes_39 rfl (by omega) (by show _ < ((204 : Nat) : Int); omega) (v := au_i (Rj (3 + 7 * (j : Int) + 4))) (congrArg au_i ((au_gi_m (au_reg_row hq _)).trans ((rowS_self _ _ _ _).trans (rfl)))) ?_
            refine au_if_ne (tgt := 52) dX0_passes_40 (by decide) (fun c40 => ?_) (fun c40 => ?_)
            · rw [act1_dn (s := (Rj, dj, wj)) (fun z => z.elim c19 c27) c40] at hle
              have hle : wj + 1 ≤ _ := hle
              refine au_aload_n dX0_passes_52 rfl ?_
              refine au_aload_n dX0_passes_53 rfl ?_
              refine au_iload_n dX0_passes_54 rfl ?_
              refine au_callV (n := 2) (kX0_comesDownR G d n B Pr Lw (j : Int) Rj q hq mi sj hi sl r nj hF (by omega) hX okJ.1 (by omega) hj2 (bel2 (by omega))) (lw_V q1055 q1057 qs33 q130 q1058) rfl (by decide +kernel) (by decide) (T := TX0) (N := 15) rfl rfl rfl rfl (Nat.le_of_ble_eq_true rfl) (by show _ ≤ (d + 10); omega) (by show _ ≤ 80 * (d + 10); omega) (by show _ ≤ c; omega) (by show _ ≤ 4 * c; omega) dX0_passes_55 (fun rv_ M_ hp_ => ?_)
              obtain ⟨rfl, sj1_55, nx1_55, hnx1_55, rfl⟩ := hp_
              show au_Go G _ _ 58 [some (au_r XO), some (au_r (q, 204, 40)), some (au_i dj), some (au_i (j : Int)), none] [au_i (au_b (dnT B Rj (j : Int) = Rj (3 + 7 * (j : Int) + 0)))] ((rowS mi (q, 204, 40) (dnF n B Pr Lw Rj (j : Int))), sj1_55, hi, sl, r, nx1_55) (wj + 1) ((4 * wj) + 4)
              refine au_if_eq (tgt := 64) dX0_passes_58 (by decide) (fun c58 => ?_) (fun c58 => ?_)
              · have c58 := au_b0 c58
                refine au_iinc dX0_passes_64 rfl (show 3 < 5 by decide) (by omega) (by omega) (by decide) (by decide) ?_
                show au_Go G _ _ 67 [some (au_r XO), some (au_r (q, 204, 40)), some (au_i dj), some (au_i ((j : Int) + 1)), none] [] ((rowS mi (q, 204, 40) (dnF n B Pr Lw Rj (j : Int))), sj1_55, hi, sl, r, nx1_55) (wj + 1) ((4 * wj) + 4)
                refine au_goto (tgt := 4) dX0_passes_67 (by decide) ?_
                rw [show 4 * wj + 4 = 4 * (wj + 1) by omega]
                exact ih (j + 1) _ _ _ _ _ (by omega) ((actN_s hs).trans (act1_dn0 (s := (Rj, dj, wj)) (fun z => z.elim c19 c27) c40 c58)) (by omega) (by omega)
              · have c58 := au_b1 c58
                refine au_iinc dX0_passes_61 rfl (show 2 < 5 by decide) (by omega) (by omega) (by decide) (by decide) ?_
                show au_Go G _ _ 64 [some (au_r XO), some (au_r (q, 204, 40)), some (au_i (dj + 1)), some (au_i (j : Int)), none] [] ((rowS mi (q, 204, 40) (dnF n B Pr Lw Rj (j : Int))), sj1_55, hi, sl, r, nx1_55) (wj + 1) ((4 * wj) + 4)
                refine au_iinc dX0_passes_64 rfl (show 3 < 5 by decide) (by omega) (by omega) (by decide) (by decide) ?_
                show au_Go G _ _ 67 [some (au_r XO), some (au_r (q, 204, 40)), some (au_i (dj + 1)), some (au_i ((j : Int) + 1)), none] [] ((rowS mi (q, 204, 40) (dnF n B Pr Lw Rj (j : Int))), sj1_55, hi, sl, r, nx1_55) (wj + 1) ((4 * wj) + 4)
                refine au_goto (tgt := 4) dX0_passes_67 (by decide) ?_
                rw [show 4 * wj + 4 = 4 * (wj + 1) by omega]
                exact ih (j + 1) _ _ _ _ _ (by omega) ((actN_s hs).trans (act1_dn1 (s := (Rj, dj, wj)) (fun z => z.elim c19 c27) c40 c58)) (by omega) (by omega)
            · rw [act1_up (s := (Rj, dj, wj)) (fun z => z.elim c19 c27) c40] at hle
              have hle : wj + 1 ≤ _ := hle
              refine au_aload_n dX0_passes_43 rfl ?_
              refine au_aload_n dX0_passes_44 rfl ?_
              refine au_iload_n dX0_passes_45 rfl ?_
              refine au_callV (n := 2) (kX0_goesUpR G d n B Pr Lw (j : Int) Rj q hq mi sj hi sl r nj hF (by omega) hX okJ.1 (by omega) hj2 (below_boss hB p0.1 p0.2 t0.1 (bel1 c40)).1) (lw_V q904 q906 qs26 q130 q907) rfl (by decide +kernel) (by decide) (T := TX0) (N := 15) rfl rfl rfl rfl (Nat.le_of_ble_eq_true rfl) (by show _ ≤ (d + 10); omega) (by show _ ≤ 80 * (d + 10); omega) (by show _ ≤ c; omega) (by show _ ≤ 4 * c; omega) dX0_passes_46 (fun rv_ M_ hp_ => ?_)
              obtain ⟨rfl, sj1_46, nx1_46, hnx1_46, rfl⟩ := hp_
              show au_Go G _ _ 49 [some (au_r XO), some (au_r (q, 204, 40)), some (au_i dj), some (au_i (j : Int)), none] [] ((rowS mi (q, 204, 40) (upF n B Pr Lw Rj (j : Int))), sj1_46, hi, sl, r, nx1_46) (wj + 1) ((4 * wj) + 4)
              refine au_goto (tgt := 64) dX0_passes_49 (by decide) ?_
              refine au_iinc dX0_passes_64 rfl (show 3 < 5 by decide) (by omega) (by omega) (by decide) (by decide) ?_
              show au_Go G _ _ 67 [some (au_r XO), some (au_r (q, 204, 40)), some (au_i dj), some (au_i ((j : Int) + 1)), none] [] ((rowS mi (q, 204, 40) (upF n B Pr Lw Rj (j : Int))), sj1_46, hi, sl, r, nx1_46) (wj + 1) ((4 * wj) + 4)
              refine au_goto (tgt := 4) dX0_passes_67 (by decide) ?_
              rw [show 4 * wj + 4 = 4 * (wj + 1) by omega]
              exact ih (j + 1) _ _ _ _ _ (by omega) ((actN_s hs).trans (act1_up (s := (Rj, dj, wj)) (fun z => z.elim c19 c27) c40)) (by omega) (by omega)
          · have c27 := au_b1 c27
            refine au_goto (tgt := 64) dX0_passes_30 (by decide) ?_
            refine au_iinc dX0_passes_64 rfl (show 3 < 5 by decide) (by omega) (by omega) (by decide) (by decide) ?_
            show au_Go G _ _ 67 [some (au_r XO), some (au_r (q, 204, 40)), some (au_i dj), some (au_i ((j : Int) + 1)), none] [] ((rowS mi (q, 204, 40) Rj), sj, hi, sl, r, nj) wj (4 * wj)
            refine au_goto (tgt := 4) dX0_passes_67 (by decide) ?_
            exact ih (j + 1) _ _ _ _ _ (by omega) ((actN_s hs).trans (act1_skip (s := (Rj, dj, wj)) (Or.inr c27))) (by omega) (by omega)
  have hA0 := hA 11 0 (mi (q, 204, 40)) 0 0 si nx (by omega) rfl (Nat.le_refl _) (by omega)
  rw [rowS_id] at hA0
  exact hA0
