/-! THE MODEL: an apology goes up, is judged, comes down, is merged (printed by tools/m62.py) -/
set_option maxRecDepth 100000
set_option maxHeartbeats 4000000

theorem upF_how_n {n : Int} {B Pr : Int → Int} {Lw : au_Lw} {R : Int → Int} {k : Int} (h : R (3 + 7 * k + 4) = 0) (hc : ¬ B (R (3 + 7 * k + 2)) = R (3 + 7 * k + 1)) : ¬ upF n B Pr Lw R k (3 + 7 * k + 4) = 1 := by
  unfold upF
  rw [if_neg hc, u1F_w R k (by decide) (by decide), if_neg (by decide), if_neg (by decide), h]
  decide

theorem kX2_cut9 (G : au_G) (v x : Int) (h : max 0 (min 9999 v) = x) (M : au_M) : au_Ctr G yX2_cut cX2_cut 4 (some .int) 0 0 0 [au_l v, au_i 0, au_i 9999] M (au_pure (au_i x) M) := by
  have h1 := kX2_cut G v 0 9999 (by decide) (by decide) (by decide) M
  rw [h] at h1
  exact h1
theorem kX2_goUp (G : au_G) (k wr n : Int) (B Pr : Int → Int) (Lw : au_Lw) (R : Int → Int) (A : Int → Int) (mi si hi sl : au_A → Int → Int) (r : au_A → Int → Option au_A) (nx : Nat) (hF : Fix r) (hW : mi MO 23 = wr) (hwr : wr = 0 ∨ wr = 1) (hE : EnA (mi MT) A n B Pr Lw) (hM : MRel wr A R) (hR : RowIn R n) (k0 : 0 ≤ k) (k1 : k < R 2) (h4 : R (3 + 7 * k + 4) = 0) (hbt : 0 ≤ B (R (3 + 7 * k + 2))) : au_Ctr G yX2_goUp cX2_goUp 4 none 5 0 0 [au_r MO, au_i k] (rowS mi MA A, si, hi, sl, r, nx) (fun rv M' => rv = none ∧ ∃ (A' : Int → Int) (sj slj : au_A → Int → Int), M' = (rowS mi MA A', sj, hi, slj, r, nx) ∧ MRel wr A' (upF n B Pr Lw R k) ∧ FrW wr A A' ∧ sj MO 24 = si MO 24 ∧ sj MO 25 = (if (upF n B Pr Lw R k) (3 + 7 * k + 4) = 1 then au_or (si MO 25) (au_shl 1 k) else si MO 25) ∧ sj MAside = si MAside) := by
  refine au_of (by decide) (Nat.le_of_ble_eq_true rfl) ?_
  have hB := hE.2.2.1
  have hb0 := hB.2.1
  have hb1 := hB.1
  have hP9 := hE.2.2.2.2.1
  obtain ⟨⟨r0, r0b⟩, ⟨r1, r1b⟩, ⟨r2, r2b⟩, ⟨r83, r83b⟩, rA⟩ := id hR
  obtain ⟨⟨f0, f0b⟩, ⟨t0, t0b⟩, ⟨p0, p0b⟩, ⟨s0, s0b⟩, ⟨z0, z0b⟩, ⟨g0, g0b⟩⟩ := id (rA k k0 k1)
  obtain ⟨gN, gE, gP⟩ := hE.g mi
  have gT := hE.gT
  have hbs := hB.2.2 _ p0 p0b
  obtain ⟨bo, hbo⟩ : ∃ z, z = B (R (3 + 7 * k + 2)) := ⟨_, rfl⟩
  rw [← hbo] at hbt hbs
  have hbl : bo < n := by omega
  have hpb := hP9 bo hbt hbl
  have hla := lawV_bd Lw 0 (nmA B Pr n R k bo) (Pr bo + 1) (top := 999) (by decide)
  have hla : 0 ≤ lawA n B Pr Lw R k bo ∧ lawA n B Pr Lw R k bo ≤ 999 := hla
  have h70 : ∀ (A2 : Int → Int) (s2 l2 : au_A → Int → Int) (R2 : Int → Int) (x3 : Option au_V), MRel wr A2 R2 → FrW wr A A2 → RowIn R2 n → R2 2 = R 2 → R2 (3 + 7 * k + 2) = bo → R2 (3 + 7 * k + 4) = 0 → s2 MO 24 = si MO 24 → s2 MO 25 = si MO 25 → s2 MAside = si MAside → jdF n B Pr Lw R2 k = (upF n B Pr Lw R k) → au_Go G (yX2_goUp.cls, cX2_goUp, 4, none, au_rm 5 0 0, yX2_goUp.name) (au_QM G (au_rm 5 0 0) (fun rv M' => rv = none ∧ ∃ (A' : Int → Int) (sj slj : au_A → Int → Int), M' = (rowS mi MA A', sj, hi, slj, r, nx) ∧ MRel wr A' (upF n B Pr Lw R k) ∧ FrW wr A A' ∧ sj MO 24 = si MO 24 ∧ sj MO 25 = (if (upF n B Pr Lw R k) (3 + 7 * k + 4) = 1 then au_or (si MO 25) (au_shl 1 k) else si MO 25) ∧ sj MAside = si MAside)) 70 [some (au_r MO), some (au_i k), some (au_i bo), x3] [] (rowS mi MA A2, s2, hi, l2, r, nx) 0 0 := by
    intro A2 s2 l2 R2 x3 hM2 hfA hR2 h22 h2at h24 hq24 hq25 hqa hju
    have hE2 := hE.fr hfA
    have hnI : ∀ j, 0 ≤ j → j < 19 → I32 (nmA B Pr n R2 k bo j) := by
      obtain ⟨⟨f0, f0b⟩, ⟨t0, t0b⟩, ⟨p0, p0b⟩, ⟨s0, s0b⟩, ⟨z0, z0b⟩, ⟨g0, g0b⟩⟩ := hR2.2.2.2.2 k k0 (by omega)
      have hd0 := hR2.1
      have hdk := dkN_bd (fun k w => R2 (3 + 7 * k + w)) bo k (R2 2).toNat
      exact nmF_I hB hbt hbl hpb (by unfold I32; omega) (by unfold I32; omega) (by unfold I32; omega) (by unfold I32; omega) (by unfold I32; omega) (by unfold I32; omega)
    have hr21 := hR2.2.1
    refine au_aload_n dX2_goUp_70 rfl ?_
    refine au_iload_n dX2_goUp_71 rfl ?_
    refine au_iload_n dX2_goUp_72 rfl ?_
    refine au_callV (n := 2) (kX2_nameApology G k bo n B Pr Lw R2 (mi MT) A2 mi s2 hi l2 r nx hF hE2 hM2.1 hR2 k0 (by omega) hbt hbl) (lw_V q1714 q1716 qs97 q134 q1717) rfl (by decide +kernel) (by decide) (T := TX2) (N := 35) rfl rfl rfl rfl (Nat.le_of_ble_eq_true rfl) (Nat.le_of_ble_eq_true rfl) (Nat.le_of_ble_eq_true rfl) (Nat.le_of_ble_eq_true rfl) (Nat.le_of_ble_eq_true rfl) dX2_goUp_73 (fun rv_ M_ hp_ => ?_)
    obtain ⟨rfl, s3, rfl, hs3, hnm3⟩ := hp_
    show au_Go G _ _ 76 [some (au_r MO), some (au_i k), some (au_i bo), x3] [] ((rowS mi MA A2), s3, hi, l2, r, nx) 0 0
    obtain ⟨g2N, g2E, g2P⟩ := hE2.g mi
    have hlp := lawV_bd Lw 1 (nmA B Pr n R2 k bo) (10 - Pr bo) (top := 10) (by decide)
    refine au_aload_n dX2_goUp_76 rfl ?_
    refine au_getf (C := RX2) (T := TX2) (N := 35) in_X2 (by decide) rfl 0 (by decide) rfl rfl q1359 rfl dX2_goUp_77 (v := au_r MA) (congrArg au_q (fx_MO_0 hF)) ?_
    refine au_bipush dX2_goUp_80 rfl rfl ?_
    refine au_iald dX2_goUp_82 rfl (by omega) (by show _ < ((4544 : Nat) : Int); omega) (v := au_i (R2 1)) (congrArg au_i (((au_gi_m (au_reg_MA _)).trans (show rowS mi MA A2 MA 7 = A2 7 from (rowS_self _ _ _ _).trans (rfl))).trans (hM2.1.2.1))) ?_
    refine au_bipush dX2_goUp_83 rfl rfl ?_
    refine au_irem dX2_goUp_85 (by omega) (by omega) ?_
    refine au_aload_n dX2_goUp_86 rfl ?_
    refine au_aload_n dX2_goUp_87 rfl ?_
    refine au_getf (C := RX2) (T := TX2) (N := 35) in_X2 (by decide) rfl 0 (by decide) rfl rfl q1359 rfl dX2_goUp_88 (v := au_r MA) (congrArg au_q (fx_MO_0 hF)) ?_
    refine au_iconst dX2_goUp_91 rfl rfl ?_
    refine au_iald dX2_goUp_92 rfl (by omega) (by show _ < ((4544 : Nat) : Int); omega) (v := au_i (A2 2)) (congrArg au_i ((au_gi_m (au_reg_MA _)).trans (show rowS mi MA A2 MA 2 = A2 2 from (rowS_self _ _ _ _).trans (rfl)))) ?_
    refine au_iconst dX2_goUp_93 rfl rfl ?_
    refine au_bipush dX2_goUp_94 rfl rfl ?_
    refine au_aload_n dX2_goUp_96 rfl ?_
    refine au_getf (C := RX2) (T := TX2) (N := 35) in_X2 (by decide) rfl 0 (by decide) rfl rfl q1359 rfl dX2_goUp_97 (v := au_r MA) (congrArg au_q (fx_MO_0 hF)) ?_
    refine au_bipush dX2_goUp_100 rfl rfl ?_
    refine au_iload_n dX2_goUp_102 rfl ?_
    refine au_iadd dX2_goUp_103 (by omega) (by omega) ?_
    refine au_iald dX2_goUp_104 rfl (by omega) (by show _ < ((4544 : Nat) : Int); omega) (v := au_i (Pr bo)) (congrArg au_i (((au_gi_m (au_reg_MA _)).trans (show rowS mi MA A2 MA (100 + bo) = A2 (100 + bo) from (rowS_self _ _ _ _).trans (rfl))).trans (hE2.2.2.2.1 _ (by omega) (by omega)))) ?_
    refine au_isub dX2_goUp_105 (by omega) (by omega) ?_
    refine au_bipush dX2_goUp_106 rfl rfl ?_
    refine au_callV (n := 4) (kX2_says G (A2 2) (10 - Pr bo) 10 1 Lw (nmA B Pr n R2 k bo) (rowS mi MA A2) s3 hi l2 r nx hF n g2N B g2E hB (hE2.gT) (by decide) (by decide) (by decide) hnm3 (fun j j0 j1 => (hnI j j0 (by omega)).w) (rkV_nm ⟨hb1, hb0⟩ _ _ _ _ _ _ _)) (lw_V q1734 q1736 qs102 q134 q1737) rfl (by decide +kernel) (by decide) (T := TX2) (N := 35) rfl rfl rfl rfl (Nat.le_of_ble_eq_true rfl) (Nat.le_of_ble_eq_true rfl) (Nat.le_of_ble_eq_true rfl) (Nat.le_of_ble_eq_true rfl) (Nat.le_of_ble_eq_true rfl) dX2_goUp_108 (fun rv_ M_ hp_ => ?_)
    obtain ⟨rfl, s4, l4, rfl, hf4, hf5⟩ := hp_
    show au_Go G _ _ 111 [some (au_r MO), some (au_i k), some (au_i bo), x3] [au_i (lawP n B Pr Lw R2 k bo), au_i ((R2 1) % 10)] ((rowS mi MA A2), s4, hi, l4, r, nx) 0 0
    refine au_icmp_ge (tgt := 118) dX2_goUp_111 (by decide) (fun c111 => ?_) (fun c111 => ?_)
    · refine au_iconst dX2_goUp_118 rfl rfl ?_
      refine au_istore_n dX2_goUp_119 (show 3 < 4 by decide) ?_
      show au_Go G _ _ 120 [some (au_r MO), some (au_i k), some (au_i bo), some (au_i 0)] [] ((rowS mi MA A2), s4, hi, l4, r, nx) 0 0
      refine au_aload_n dX2_goUp_120 rfl ?_
      refine au_callV (n := 0) (kX2_anew G R2 A2 mi s4 hi l4 r nx hF hM2.1 hR2.2.1.1 hR2.2.1.2) (lw_V q1767 q1769 qs105 q134 q1770) rfl (by decide +kernel) (by decide) (T := TX2) (N := 35) rfl rfl rfl rfl (Nat.le_of_ble_eq_true rfl) (Nat.le_of_ble_eq_true rfl) (Nat.le_of_ble_eq_true rfl) (Nat.le_of_ble_eq_true rfl) (Nat.le_of_ble_eq_true rfl) dX2_goUp_121 (fun rv_ M_ hp_ => ?_)
      obtain ⟨rfl, rfl⟩ := hp_
      show au_Go G _ _ 124 [some (au_r MO), some (au_i k), some (au_i bo), some (au_i 0)] [] ((rowS mi MA (up1 A2 7 ((R2 1 * 421 + 307) % 30539))), s4, hi, l4, r, nx) 0 0
      have hM3 : MRel wr _ (drF R2) := hM2.drawn _
      have hR3 : RowIn (drF R2) n := hR2.dr
      have hsa : s4 MAside = si MAside := (hf4 MAside (by decide)).trans ((hs3 MAside (by decide)).trans hqa)
      have hso : s4 MO 24 = si MO 24 ∧ s4 MO 25 = si MO 25 := ⟨(congrFun (hf4 MO (by decide)) 24).trans ((congrFun (hs3 MO (by decide)) 24).trans hq24), (congrFun (hf4 MO (by decide)) 25).trans ((congrFun (hs3 MO (by decide)) 25).trans hq25)⟩
      refine au_iload_n dX2_goUp_124 rfl ?_
      refine au_if_eq (tgt := 154) dX2_goUp_125 (by decide) (fun c125 => ?_) (fun c125 => ?_)
      · have h3s := (hR3.2.2.2.2 k k0 (by rw [drF_ne _ (by decide)]; omega)).2.2.2.1
        refine au_aload_n dX2_goUp_154 rfl ?_
        refine au_iload_n dX2_goUp_155 rfl ?_
        refine au_iconst dX2_goUp_156 rfl rfl ?_
        refine au_iconst dX2_goUp_157 rfl rfl ?_
        refine au_aload_n dX2_goUp_158 rfl ?_
        refine au_iload_n dX2_goUp_159 rfl ?_
        refine au_iconst dX2_goUp_160 rfl rfl ?_
        refine au_callVp (n := 2) (kX2_getR G k 3 (drF R2) (up1 A2 7 ((R2 1 * 421 + 307) % 30539)) mi s4 hi l4 r nx hF hM3.1 (by omega) (by omega) (by decide) (by decide)) (lw_V q1694 q1696 qs93 q134 q1697) rfl (by decide +kernel) (by decide) (T := TX2) (N := 35) rfl rfl rfl rfl (Nat.le_of_ble_eq_true rfl) (Nat.le_of_ble_eq_true rfl) (Nat.le_of_ble_eq_true rfl) (Nat.le_of_ble_eq_true rfl) (Nat.le_of_ble_eq_true rfl) dX2_goUp_161 ?_
        refine au_imul dX2_goUp_164 (by omega) (by omega) ?_
        refine au_i2l dX2_goUp_165 ?_
        refine au_iconst dX2_goUp_166 rfl rfl ?_
        refine au_sipush dX2_goUp_167 rfl rfl ?_
        refine au_callSp (n := 3) (kX2_cut9 G _ (min 9999 ((drF R2) (3 + 7 * k + 3) + (drF R2) (3 + 7 * k + 3))) (by omega) _) (lw_S q1764 q1765 q134 q1766) (by decide +kernel) rfl rfl rfl (Nat.le_of_ble_eq_true rfl) (Nat.le_of_ble_eq_true rfl) (Nat.le_of_ble_eq_true rfl) (Nat.le_of_ble_eq_true rfl) (Nat.le_of_ble_eq_true rfl) dX2_goUp_170 ?_
        refine au_callV (n := 3) (kX2_put G k 3 (min 9999 ((drF R2) (3 + 7 * k + 3) + (drF R2) (3 + 7 * k + 3))) (up1 A2 7 ((R2 1 * 421 + 307) % 30539)) mi s4 hi l4 r nx hF (by omega) (by omega) (by decide) (by decide)) (lw_V q1674 q1676 qs90 q134 q1677) rfl (by decide +kernel) (by decide) (T := TX2) (N := 35) rfl rfl rfl rfl (Nat.le_of_ble_eq_true rfl) (Nat.le_of_ble_eq_true rfl) (Nat.le_of_ble_eq_true rfl) (Nat.le_of_ble_eq_true rfl) (Nat.le_of_ble_eq_true rfl) dX2_goUp_173 (fun rv_ M_ hp_ => ?_)
        obtain ⟨rfl, rfl⟩ := hp_
        show au_Go G _ _ 176 [some (au_r MO), some (au_i k), some (au_i bo), some (au_i 0)] [] ((rowS mi MA (up1 (up1 A2 7 ((R2 1 * 421 + 307) % 30539)) (20 + 7 * k + 3) (min 9999 ((drF R2) (3 + 7 * k + 3) + (drF R2) (3 + 7 * k + 3))))), s4, hi, l4, r, nx) 0 0
        have hM5 : MRel wr _ (grF (drF R2) k ((drF R2) (3 + 7 * k + 3))) := hM3.put (min 9999 ((drF R2) (3 + 7 * k + 3) + (drF R2) (3 + 7 * k + 3))) k0 (by omega) (by decide) (by decide)
        refine au_aload_n dX2_goUp_176 rfl ?_
        refine au_iload_n dX2_goUp_177 rfl ?_
        refine au_iconst dX2_goUp_178 rfl rfl ?_
        refine au_aload_n dX2_goUp_179 rfl ?_
        refine au_iload_n dX2_goUp_180 rfl ?_
        refine au_iconst dX2_goUp_181 rfl rfl ?_
        refine au_callVp (n := 2) (kX2_getR G k 0 (grF (drF R2) k ((drF R2) (3 + 7 * k + 3))) (up1 (up1 A2 7 ((R2 1 * 421 + 307) % 30539)) (20 + 7 * k + 3) (min 9999 ((drF R2) (3 + 7 * k + 3) + (drF R2) (3 + 7 * k + 3)))) mi s4 hi l4 r nx hF hM5.1 (by omega) (by omega) (by decide) (by decide)) (lw_V q1694 q1696 qs93 q134 q1697) rfl (by decide +kernel) (by decide) (T := TX2) (N := 35) rfl rfl rfl rfl (Nat.le_of_ble_eq_true rfl) (Nat.le_of_ble_eq_true rfl) (Nat.le_of_ble_eq_true rfl) (Nat.le_of_ble_eq_true rfl) (Nat.le_of_ble_eq_true rfl) dX2_goUp_182 ?_
        refine au_callV (n := 3) (kX2_put G k 2 ((grF (drF R2) k ((drF R2) (3 + 7 * k + 3))) (3 + 7 * k + 0)) (up1 (up1 A2 7 ((R2 1 * 421 + 307) % 30539)) (20 + 7 * k + 3) (min 9999 ((drF R2) (3 + 7 * k + 3) + (drF R2) (3 + 7 * k + 3)))) mi s4 hi l4 r nx hF (by omega) (by omega) (by decide) (by decide)) (lw_V q1674 q1676 qs90 q134 q1677) rfl (by decide +kernel) (by decide) (T := TX2) (N := 35) rfl rfl rfl rfl (Nat.le_of_ble_eq_true rfl) (Nat.le_of_ble_eq_true rfl) (Nat.le_of_ble_eq_true rfl) (Nat.le_of_ble_eq_true rfl) (Nat.le_of_ble_eq_true rfl) dX2_goUp_185 (fun rv_ M_ hp_ => ?_)
        obtain ⟨rfl, rfl⟩ := hp_
        show au_Go G _ _ 188 [some (au_r MO), some (au_i k), some (au_i bo), some (au_i 0)] [] ((rowS mi MA (up1 (up1 (up1 A2 7 ((R2 1 * 421 + 307) % 30539)) (20 + 7 * k + 3) (min 9999 ((drF R2) (3 + 7 * k + 3) + (drF R2) (3 + 7 * k + 3)))) (20 + 7 * k + 2) ((grF (drF R2) k ((drF R2) (3 + 7 * k + 3))) (3 + 7 * k + 0)))), s4, hi, l4, r, nx) 0 0
        have hM7 : MRel wr _ (rfF (drF R2) k) := hM5.put _ k0 (by omega) (by decide) (by decide)
        have hR7 : RowIn (rfF (drF R2) k) n := hR3.rf k0 (by rw [drF_ne _ (by decide)]; omega)
        have hsz : 0 ≤ rfF (drF R2) k (3 + 7 * k + 3) ∧ rfF (drF R2) k (3 + 7 * k + 3) ≤ 9999 := (hR7.2.2.2.2 k k0 (by rw [rfF_2 k0, drF_ne _ (by decide)]; omega)).2.2.2.1
        refine au_aload_n dX2_goUp_188 rfl ?_
        refine au_iload_n dX2_goUp_189 rfl ?_
        refine au_iconst dX2_goUp_190 rfl rfl ?_
        refine au_callV (n := 2) (kX2_write G k 1 wr (rfF (drF R2) k) (up1 (up1 (up1 A2 7 ((R2 1 * 421 + 307) % 30539)) (20 + 7 * k + 3) (min 9999 ((drF R2) (3 + 7 * k + 3) + (drF R2) (3 + 7 * k + 3)))) (20 + 7 * k + 2) ((grF (drF R2) k ((drF R2) (3 + 7 * k + 3))) (3 + 7 * k + 0))) mi s4 hi l4 r nx hF hW hwr hM7 k0 (by omega) (by decide) (by decide) hR7.2.2.2.1 ⟨hR7.1.1, by have := hR7.1.2; omega⟩ hsz) (lw_V q1774 q1776 qs106 q134 q1777) rfl (by decide +kernel) (by decide) (T := TX2) (N := 35) rfl rfl rfl rfl (Nat.le_of_ble_eq_true rfl) (Nat.le_of_ble_eq_true rfl) (Nat.le_of_ble_eq_true rfl) (Nat.le_of_ble_eq_true rfl) (Nat.le_of_ble_eq_true rfl) dX2_goUp_191 (fun rv_ M_ hp_ => ?_)
        obtain ⟨rfl, A6, rfl, hM6, hf6⟩ := hp_
        show au_Go G _ _ 194 [some (au_r MO), some (au_i k), some (au_i bo), some (au_i 0)] [] ((rowS mi MA A6), s4, hi, l4, r, nx) 0 0
        refine au_vret dX2_goUp_194 rfl rfl (Nat.le_of_ble_eq_true rfl) (Nat.le_of_ble_eq_true rfl) ?_
        have ej : jdF n B Pr Lw R2 k = wrF (rfF (drF R2) k) k 1 := by
          unfold jdF
          rw [h2at, if_neg (by omega)]
        rw [ej] at hju
        have e4 : rfF (drF R2) k (3 + 7 * k + 4) = 0 := (up1_ne _ _ (by omega)).trans ((grF_ne _ (by omega)).trans ((drF_ne _ (by omega)).trans h24))
        refine ⟨rfl, A6, _, _, rfl, by rw [← hju]; exact hM6, (((hfA.tr (FrW.up wr A2 _ (by decide) (by decide) (by decide))).tr (FrW.up wr _ _ (by omega) (by omega) (by omega))).tr (FrW.up wr _ _ (by omega) (by omega) (by omega))).tr hf6, hso.1, ?_, hsa⟩
        rw [if_neg (by rw [← hju, wrF_lo _ _ _ hR7.2.2.2.1.1 hR7.2.2.2.1.2 (by omega), e4]; decide)]
        exact hso.2
      · exact absurd c125 (by decide)
    · refine au_iconst dX2_goUp_114 rfl rfl ?_
      refine au_goto (tgt := 119) dX2_goUp_115 (by decide) ?_
      refine au_istore_n dX2_goUp_119 (show 3 < 4 by decide) ?_
      show au_Go G _ _ 120 [some (au_r MO), some (au_i k), some (au_i bo), some (au_i 1)] [] ((rowS mi MA A2), s4, hi, l4, r, nx) 0 0
      refine au_aload_n dX2_goUp_120 rfl ?_
      refine au_callV (n := 0) (kX2_anew G R2 A2 mi s4 hi l4 r nx hF hM2.1 hR2.2.1.1 hR2.2.1.2) (lw_V q1767 q1769 qs105 q134 q1770) rfl (by decide +kernel) (by decide) (T := TX2) (N := 35) rfl rfl rfl rfl (Nat.le_of_ble_eq_true rfl) (Nat.le_of_ble_eq_true rfl) (Nat.le_of_ble_eq_true rfl) (Nat.le_of_ble_eq_true rfl) (Nat.le_of_ble_eq_true rfl) dX2_goUp_121 (fun rv_ M_ hp_ => ?_)
      obtain ⟨rfl, rfl⟩ := hp_
      show au_Go G _ _ 124 [some (au_r MO), some (au_i k), some (au_i bo), some (au_i 1)] [] ((rowS mi MA (up1 A2 7 ((R2 1 * 421 + 307) % 30539))), s4, hi, l4, r, nx) 0 0
      have hM3 : MRel wr _ (drF R2) := hM2.drawn _
      have hR3 : RowIn (drF R2) n := hR2.dr
      have hsa : s4 MAside = si MAside := (hf4 MAside (by decide)).trans ((hs3 MAside (by decide)).trans hqa)
      have hso : s4 MO 24 = si MO 24 ∧ s4 MO 25 = si MO 25 := ⟨(congrFun (hf4 MO (by decide)) 24).trans ((congrFun (hs3 MO (by decide)) 24).trans hq24), (congrFun (hf4 MO (by decide)) 25).trans ((congrFun (hs3 MO (by decide)) 25).trans hq25)⟩
      refine au_iload_n dX2_goUp_124 rfl ?_
      refine au_if_eq (tgt := 154) dX2_goUp_125 (by decide) (fun c125 => ?_) (fun c125 => ?_)
      · exact absurd c125 (by decide)
      · have c111 : R2 1 % 10 < lawP n B Pr Lw R2 k bo := by first | exact c111 | omega
        refine au_aload_n dX2_goUp_128 rfl ?_
        refine au_iload_n dX2_goUp_129 rfl ?_
        refine au_iconst dX2_goUp_130 rfl rfl ?_
        refine au_iconst dX2_goUp_131 rfl rfl ?_
        refine au_callV (n := 3) (kX2_put G k 4 1 (up1 A2 7 ((R2 1 * 421 + 307) % 30539)) mi s4 hi l4 r nx hF (by omega) (by omega) (by decide) (by decide)) (lw_V q1674 q1676 qs90 q134 q1677) rfl (by decide +kernel) (by decide) (T := TX2) (N := 35) rfl rfl rfl rfl (Nat.le_of_ble_eq_true rfl) (Nat.le_of_ble_eq_true rfl) (Nat.le_of_ble_eq_true rfl) (Nat.le_of_ble_eq_true rfl) (Nat.le_of_ble_eq_true rfl) dX2_goUp_132 (fun rv_ M_ hp_ => ?_)
        obtain ⟨rfl, rfl⟩ := hp_
        show au_Go G _ _ 135 [some (au_r MO), some (au_i k), some (au_i bo), some (au_i 1)] [] ((rowS mi MA (up1 (up1 A2 7 ((R2 1 * 421 + 307) % 30539)) (20 + 7 * k + 4) 1)), s4, hi, l4, r, nx) 0 0
        refine au_aload_n dX2_goUp_135 rfl ?_
        refine au_dup dX2_goUp_136 rfl ?_
        refine au_getf (C := RX2) (T := TX2) (N := 35) in_X2 (by decide) rfl 25 (by decide) rfl rfl q1384 rfl dX2_goUp_137 (v := au_i (s4 MO 25)) (by rfl) ?_
        refine au_iconst dX2_goUp_140 rfl rfl ?_
        refine au_iload_n dX2_goUp_141 rfl ?_
        refine au_ishl dX2_goUp_142 ?_
        refine au_ior dX2_goUp_143 ?_
        refine au_putf (a := MO) (C := RX2) (T := TX2) (N := 35) in_X2 tyX2_ok nmX2 (by decide) rfl 25 (by decide) rfl (by decide) rfl q1384 rfl rfl trivial (fun _ _ _ h => au_nf_i h) dX2_goUp_144 (M' := ((rowS mi MA (up1 (up1 A2 7 ((R2 1 * 421 + 307) % 30539)) (20 + 7 * k + 4) 1)), (au_up s4 MO 25 (au_or (s4 MO 25) (au_shl 1 k))), hi, l4, r, nx)) (by rfl) ?_
        have hM4 : MRel wr _ (up1 (drF R2) (3 + 7 * k + 4) 1) := hM3.put 1 k0 (by omega) (by decide) (by decide)
        have hR4 : RowIn (up1 (drF R2) (3 + 7 * k + 4) 1) n := hR3.up k0 (by rw [drF_ne _ (by decide)]; omega) (by decide) (by decide) ⟨by omega, by omega, by intro _; omega, by omega⟩
        have hsz : 0 ≤ up1 (drF R2) (3 + 7 * k + 4) 1 (3 + 7 * k + 3) ∧ up1 (drF R2) (3 + 7 * k + 4) 1 (3 + 7 * k + 3) ≤ 9999 := (hR4.2.2.2.2 k k0 (by rw [up1_ne _ _ (by omega), drF_ne _ (by decide)]; omega)).2.2.2.1
        refine au_aload_n dX2_goUp_147 rfl ?_
        refine au_iload_n dX2_goUp_148 rfl ?_
        refine au_iconst dX2_goUp_149 rfl rfl ?_
        refine au_callV (n := 2) (kX2_write G k 0 wr (up1 (drF R2) (3 + 7 * k + 4) 1) (up1 (up1 A2 7 ((R2 1 * 421 + 307) % 30539)) (20 + 7 * k + 4) 1) mi (au_up s4 MO 25 (au_or (s4 MO 25) (au_shl 1 k))) hi l4 r nx hF hW hwr hM4 k0 (by omega) (by decide) (by decide) hR4.2.2.2.1 ⟨hR4.1.1, by have := hR4.1.2; omega⟩ hsz) (lw_V q1774 q1776 qs106 q134 q1777) rfl (by decide +kernel) (by decide) (T := TX2) (N := 35) rfl rfl rfl rfl (Nat.le_of_ble_eq_true rfl) (Nat.le_of_ble_eq_true rfl) (Nat.le_of_ble_eq_true rfl) (Nat.le_of_ble_eq_true rfl) (Nat.le_of_ble_eq_true rfl) dX2_goUp_150 (fun rv_ M_ hp_ => ?_)
        obtain ⟨rfl, A6, rfl, hM6, hf6⟩ := hp_
        show au_Go G _ _ 153 [some (au_r MO), some (au_i k), some (au_i bo), some (au_i 1)] [] ((rowS mi MA A6), (au_up s4 MO 25 (au_or (s4 MO 25) (au_shl 1 k))), hi, l4, r, nx) 0 0
        refine au_vret dX2_goUp_153 rfl rfl (Nat.le_of_ble_eq_true rfl) (Nat.le_of_ble_eq_true rfl) ?_
        have ej : jdF n B Pr Lw R2 k = wrF (up1 (drF R2) (3 + 7 * k + 4) 1) k 0 := by
          unfold jdF
          rw [h2at, if_pos (by omega)]
        rw [ej] at hju
        refine ⟨rfl, A6, _, _, rfl, by rw [← hju]; exact hM6, ((hfA.tr (FrW.up wr A2 _ (by decide) (by decide) (by decide))).tr (FrW.up wr _ _ (by omega) (by omega) (by omega))).tr hf6, hso.1, ?_, (au_up_neF _ _ _ (by decide)).trans hsa⟩
        rw [if_pos (by rw [← hju, wrF_lo _ _ _ hR4.2.2.2.1.1 hR4.2.2.2.1.2 (by omega), up1_self]), ← hso.2]
        exact au_up_self _ _ _ _
  show au_Go G _ _ 0 [some (au_r MO), some (au_i k), none, none] [] (rowS mi MA A, si, hi, sl, r, nx) 0 0
  refine au_aload_n dX2_goUp_0 rfl ?_
  refine au_getf (C := RX2) (T := TX2) (N := 35) in_X2 (by decide) rfl 0 (by decide) rfl rfl q1359 rfl dX2_goUp_1 (v := au_r MA) (congrArg au_q (fx_MO_0 hF)) ?_
  refine au_bipush dX2_goUp_4 rfl rfl ?_
  refine au_aload_n dX2_goUp_6 rfl ?_
  refine au_iload_n dX2_goUp_7 rfl ?_
  refine au_iconst dX2_goUp_8 rfl rfl ?_
  refine au_callVp (n := 2) (kX2_getR G k 2 R A mi si hi sl r nx hF hM.1 (by omega) (by omega) (by decide) (by decide)) (lw_V q1694 q1696 qs93 q134 q1697) rfl (by decide +kernel) (by decide) (T := TX2) (N := 35) rfl rfl rfl rfl (Nat.le_of_ble_eq_true rfl) (Nat.le_of_ble_eq_true rfl) (Nat.le_of_ble_eq_true rfl) (Nat.le_of_ble_eq_true rfl) (Nat.le_of_ble_eq_true rfl) dX2_goUp_9 ?_
  refine au_iadd dX2_goUp_12 (by omega) (by omega) ?_
  refine au_iald dX2_goUp_13 rfl (by omega) (by show _ < ((4544 : Nat) : Int); omega) (v := au_i (bo)) (congrArg au_i (((au_gi_m (au_reg_MA _)).trans (show rowS mi MA A MA (90 + (R (3 + 7 * k + 2))) = A (90 + (R (3 + 7 * k + 2))) from (rowS_self _ _ _ _).trans (rfl))).trans ((hE.2.1 _ (by omega) (by omega)).trans hbo.symm))) ?_
  refine au_istore_n dX2_goUp_14 (show 2 < 4 by decide) ?_
  show au_Go G _ _ 15 [some (au_r MO), some (au_i k), some (au_i bo), none] [] ((rowS mi MA A), si, hi, sl, r, nx) 0 0
  refine au_aload_n dX2_goUp_15 rfl ?_
  refine au_iload_n dX2_goUp_16 rfl ?_
  refine au_iload_n dX2_goUp_17 rfl ?_
  refine au_callV (n := 2) (kX2_nameApology G k bo n B Pr Lw R (mi MT) A mi si hi sl r nx hF hE hM.1 hR k0 k1 hbt hbl) (lw_V q1714 q1716 qs97 q134 q1717) rfl (by decide +kernel) (by decide) (T := TX2) (N := 35) rfl rfl rfl rfl (Nat.le_of_ble_eq_true rfl) (Nat.le_of_ble_eq_true rfl) (Nat.le_of_ble_eq_true rfl) (Nat.le_of_ble_eq_true rfl) (Nat.le_of_ble_eq_true rfl) dX2_goUp_18 (fun rv_ M_ hp_ => ?_)
  obtain ⟨rfl, s1, rfl, hs1, hnm1⟩ := hp_
  show au_Go G _ _ 21 [some (au_r MO), some (au_i k), some (au_i bo), none] [] ((rowS mi MA A), s1, hi, sl, r, nx) 0 0
  have hnI : ∀ j, 0 ≤ j → j < 19 → I32 (nmA B Pr n R k bo j) := by
    have hdk := dkN_bd (fun k w => R (3 + 7 * k + w)) bo k (R 2).toNat
    exact nmF_I hB hbt hbl hpb (by unfold I32; omega) (by unfold I32; omega) (by unfold I32; omega) (by unfold I32; omega) (by unfold I32; omega) (by unfold I32; omega)
  refine au_aload_n dX2_goUp_21 rfl ?_
  refine au_iload_n dX2_goUp_22 rfl ?_
  refine au_iconst dX2_goUp_23 rfl rfl ?_
  refine au_aload_n dX2_goUp_24 rfl ?_
  refine au_iload_n dX2_goUp_25 rfl ?_
  refine au_iconst dX2_goUp_26 rfl rfl ?_
  refine au_callVp (n := 2) (kX2_getR G k 3 R A mi s1 hi sl r nx hF hM.1 (by omega) (by omega) (by decide) (by decide)) (lw_V q1694 q1696 qs93 q134 q1697) rfl (by decide +kernel) (by decide) (T := TX2) (N := 35) rfl rfl rfl rfl (Nat.le_of_ble_eq_true rfl) (Nat.le_of_ble_eq_true rfl) (Nat.le_of_ble_eq_true rfl) (Nat.le_of_ble_eq_true rfl) (Nat.le_of_ble_eq_true rfl) dX2_goUp_27 ?_
  refine au_aload_n dX2_goUp_30 rfl ?_
  refine au_aload_n dX2_goUp_31 rfl ?_
  refine au_getf (C := RX2) (T := TX2) (N := 35) in_X2 (by decide) rfl 0 (by decide) rfl rfl q1359 rfl dX2_goUp_32 (v := au_r MA) (congrArg au_q (fx_MO_0 hF)) ?_
  refine au_iconst dX2_goUp_35 rfl rfl ?_
  refine au_iald dX2_goUp_36 rfl (by omega) (by show _ < ((4544 : Nat) : Int); omega) (v := au_i (A 2)) (congrArg au_i ((au_gi_m (au_reg_MA _)).trans (show rowS mi MA A MA 2 = A 2 from (rowS_self _ _ _ _).trans (rfl)))) ?_
  refine au_callV (n := 1) (kX2_addsBy G (A 2) Lw (nmA B Pr n R k bo) (rowS mi MA A) s1 hi sl r nx hF n gN B gE hB gT hnm1 (fun j j0 j1 => (hnI j j0 (by omega)).w) (rkV_nm ⟨hb1, hb0⟩ _ _ _ _ _ _ _) (show -100 ≤ Pr bo ∧ Pr bo ≤ 100 by omega)) (lw_V q1730 q1732 qs101 q134 q1733) rfl (by decide +kernel) (by decide) (T := TX2) (N := 35) rfl rfl rfl rfl (Nat.le_of_ble_eq_true rfl) (Nat.le_of_ble_eq_true rfl) (Nat.le_of_ble_eq_true rfl) (Nat.le_of_ble_eq_true rfl) (Nat.le_of_ble_eq_true rfl) dX2_goUp_37 (fun rv_ M_ hp_ => ?_)
  obtain ⟨rfl, s2, l2, rfl, hf2, hf3⟩ := hp_
  show au_Go G _ _ 40 [some (au_r MO), some (au_i k), some (au_i bo), none] [au_i (lawA n B Pr Lw R k bo), au_i (R (3 + 7 * k + 3)), au_i 3, au_i k, au_r MO] ((rowS mi MA A), s2, hi, l2, r, nx) 0 0
  refine au_iadd dX2_goUp_40 (by omega) (by omega) ?_
  refine au_i2l dX2_goUp_41 ?_
  refine au_iconst dX2_goUp_42 rfl rfl ?_
  refine au_sipush dX2_goUp_43 rfl rfl ?_
  refine au_callSp (n := 3) (kX2_cut9 G _ (min 9999 (R (3 + 7 * k + 3) + lawA n B Pr Lw R k bo)) (by omega) _) (lw_S q1764 q1765 q134 q1766) (by decide +kernel) rfl rfl rfl (Nat.le_of_ble_eq_true rfl) (Nat.le_of_ble_eq_true rfl) (Nat.le_of_ble_eq_true rfl) (Nat.le_of_ble_eq_true rfl) (Nat.le_of_ble_eq_true rfl) dX2_goUp_46 ?_
  refine au_callV (n := 3) (kX2_put G k 3 (min 9999 (R (3 + 7 * k + 3) + lawA n B Pr Lw R k bo)) A mi s2 hi l2 r nx hF (by omega) (by omega) (by decide) (by decide)) (lw_V q1674 q1676 qs90 q134 q1677) rfl (by decide +kernel) (by decide) (T := TX2) (N := 35) rfl rfl rfl rfl (Nat.le_of_ble_eq_true rfl) (Nat.le_of_ble_eq_true rfl) (Nat.le_of_ble_eq_true rfl) (Nat.le_of_ble_eq_true rfl) (Nat.le_of_ble_eq_true rfl) dX2_goUp_49 (fun rv_ M_ hp_ => ?_)
  obtain ⟨rfl, rfl⟩ := hp_
  show au_Go G _ _ 52 [some (au_r MO), some (au_i k), some (au_i bo), none] [] ((rowS mi MA (up1 A (20 + 7 * k + 3) (min 9999 (R (3 + 7 * k + 3) + lawA n B Pr Lw R k bo)))), s2, hi, l2, r, nx) 0 0
  refine au_aload_n dX2_goUp_52 rfl ?_
  refine au_iload_n dX2_goUp_53 rfl ?_
  refine au_iconst dX2_goUp_54 rfl rfl ?_
  refine au_iload_n dX2_goUp_55 rfl ?_
  refine au_callV (n := 3) (kX2_put G k 2 bo (up1 A (20 + 7 * k + 3) (min 9999 (R (3 + 7 * k + 3) + lawA n B Pr Lw R k bo))) mi s2 hi l2 r nx hF (by omega) (by omega) (by decide) (by decide)) (lw_V q1674 q1676 qs90 q134 q1677) rfl (by decide +kernel) (by decide) (T := TX2) (N := 35) rfl rfl rfl rfl (Nat.le_of_ble_eq_true rfl) (Nat.le_of_ble_eq_true rfl) (Nat.le_of_ble_eq_true rfl) (Nat.le_of_ble_eq_true rfl) (Nat.le_of_ble_eq_true rfl) dX2_goUp_56 (fun rv_ M_ hp_ => ?_)
  obtain ⟨rfl, rfl⟩ := hp_
  show au_Go G _ _ 59 [some (au_r MO), some (au_i k), some (au_i bo), none] [] ((rowS mi MA (up1 (up1 A (20 + 7 * k + 3) (min 9999 (R (3 + 7 * k + 3) + lawA n B Pr Lw R k bo))) (20 + 7 * k + 2) bo)), s2, hi, l2, r, nx) 0 0
  have hM2 : MRel wr _ (up1 (up1 R (3 + 7 * k + 3) (min 9999 (R (3 + 7 * k + 3) + lawA n B Pr Lw R k bo))) (3 + 7 * k + 2) bo) := (hM.put (min 9999 (R (3 + 7 * k + 3) + lawA n B Pr Lw R k bo)) k0 (by omega) (by decide) (by decide)).put bo k0 (by omega) (by decide) (by decide)
  have hfA : FrW wr A _ := (FrW.up wr A (min 9999 (R (3 + 7 * k + 3) + lawA n B Pr Lw R k bo)) (j := 20 + 7 * k + 3) (by omega) (by omega) (by omega)).tr (FrW.up wr _ bo (j := 20 + 7 * k + 2) (by omega) (by omega) (by omega))
  have eu : u1F n B Pr Lw R k = (up1 (up1 R (3 + 7 * k + 3) (min 9999 (R (3 + 7 * k + 3) + lawA n B Pr Lw R k bo))) (3 + 7 * k + 2) bo) := by
    unfold u1F grF
    rw [← hbo, up1_ne (R := R) (j := 3 + 7 * k + 2) (k := 3 + 7 * k + 3) _ (by omega), up1_comm _ (by omega)]
  have hso : s2 MO 24 = si MO 24 ∧ s2 MO 25 = si MO 25 := ⟨(congrFun (hf2 MO (by decide)) 24).trans (congrFun (hs1 MO (by decide)) 24), (congrFun (hf2 MO (by decide)) 25).trans (congrFun (hs1 MO (by decide)) 25)⟩
  have hsa : s2 MAside = si MAside := (hf2 MAside (by decide)).trans (hs1 MAside (by decide))
  have e1 : (up1 (up1 R (3 + 7 * k + 3) (min 9999 (R (3 + 7 * k + 3) + lawA n B Pr Lw R k bo))) (3 + 7 * k + 2) bo) (3 + 7 * k + 1) = R (3 + 7 * k + 1) := (up1_ne _ _ (by omega)).trans (up1_ne _ _ (by omega))
  have hM2u := hM2
  rw [← eu] at hM2u
  refine au_iload_n dX2_goUp_59 rfl ?_
  refine au_aload_n dX2_goUp_60 rfl ?_
  refine au_iload_n dX2_goUp_61 rfl ?_
  refine au_iconst dX2_goUp_62 rfl rfl ?_
  refine au_callVp (n := 2) (kX2_getR G k 1 (up1 (up1 R (3 + 7 * k + 3) (min 9999 (R (3 + 7 * k + 3) + lawA n B Pr Lw R k bo))) (3 + 7 * k + 2) bo) (up1 (up1 A (20 + 7 * k + 3) (min 9999 (R (3 + 7 * k + 3) + lawA n B Pr Lw R k bo))) (20 + 7 * k + 2) bo) mi s2 hi l2 r nx hF hM2.1 (by omega) (by omega) (by decide) (by decide)) (lw_V q1694 q1696 qs93 q134 q1697) rfl (by decide +kernel) (by decide) (T := TX2) (N := 35) rfl rfl rfl rfl (Nat.le_of_ble_eq_true rfl) (Nat.le_of_ble_eq_true rfl) (Nat.le_of_ble_eq_true rfl) (Nat.le_of_ble_eq_true rfl) (Nat.le_of_ble_eq_true rfl) dX2_goUp_63 ?_
  refine au_icmp_eq (tgt := 70) dX2_goUp_66 (by decide) (fun c66 => ?_) (fun c66 => ?_)
  · have hc : B (R (3 + 7 * k + 2)) = R (3 + 7 * k + 1) := by rw [e1, hbo] at c66; exact c66
    have hR2 : RowIn (u1F n B Pr Lw R k) n := u1F_in hB hR k0 k1 (by rw [← hbo]; exact ⟨hbt, hbl⟩)
    have eU : (upF n B Pr Lw R k) = jdF n B Pr Lw (u1F n B Pr Lw R k) k := by unfold upF; rw [if_pos hc]
    have w2 : u1F n B Pr Lw R k (3 + 7 * k + 2) = bo := by rw [u1F_w R k (by decide) (by decide), if_pos rfl, hbo]
    have w4 : u1F n B Pr Lw R k (3 + 7 * k + 4) = 0 := by rw [u1F_w R k (by decide) (by decide), if_neg (by decide), if_neg (by decide)]; exact h4
    exact h70 _ s2 l2 _ _ hM2u hfA hR2 (u1F_sm R k 2 (by decide) (by decide) (by omega)) w2 w4 hso.1 hso.2 hsa eU.symm
  · refine au_vret dX2_goUp_69 rfl rfl (Nat.le_of_ble_eq_true rfl) (Nat.le_of_ble_eq_true rfl) ?_
    have hc : ¬ B (R (3 + 7 * k + 2)) = R (3 + 7 * k + 1) := fun z => c66 (by rw [e1, hbo]; exact z)
    have eU : (upF n B Pr Lw R k) = u1F n B Pr Lw R k := by unfold upF; rw [if_neg hc]
    refine ⟨rfl, _, _, _, rfl, by rw [eU]; exact hM2u, hfA, hso.1, ?_, hsa⟩
    rw [if_neg (upF_how_n h4 hc)]
    exact hso.2
theorem kX2_goDown (G : au_G) (k wr n : Int) (B Pr : Int → Int) (Lw : au_Lw) (R : Int → Int) (A : Int → Int) (mi si hi sl : au_A → Int → Int) (r : au_A → Int → Option au_A) (nx : Nat) (hF : Fix r) (hW : mi MO 23 = wr) (hwr : wr = 0 ∨ wr = 1) (hE : EnA (mi MT) A n B Pr Lw) (hM : MRel wr A R) (hR : RowIn R n) (k0 : 0 ≤ k) (k1 : k < R 2) (hbd : below B (R (3 + 7 * k + 0)) (R (3 + 7 * k + 2))) : au_Ctr G yX2_goDown cX2_goDown 3 none 4 0 0 [au_r MO, au_i k] (rowS mi MA A, si, hi, sl, r, nx) (fun rv M' => rv = none ∧ ∃ (A' : Int → Int) (sj slj : au_A → Int → Int), M' = (rowS mi MA A', sj, hi, slj, r, nx) ∧ MRel wr A' (dnF n B Pr Lw R k) ∧ FrW wr A A' ∧ (sj MO 24 = if (dnT B R k) = R (3 + 7 * k + 0) then au_w (si MO 24 + 1) else si MO 24) ∧ sj MO 25 = si MO 25 ∧ sj MAside = si MAside) := by
  refine au_of (by decide) (Nat.le_of_ble_eq_true rfl) ?_
  have hB := hE.2.2.1
  have hb0 := hB.2.1
  have hb1 := hB.1
  have hP9 := hE.2.2.2.2.1
  obtain ⟨⟨r0, r0b⟩, ⟨r1, r1b⟩, ⟨r2, r2b⟩, ⟨r83, r83b⟩, rA⟩ := id hR
  obtain ⟨⟨f0, f0b⟩, ⟨t0, t0b⟩, ⟨p0, p0b⟩, ⟨s0, s0b⟩, ⟨z0, z0b⟩, ⟨g0, g0b⟩⟩ := id (rA k k0 k1)
  obtain ⟨gN, gE, gP⟩ := hE.g mi
  have gT := hE.gT
  obtain ⟨hz0, hz1, hz2⟩ := towards_bd hB p0 f0 f0b hbd
  have hz0 : 0 ≤ (dnT B R k) := hz0
  have hz1 : (dnT B R k) < n := hz1
  have hpb := hP9 _ hz0 hz1
  have hnI : ∀ j, 0 ≤ j → j < 19 → I32 (nmA B Pr n R k (dnT B R k) j) := by
    have hdk := dkN_bd (fun k w => R (3 + 7 * k + w)) (dnT B R k) k (R 2).toNat
    exact nmF_I hB hz0 hz1 hpb (by unfold I32; omega) (by unfold I32; omega) (by unfold I32; omega) (by unfold I32; omega) (by unfold I32; omega) (by unfold I32; omega)
  have hlw := lawV_bd Lw 2 (nmA B Pr n R k (dnT B R k)) (R (3 + 7 * k + 3) / 2) (top := 9999) (by decide)
  have hlw : 0 ≤ lawW n B Pr Lw R k (dnT B R k) ∧ lawW n B Pr Lw R k (dnT B R k) ≤ 9999 := hlw
  show au_Go G _ _ 0 [some (au_r MO), some (au_i k), none] [] (rowS mi MA A, si, hi, sl, r, nx) 0 0
  refine au_aload_n dX2_goDown_0 rfl ?_
  refine au_aload_n dX2_goDown_1 rfl ?_
  refine au_iload_n dX2_goDown_2 rfl ?_
  refine au_iconst dX2_goDown_3 rfl rfl ?_
  refine au_callVp (n := 2) (kX2_getR G k 2 R A mi si hi sl r nx hF hM.1 (by omega) (by omega) (by decide) (by decide)) (lw_V q1694 q1696 qs93 q134 q1697) rfl (by decide +kernel) (by decide) (T := TX2) (N := 35) rfl rfl rfl rfl (Nat.le_of_ble_eq_true rfl) (Nat.le_of_ble_eq_true rfl) (Nat.le_of_ble_eq_true rfl) (Nat.le_of_ble_eq_true rfl) (Nat.le_of_ble_eq_true rfl) dX2_goDown_4 ?_
  refine au_aload_n dX2_goDown_7 rfl ?_
  refine au_iload_n dX2_goDown_8 rfl ?_
  refine au_iconst dX2_goDown_9 rfl rfl ?_
  refine au_callVp (n := 2) (kX2_getR G k 0 R A mi si hi sl r nx hF hM.1 (by omega) (by omega) (by decide) (by decide)) (lw_V q1694 q1696 qs93 q134 q1697) rfl (by decide +kernel) (by decide) (T := TX2) (N := 35) rfl rfl rfl rfl (Nat.le_of_ble_eq_true rfl) (Nat.le_of_ble_eq_true rfl) (Nat.le_of_ble_eq_true rfl) (Nat.le_of_ble_eq_true rfl) (Nat.le_of_ble_eq_true rfl) dX2_goDown_10 ?_
  refine au_callVp (n := 2) (kX2_downTo G (R (3 + 7 * k + 2)) (R (3 + 7 * k + 0)) (rowS mi MA A) si hi sl r nx hF n gN B gE hB p0 f0 f0b hbd) (lw_V q1782 q1784 qs108 q134 q1785) rfl (by decide +kernel) (by decide) (T := TX2) (N := 35) rfl rfl rfl rfl (Nat.le_of_ble_eq_true rfl) (Nat.le_of_ble_eq_true rfl) (Nat.le_of_ble_eq_true rfl) (Nat.le_of_ble_eq_true rfl) (Nat.le_of_ble_eq_true rfl) dX2_goDown_13 ?_
  show au_Go G _ _ 16 [some (au_r MO), some (au_i k), none] [au_i (dnT B R k)] ((rowS mi MA A), si, hi, sl, r, nx) 0 0
  refine au_istore_n dX2_goDown_16 (show 2 < 3 by decide) ?_
  show au_Go G _ _ 17 [some (au_r MO), some (au_i k), some (au_i (dnT B R k))] [] ((rowS mi MA A), si, hi, sl, r, nx) 0 0
  refine au_aload_n dX2_goDown_17 rfl ?_
  refine au_iload_n dX2_goDown_18 rfl ?_
  refine au_iload_n dX2_goDown_19 rfl ?_
  refine au_callV (n := 2) (kX2_nameApology G k (dnT B R k) n B Pr Lw R (mi MT) A mi si hi sl r nx hF hE hM.1 hR k0 k1 hz0 hz1) (lw_V q1714 q1716 qs97 q134 q1717) rfl (by decide +kernel) (by decide) (T := TX2) (N := 35) rfl rfl rfl rfl (Nat.le_of_ble_eq_true rfl) (Nat.le_of_ble_eq_true rfl) (Nat.le_of_ble_eq_true rfl) (Nat.le_of_ble_eq_true rfl) (Nat.le_of_ble_eq_true rfl) dX2_goDown_20 (fun rv_ M_ hp_ => ?_)
  obtain ⟨rfl, s1, rfl, hs1, hnm1⟩ := hp_
  show au_Go G _ _ 23 [some (au_r MO), some (au_i k), some (au_i (dnT B R k))] [] ((rowS mi MA A), s1, hi, sl, r, nx) 0 0
  refine au_aload_n dX2_goDown_23 rfl ?_
  refine au_iload_n dX2_goDown_24 rfl ?_
  refine au_iconst dX2_goDown_25 rfl rfl ?_
  refine au_aload_n dX2_goDown_26 rfl ?_
  refine au_aload_n dX2_goDown_27 rfl ?_
  refine au_getf (C := RX2) (T := TX2) (N := 35) in_X2 (by decide) rfl 0 (by decide) rfl rfl q1359 rfl dX2_goDown_28 (v := au_r MA) (congrArg au_q (fx_MO_0 hF)) ?_
  refine au_iconst dX2_goDown_31 rfl rfl ?_
  refine au_iald dX2_goDown_32 rfl (by omega) (by show _ < ((4544 : Nat) : Int); omega) (v := au_i (A 2)) (congrArg au_i ((au_gi_m (au_reg_MA _)).trans (show rowS mi MA A MA 2 = A 2 from (rowS_self _ _ _ _).trans (rfl)))) ?_
  refine au_iconst dX2_goDown_33 rfl rfl ?_
  refine au_aload_n dX2_goDown_34 rfl ?_
  refine au_iload_n dX2_goDown_35 rfl ?_
  refine au_iconst dX2_goDown_36 rfl rfl ?_
  refine au_callVp (n := 2) (kX2_getR G k 3 R A mi s1 hi sl r nx hF hM.1 (by omega) (by omega) (by decide) (by decide)) (lw_V q1694 q1696 qs93 q134 q1697) rfl (by decide +kernel) (by decide) (T := TX2) (N := 35) rfl rfl rfl rfl (Nat.le_of_ble_eq_true rfl) (Nat.le_of_ble_eq_true rfl) (Nat.le_of_ble_eq_true rfl) (Nat.le_of_ble_eq_true rfl) (Nat.le_of_ble_eq_true rfl) dX2_goDown_37 ?_
  refine au_iconst dX2_goDown_40 rfl rfl ?_
  refine au_idiv dX2_goDown_41 (by omega) (by omega) ?_
  refine au_sipush dX2_goDown_42 rfl rfl ?_
  refine au_callV (n := 4) (kX2_says G (A 2) (R (3 + 7 * k + 3) / 2) 9999 2 Lw (nmA B Pr n R k (dnT B R k)) (rowS mi MA A) s1 hi sl r nx hF n gN B gE hB gT (by decide) (by decide) (by decide) hnm1 (fun j j0 j1 => (hnI j j0 (by omega)).w) (rkV_nm ⟨hb1, hb0⟩ _ _ _ _ _ _ _)) (lw_V q1734 q1736 qs102 q134 q1737) rfl (by decide +kernel) (by decide) (T := TX2) (N := 35) rfl rfl rfl rfl (Nat.le_of_ble_eq_true rfl) (Nat.le_of_ble_eq_true rfl) (Nat.le_of_ble_eq_true rfl) (Nat.le_of_ble_eq_true rfl) (Nat.le_of_ble_eq_true rfl) dX2_goDown_45 (fun rv_ M_ hp_ => ?_)
  obtain ⟨rfl, s2, l2, rfl, hf2, hf3⟩ := hp_
  show au_Go G _ _ 48 [some (au_r MO), some (au_i k), some (au_i (dnT B R k))] [au_i (lawW n B Pr Lw R k (dnT B R k)), au_i 3, au_i k, au_r MO] ((rowS mi MA A), s2, hi, l2, r, nx) 0 0
  refine au_callV (n := 3) (kX2_put G k 3 (lawW n B Pr Lw R k (dnT B R k)) A mi s2 hi l2 r nx hF (by omega) (by omega) (by decide) (by decide)) (lw_V q1674 q1676 qs90 q134 q1677) rfl (by decide +kernel) (by decide) (T := TX2) (N := 35) rfl rfl rfl rfl (Nat.le_of_ble_eq_true rfl) (Nat.le_of_ble_eq_true rfl) (Nat.le_of_ble_eq_true rfl) (Nat.le_of_ble_eq_true rfl) (Nat.le_of_ble_eq_true rfl) dX2_goDown_48 (fun rv_ M_ hp_ => ?_)
  obtain ⟨rfl, rfl⟩ := hp_
  show au_Go G _ _ 51 [some (au_r MO), some (au_i k), some (au_i (dnT B R k))] [] ((rowS mi MA (up1 A (20 + 7 * k + 3) (lawW n B Pr Lw R k (dnT B R k)))), s2, hi, l2, r, nx) 0 0
  refine au_aload_n dX2_goDown_51 rfl ?_
  refine au_iload_n dX2_goDown_52 rfl ?_
  refine au_iconst dX2_goDown_53 rfl rfl ?_
  refine au_iload_n dX2_goDown_54 rfl ?_
  refine au_callV (n := 3) (kX2_put G k 2 (dnT B R k) (up1 A (20 + 7 * k + 3) (lawW n B Pr Lw R k (dnT B R k))) mi s2 hi l2 r nx hF (by omega) (by omega) (by decide) (by decide)) (lw_V q1674 q1676 qs90 q134 q1677) rfl (by decide +kernel) (by decide) (T := TX2) (N := 35) rfl rfl rfl rfl (Nat.le_of_ble_eq_true rfl) (Nat.le_of_ble_eq_true rfl) (Nat.le_of_ble_eq_true rfl) (Nat.le_of_ble_eq_true rfl) (Nat.le_of_ble_eq_true rfl) dX2_goDown_55 (fun rv_ M_ hp_ => ?_)
  obtain ⟨rfl, rfl⟩ := hp_
  show au_Go G _ _ 58 [some (au_r MO), some (au_i k), some (au_i (dnT B R k))] [] ((rowS mi MA (up1 (up1 A (20 + 7 * k + 3) (lawW n B Pr Lw R k (dnT B R k))) (20 + 7 * k + 2) (dnT B R k))), s2, hi, l2, r, nx) 0 0
  have hM2 : MRel wr _ (up1 (up1 R (3 + 7 * k + 3) (lawW n B Pr Lw R k (dnT B R k))) (3 + 7 * k + 2) (dnT B R k)) := (hM.put (lawW n B Pr Lw R k (dnT B R k)) k0 (by omega) (by decide) (by decide)).put (dnT B R k) k0 (by omega) (by decide) (by decide)
  have hfA : FrW wr A _ := (FrW.up wr A (lawW n B Pr Lw R k (dnT B R k)) (j := 20 + 7 * k + 3) (by omega) (by omega) (by omega)).tr (FrW.up wr _ (dnT B R k) (j := 20 + 7 * k + 2) (by omega) (by omega) (by omega))
  have hso : s2 MO 24 = si MO 24 ∧ s2 MO 25 = si MO 25 := ⟨(congrFun (hf2 MO (by decide)) 24).trans (congrFun (hs1 MO (by decide)) 24), (congrFun (hf2 MO (by decide)) 25).trans (congrFun (hs1 MO (by decide)) 25)⟩
  have hsa : s2 MAside = si MAside := (hf2 MAside (by decide)).trans (hs1 MAside (by decide))
  have e1 : (up1 (up1 R (3 + 7 * k + 3) (lawW n B Pr Lw R k (dnT B R k))) (3 + 7 * k + 2) (dnT B R k)) (3 + 7 * k + 0) = R (3 + 7 * k + 0) := (up1_ne _ _ (by omega)).trans (up1_ne _ _ (by omega))
  refine au_iload_n dX2_goDown_58 rfl ?_
  refine au_aload_n dX2_goDown_59 rfl ?_
  refine au_iload_n dX2_goDown_60 rfl ?_
  refine au_iconst dX2_goDown_61 rfl rfl ?_
  refine au_callVp (n := 2) (kX2_getR G k 0 (up1 (up1 R (3 + 7 * k + 3) (lawW n B Pr Lw R k (dnT B R k))) (3 + 7 * k + 2) (dnT B R k)) (up1 (up1 A (20 + 7 * k + 3) (lawW n B Pr Lw R k (dnT B R k))) (20 + 7 * k + 2) (dnT B R k)) mi s2 hi l2 r nx hF hM2.1 (by omega) (by omega) (by decide) (by decide)) (lw_V q1694 q1696 qs93 q134 q1697) rfl (by decide +kernel) (by decide) (T := TX2) (N := 35) rfl rfl rfl rfl (Nat.le_of_ble_eq_true rfl) (Nat.le_of_ble_eq_true rfl) (Nat.le_of_ble_eq_true rfl) (Nat.le_of_ble_eq_true rfl) (Nat.le_of_ble_eq_true rfl) dX2_goDown_62 ?_
  refine au_icmp_ne (tgt := 74) dX2_goDown_65 (by decide) (fun c65 => ?_) (fun c65 => ?_)
  · refine au_vret dX2_goDown_74 rfl rfl (Nat.le_of_ble_eq_true rfl) (Nat.le_of_ble_eq_true rfl) ?_
    first
    | (have hc : ¬ (dnT B R k) = R (3 + 7 * k + 0) := fun z => c65 (by rw [e1]; exact z)
       have eD : (dnF n B Pr Lw R k) = (up1 (up1 R (3 + 7 * k + 3) (lawW n B Pr Lw R k (dnT B R k))) (3 + 7 * k + 2) (dnT B R k)) := by unfold dnF; rw [if_neg hc]; rfl
       refine ⟨rfl, _, _, _, rfl, by rw [eD]; exact hM2, hfA, ?_, hso.2, hsa⟩
       rw [if_neg hc]
       exact hso.1)
    | (have hc : (dnT B R k) = R (3 + 7 * k + 0) := by rw [e1] at c65; exact c65
       have eD : (dnF n B Pr Lw R k) = wrF (up1 (up1 (up1 R (3 + 7 * k + 3) (lawW n B Pr Lw R k (dnT B R k))) (3 + 7 * k + 2) (dnT B R k)) (3 + 7 * k + 4) 2) k 2 := by unfold dnF; rw [if_pos hc]; rfl
       refine ⟨rfl, A3, _, _, rfl, by rw [eD]; exact hM3, hfA.tr hf4, ?_, (au_up_ne _ _ (by decide)).trans hso.2, (au_up_neF _ _ _ (by decide)).trans hsa⟩
       rw [if_pos hc, ← hso.1]
       exact au_up_self _ _ _ _)
  · have hk2 : k < (up1 (up1 R (3 + 7 * k + 3) (lawW n B Pr Lw R k (dnT B R k))) (3 + 7 * k + 2) (dnT B R k)) 2 := by rw [up1_ne _ _ (by omega), up1_ne _ _ (by omega)]; exact k1
    have hR2 : RowIn (up1 (up1 R (3 + 7 * k + 3) (lawW n B Pr Lw R k (dnT B R k))) (3 + 7 * k + 2) (dnT B R k)) n := (hR.up k0 k1 (w := 3) (v := lawW n B Pr Lw R k (dnT B R k)) (by decide) (by decide) ⟨by omega, by intro _; exact hlw, by omega, by omega⟩).up k0 (by rw [up1_ne _ _ (by omega)]; exact k1) (w := 2) (v := (dnT B R k)) (by decide) (by decide) ⟨by intro _; omega, by omega, by omega, by omega⟩
    refine au_aload_n dX2_goDown_68 rfl ?_
    refine au_iload_n dX2_goDown_69 rfl ?_
    refine au_iconst dX2_goDown_70 rfl rfl ?_
    refine au_callV (n := 2) (kX2_finish G k 2 wr (up1 (up1 R (3 + 7 * k + 3) (lawW n B Pr Lw R k (dnT B R k))) (3 + 7 * k + 2) (dnT B R k)) (up1 (up1 A (20 + 7 * k + 3) (lawW n B Pr Lw R k (dnT B R k))) (20 + 7 * k + 2) (dnT B R k)) mi s2 hi l2 r nx hF hW hwr hM2 k0 (by omega) (by decide) (by decide) hR2.2.2.2.1 ⟨hR2.1.1, by have := hR2.1.2; omega⟩ (hR2.2.2.2.2 k k0 hk2).2.2.2.1) (lw_V q1786 q1788 qs109 q134 q1789) rfl (by decide +kernel) (by decide) (T := TX2) (N := 35) rfl rfl rfl rfl (Nat.le_of_ble_eq_true rfl) (Nat.le_of_ble_eq_true rfl) (Nat.le_of_ble_eq_true rfl) (Nat.le_of_ble_eq_true rfl) (Nat.le_of_ble_eq_true rfl) dX2_goDown_71 (fun rv_ M_ hp_ => ?_)
    obtain ⟨rfl, A3, s3, rfl, hM3, hf4, rfl⟩ := hp_
    show au_Go G _ _ 74 [some (au_r MO), some (au_i k), some (au_i (dnT B R k))] [] ((rowS mi MA A3), (au_up s2 MO 24 (au_w (s2 MO 24 + 1))), hi, l2, r, nx) 0 0
    refine au_vret dX2_goDown_74 rfl rfl (Nat.le_of_ble_eq_true rfl) (Nat.le_of_ble_eq_true rfl) ?_
    first
    | (have hc : ¬ (dnT B R k) = R (3 + 7 * k + 0) := fun z => c65 (by rw [e1]; exact z)
       have eD : (dnF n B Pr Lw R k) = (up1 (up1 R (3 + 7 * k + 3) (lawW n B Pr Lw R k (dnT B R k))) (3 + 7 * k + 2) (dnT B R k)) := by unfold dnF; rw [if_neg hc]; rfl
       refine ⟨rfl, _, _, _, rfl, by rw [eD]; exact hM2, hfA, ?_, hso.2, hsa⟩
       rw [if_neg hc]
       exact hso.1)
    | (have hc : (dnT B R k) = R (3 + 7 * k + 0) := by rw [e1] at c65; exact c65
       have eD : (dnF n B Pr Lw R k) = wrF (up1 (up1 (up1 R (3 + 7 * k + 3) (lawW n B Pr Lw R k (dnT B R k))) (3 + 7 * k + 2) (dnT B R k)) (3 + 7 * k + 4) 2) k 2 := by unfold dnF; rw [if_pos hc]; rfl
       refine ⟨rfl, A3, _, _, rfl, by rw [eD]; exact hM3, hfA.tr hf4, ?_, (au_up_ne _ _ (by decide)).trans hso.2, (au_up_neF _ _ _ (by decide)).trans hsa⟩
       rw [if_pos hc, ← hso.1]
       exact au_up_self _ _ _ _)
theorem kX2_merge (G : au_G) (a b wr n : Int) (R : Int → Int) (A : Int → Int) (mi si hi sl : au_A → Int → Int) (r : au_A → Int → Option au_A) (nx : Nat) (hF : Fix r) (hW : mi MO 23 = wr) (hwr : wr = 0 ∨ wr = 1) (hM : MRel wr A R) (hR : RowIn R n) (a0 : 0 ≤ a) (ab : a < b) (b1 : b < R 2) : au_Ctr G yX2_merge cX2_merge 5 none 3 0 0 [au_r MO, au_i a, au_i b] (rowS mi MA A, si, hi, sl, r, nx) (fun rv M' => rv = none ∧ ∃ (A' : Int → Int) (sj : au_A → Int → Int), M' = (rowS mi MA A', sj, hi, sl, r, nx) ∧ MRel wr A' (mgF R a b) ∧ FrW wr A A' ∧ sj MO 24 = au_w (si MO 24 + 1) ∧ sj MO 25 = si MO 25 ∧ sj MAside = si MAside) := by
  refine au_of (by decide) (Nat.le_of_ble_eq_true rfl) ?_
  obtain ⟨r2, r2b⟩ := hR.2.2.1
  obtain ⟨sa, sab⟩ := (hR.2.2.2.2 a a0 (by omega)).2.2.2.1
  obtain ⟨sb, sbb⟩ := (hR.2.2.2.2 b (by omega) b1).2.2.2.1
  show au_Go G _ _ 0 [some (au_r MO), some (au_i a), some (au_i b), none, none] [] (rowS mi MA A, si, hi, sl, r, nx) 0 0
  refine au_aload_n dX2_merge_0 rfl ?_
  refine au_iload_n dX2_merge_1 rfl ?_
  refine au_iconst dX2_merge_2 rfl rfl ?_
  refine au_callVp (n := 2) (kX2_getR G a 3 R A mi si hi sl r nx hF hM.1 (by omega) (by omega) (by decide) (by decide)) (lw_V q1694 q1696 qs93 q134 q1697) rfl (by decide +kernel) (by decide) (T := TX2) (N := 35) rfl rfl rfl rfl (Nat.le_of_ble_eq_true rfl) (Nat.le_of_ble_eq_true rfl) (Nat.le_of_ble_eq_true rfl) (Nat.le_of_ble_eq_true rfl) (Nat.le_of_ble_eq_true rfl) dX2_merge_3 ?_
  refine au_aload_n dX2_merge_6 rfl ?_
  refine au_iload_n dX2_merge_7 rfl ?_
  refine au_iconst dX2_merge_8 rfl rfl ?_
  refine au_callVp (n := 2) (kX2_getR G b 3 R A mi si hi sl r nx hF hM.1 (by omega) (by omega) (by decide) (by decide)) (lw_V q1694 q1696 qs93 q134 q1697) rfl (by decide +kernel) (by decide) (T := TX2) (N := 35) rfl rfl rfl rfl (Nat.le_of_ble_eq_true rfl) (Nat.le_of_ble_eq_true rfl) (Nat.le_of_ble_eq_true rfl) (Nat.le_of_ble_eq_true rfl) (Nat.le_of_ble_eq_true rfl) dX2_merge_9 ?_
  refine au_icmp_le (tgt := 24) dX2_merge_12 (by decide) (fun c12 => ?_) (fun c12 => ?_)
  · refine au_aload_n dX2_merge_24 rfl ?_
    refine au_iload_n dX2_merge_25 rfl ?_
    refine au_iconst dX2_merge_26 rfl rfl ?_
    refine au_callVp (n := 2) (kX2_getR G b 3 R A mi si hi sl r nx hF hM.1 (by omega) (by omega) (by decide) (by decide)) (lw_V q1694 q1696 qs93 q134 q1697) rfl (by decide +kernel) (by decide) (T := TX2) (N := 35) rfl rfl rfl rfl (Nat.le_of_ble_eq_true rfl) (Nat.le_of_ble_eq_true rfl) (Nat.le_of_ble_eq_true rfl) (Nat.le_of_ble_eq_true rfl) (Nat.le_of_ble_eq_true rfl) dX2_merge_27 ?_
    refine au_istore_n dX2_merge_30 (show 3 < 5 by decide) ?_
    show au_Go G _ _ 31 [some (au_r MO), some (au_i a), some (au_i b), some (au_i (R (3 + 7 * b + 3))), none] [] ((rowS mi MA A), si, hi, sl, r, nx) 0 0
    refine au_aload_n dX2_merge_31 rfl ?_
    refine au_iload_n dX2_merge_32 rfl ?_
    refine au_iconst dX2_merge_33 rfl rfl ?_
    refine au_callVp (n := 2) (kX2_getR G a 3 R A mi si hi sl r nx hF hM.1 (by omega) (by omega) (by decide) (by decide)) (lw_V q1694 q1696 qs93 q134 q1697) rfl (by decide +kernel) (by decide) (T := TX2) (N := 35) rfl rfl rfl rfl (Nat.le_of_ble_eq_true rfl) (Nat.le_of_ble_eq_true rfl) (Nat.le_of_ble_eq_true rfl) (Nat.le_of_ble_eq_true rfl) (Nat.le_of_ble_eq_true rfl) dX2_merge_34 ?_
    refine au_aload_n dX2_merge_37 rfl ?_
    refine au_iload_n dX2_merge_38 rfl ?_
    refine au_iconst dX2_merge_39 rfl rfl ?_
    refine au_callVp (n := 2) (kX2_getR G b 3 R A mi si hi sl r nx hF hM.1 (by omega) (by omega) (by decide) (by decide)) (lw_V q1694 q1696 qs93 q134 q1697) rfl (by decide +kernel) (by decide) (T := TX2) (N := 35) rfl rfl rfl rfl (Nat.le_of_ble_eq_true rfl) (Nat.le_of_ble_eq_true rfl) (Nat.le_of_ble_eq_true rfl) (Nat.le_of_ble_eq_true rfl) (Nat.le_of_ble_eq_true rfl) dX2_merge_40 ?_
    refine au_iadd dX2_merge_43 (by omega) (by omega) ?_
    refine au_iload_n dX2_merge_44 rfl ?_
    refine au_isub dX2_merge_45 (by omega) (by omega) ?_
    refine au_istore dX2_merge_46 (show 4 < 5 by decide) ?_
    show au_Go G _ _ 48 [some (au_r MO), some (au_i a), some (au_i b), some (au_i (R (3 + 7 * b + 3))), some (au_i (((R (3 + 7 * a + 3)) + (R (3 + 7 * b + 3))) - (R (3 + 7 * b + 3))))] [] ((rowS mi MA A), si, hi, sl, r, nx) 0 0
    refine au_aload_n dX2_merge_48 rfl ?_
    refine au_iload_n dX2_merge_49 rfl ?_
    refine au_iconst dX2_merge_50 rfl rfl ?_
    refine au_iload_n dX2_merge_51 rfl ?_
    refine au_iload dX2_merge_52 rfl ?_
    refine au_iconst dX2_merge_54 rfl rfl ?_
    refine au_idiv dX2_merge_55 (by omega) (by omega) ?_
    refine au_iadd dX2_merge_56 (by omega) (by omega) ?_
    refine au_i2l dX2_merge_57 ?_
    refine au_iconst dX2_merge_58 rfl rfl ?_
    refine au_sipush dX2_merge_59 rfl rfl ?_
    refine au_callSp (n := 3) (kX2_cut9 G _ (min 9999 (max (R (3 + 7 * a + 3)) (R (3 + 7 * b + 3)) + min (R (3 + 7 * a + 3)) (R (3 + 7 * b + 3)) / 2)) (by omega) _) (lw_S q1764 q1765 q134 q1766) (by decide +kernel) rfl rfl rfl (Nat.le_of_ble_eq_true rfl) (Nat.le_of_ble_eq_true rfl) (Nat.le_of_ble_eq_true rfl) (Nat.le_of_ble_eq_true rfl) (Nat.le_of_ble_eq_true rfl) dX2_merge_62 ?_
    refine au_callV (n := 3) (kX2_put G a 3 (min 9999 (max (R (3 + 7 * a + 3)) (R (3 + 7 * b + 3)) + min (R (3 + 7 * a + 3)) (R (3 + 7 * b + 3)) / 2)) A mi si hi sl r nx hF (by omega) (by omega) (by decide) (by decide)) (lw_V q1674 q1676 qs90 q134 q1677) rfl (by decide +kernel) (by decide) (T := TX2) (N := 35) rfl rfl rfl rfl (Nat.le_of_ble_eq_true rfl) (Nat.le_of_ble_eq_true rfl) (Nat.le_of_ble_eq_true rfl) (Nat.le_of_ble_eq_true rfl) (Nat.le_of_ble_eq_true rfl) dX2_merge_65 (fun rv_ M_ hp_ => ?_)
    obtain ⟨rfl, rfl⟩ := hp_
    show au_Go G _ _ 68 [some (au_r MO), some (au_i a), some (au_i b), some (au_i (R (3 + 7 * b + 3))), some (au_i (((R (3 + 7 * a + 3)) + (R (3 + 7 * b + 3))) - (R (3 + 7 * b + 3))))] [] ((rowS mi MA (up1 A (20 + 7 * a + 3) (min 9999 (max (R (3 + 7 * a + 3)) (R (3 + 7 * b + 3)) + min (R (3 + 7 * a + 3)) (R (3 + 7 * b + 3)) / 2)))), si, hi, sl, r, nx) 0 0
    refine au_aload_n dX2_merge_68 rfl ?_
    refine au_iload_n dX2_merge_69 rfl ?_
    refine au_iconst dX2_merge_70 rfl rfl ?_
    refine au_iconst dX2_merge_71 rfl rfl ?_
    refine au_callV (n := 3) (kX2_put G b 3 0 (up1 A (20 + 7 * a + 3) (min 9999 (max (R (3 + 7 * a + 3)) (R (3 + 7 * b + 3)) + min (R (3 + 7 * a + 3)) (R (3 + 7 * b + 3)) / 2))) mi si hi sl r nx hF (by omega) (by omega) (by decide) (by decide)) (lw_V q1674 q1676 qs90 q134 q1677) rfl (by decide +kernel) (by decide) (T := TX2) (N := 35) rfl rfl rfl rfl (Nat.le_of_ble_eq_true rfl) (Nat.le_of_ble_eq_true rfl) (Nat.le_of_ble_eq_true rfl) (Nat.le_of_ble_eq_true rfl) (Nat.le_of_ble_eq_true rfl) dX2_merge_72 (fun rv_ M_ hp_ => ?_)
    obtain ⟨rfl, rfl⟩ := hp_
    show au_Go G _ _ 75 [some (au_r MO), some (au_i a), some (au_i b), some (au_i (R (3 + 7 * b + 3))), some (au_i (((R (3 + 7 * a + 3)) + (R (3 + 7 * b + 3))) - (R (3 + 7 * b + 3))))] [] ((rowS mi MA (up1 (up1 A (20 + 7 * a + 3) (min 9999 (max (R (3 + 7 * a + 3)) (R (3 + 7 * b + 3)) + min (R (3 + 7 * a + 3)) (R (3 + 7 * b + 3)) / 2))) (20 + 7 * b + 3) 0)), si, hi, sl, r, nx) 0 0
    have hM2 : MRel wr _ (up1 (up1 R (3 + 7 * a + 3) (min 9999 (max (R (3 + 7 * a + 3)) (R (3 + 7 * b + 3)) + min (R (3 + 7 * a + 3)) (R (3 + 7 * b + 3)) / 2))) (3 + 7 * b + 3) 0) := (hM.put (min 9999 (max (R (3 + 7 * a + 3)) (R (3 + 7 * b + 3)) + min (R (3 + 7 * a + 3)) (R (3 + 7 * b + 3)) / 2)) a0 (by omega) (by decide) (by decide)).put 0 (by omega) (by omega) (by decide) (by decide)
    have hfA : FrW wr A _ := (FrW.up wr A (min 9999 (max (R (3 + 7 * a + 3)) (R (3 + 7 * b + 3)) + min (R (3 + 7 * a + 3)) (R (3 + 7 * b + 3)) / 2)) (j := 20 + 7 * a + 3) (by omega) (by omega) (by omega)).tr (FrW.up wr _ 0 (j := 20 + 7 * b + 3) (by omega) (by omega) (by omega))
    have hb2 : b < (up1 (up1 R (3 + 7 * a + 3) (min 9999 (max (R (3 + 7 * a + 3)) (R (3 + 7 * b + 3)) + min (R (3 + 7 * a + 3)) (R (3 + 7 * b + 3)) / 2))) (3 + 7 * b + 3) 0) 2 := by rw [up1_ne _ _ (by omega), up1_ne _ _ (by omega)]; exact b1
    have hR2 : RowIn (up1 (up1 R (3 + 7 * a + 3) (min 9999 (max (R (3 + 7 * a + 3)) (R (3 + 7 * b + 3)) + min (R (3 + 7 * a + 3)) (R (3 + 7 * b + 3)) / 2))) (3 + 7 * b + 3) 0) n := (hR.up a0 (by omega) (w := 3) (v := (min 9999 (max (R (3 + 7 * a + 3)) (R (3 + 7 * b + 3)) + min (R (3 + 7 * a + 3)) (R (3 + 7 * b + 3)) / 2))) (by decide) (by decide) ⟨by omega, by intro _; omega, by omega, by omega⟩).up (by omega) (by rw [up1_ne _ _ (by omega)]; exact b1) (w := 3) (v := 0) (by decide) (by decide) ⟨by omega, by intro _; omega, by omega, by omega⟩
    refine au_aload_n dX2_merge_75 rfl ?_
    refine au_iload_n dX2_merge_76 rfl ?_
    refine au_iconst dX2_merge_77 rfl rfl ?_
    refine au_callV (n := 2) (kX2_finish G b 3 wr (up1 (up1 R (3 + 7 * a + 3) (min 9999 (max (R (3 + 7 * a + 3)) (R (3 + 7 * b + 3)) + min (R (3 + 7 * a + 3)) (R (3 + 7 * b + 3)) / 2))) (3 + 7 * b + 3) 0) (up1 (up1 A (20 + 7 * a + 3) (min 9999 (max (R (3 + 7 * a + 3)) (R (3 + 7 * b + 3)) + min (R (3 + 7 * a + 3)) (R (3 + 7 * b + 3)) / 2))) (20 + 7 * b + 3) 0) mi si hi sl r nx hF hW hwr hM2 (by omega) (by omega) (by decide) (by decide) hR2.2.2.2.1 ⟨hR2.1.1, by have := hR2.1.2; omega⟩ (hR2.2.2.2.2 b (by omega) hb2).2.2.2.1) (lw_V q1786 q1788 qs109 q134 q1789) rfl (by decide +kernel) (by decide) (T := TX2) (N := 35) rfl rfl rfl rfl (Nat.le_of_ble_eq_true rfl) (Nat.le_of_ble_eq_true rfl) (Nat.le_of_ble_eq_true rfl) (Nat.le_of_ble_eq_true rfl) (Nat.le_of_ble_eq_true rfl) dX2_merge_78 (fun rv_ M_ hp_ => ?_)
    obtain ⟨rfl, A3, s3, rfl, hM3, hf4, rfl⟩ := hp_
    show au_Go G _ _ 81 [some (au_r MO), some (au_i a), some (au_i b), some (au_i (R (3 + 7 * b + 3))), some (au_i (((R (3 + 7 * a + 3)) + (R (3 + 7 * b + 3))) - (R (3 + 7 * b + 3))))] [] ((rowS mi MA A3), (au_up si MO 24 (au_w (si MO 24 + 1))), hi, sl, r, nx) 0 0
    exact au_vret dX2_merge_81 rfl rfl (Nat.le_of_ble_eq_true rfl) (Nat.le_of_ble_eq_true rfl) (⟨rfl, A3, _, rfl, hM3, hfA.tr hf4, au_up_self _ _ _ _, au_up_ne _ _ (by decide), au_up_neF _ _ _ (by decide)⟩)
  · refine au_aload_n dX2_merge_15 rfl ?_
    refine au_iload_n dX2_merge_16 rfl ?_
    refine au_iconst dX2_merge_17 rfl rfl ?_
    refine au_callVp (n := 2) (kX2_getR G a 3 R A mi si hi sl r nx hF hM.1 (by omega) (by omega) (by decide) (by decide)) (lw_V q1694 q1696 qs93 q134 q1697) rfl (by decide +kernel) (by decide) (T := TX2) (N := 35) rfl rfl rfl rfl (Nat.le_of_ble_eq_true rfl) (Nat.le_of_ble_eq_true rfl) (Nat.le_of_ble_eq_true rfl) (Nat.le_of_ble_eq_true rfl) (Nat.le_of_ble_eq_true rfl) dX2_merge_18 ?_
    refine au_goto (tgt := 30) dX2_merge_21 (by decide) ?_
    refine au_istore_n dX2_merge_30 (show 3 < 5 by decide) ?_
    show au_Go G _ _ 31 [some (au_r MO), some (au_i a), some (au_i b), some (au_i (R (3 + 7 * a + 3))), none] [] ((rowS mi MA A), si, hi, sl, r, nx) 0 0
    refine au_aload_n dX2_merge_31 rfl ?_
    refine au_iload_n dX2_merge_32 rfl ?_
    refine au_iconst dX2_merge_33 rfl rfl ?_
    refine au_callVp (n := 2) (kX2_getR G a 3 R A mi si hi sl r nx hF hM.1 (by omega) (by omega) (by decide) (by decide)) (lw_V q1694 q1696 qs93 q134 q1697) rfl (by decide +kernel) (by decide) (T := TX2) (N := 35) rfl rfl rfl rfl (Nat.le_of_ble_eq_true rfl) (Nat.le_of_ble_eq_true rfl) (Nat.le_of_ble_eq_true rfl) (Nat.le_of_ble_eq_true rfl) (Nat.le_of_ble_eq_true rfl) dX2_merge_34 ?_
    refine au_aload_n dX2_merge_37 rfl ?_
    refine au_iload_n dX2_merge_38 rfl ?_
    refine au_iconst dX2_merge_39 rfl rfl ?_
    refine au_callVp (n := 2) (kX2_getR G b 3 R A mi si hi sl r nx hF hM.1 (by omega) (by omega) (by decide) (by decide)) (lw_V q1694 q1696 qs93 q134 q1697) rfl (by decide +kernel) (by decide) (T := TX2) (N := 35) rfl rfl rfl rfl (Nat.le_of_ble_eq_true rfl) (Nat.le_of_ble_eq_true rfl) (Nat.le_of_ble_eq_true rfl) (Nat.le_of_ble_eq_true rfl) (Nat.le_of_ble_eq_true rfl) dX2_merge_40 ?_
    refine au_iadd dX2_merge_43 (by omega) (by omega) ?_
    refine au_iload_n dX2_merge_44 rfl ?_
    refine au_isub dX2_merge_45 (by omega) (by omega) ?_
    refine au_istore dX2_merge_46 (show 4 < 5 by decide) ?_
    show au_Go G _ _ 48 [some (au_r MO), some (au_i a), some (au_i b), some (au_i (R (3 + 7 * a + 3))), some (au_i (((R (3 + 7 * a + 3)) + (R (3 + 7 * b + 3))) - (R (3 + 7 * a + 3))))] [] ((rowS mi MA A), si, hi, sl, r, nx) 0 0
    refine au_aload_n dX2_merge_48 rfl ?_
    refine au_iload_n dX2_merge_49 rfl ?_
    refine au_iconst dX2_merge_50 rfl rfl ?_
    refine au_iload_n dX2_merge_51 rfl ?_
    refine au_iload dX2_merge_52 rfl ?_
    refine au_iconst dX2_merge_54 rfl rfl ?_
    refine au_idiv dX2_merge_55 (by omega) (by omega) ?_
    refine au_iadd dX2_merge_56 (by omega) (by omega) ?_
    refine au_i2l dX2_merge_57 ?_
    refine au_iconst dX2_merge_58 rfl rfl ?_
    refine au_sipush dX2_merge_59 rfl rfl ?_
    refine au_callSp (n := 3) (kX2_cut9 G _ (min 9999 (max (R (3 + 7 * a + 3)) (R (3 + 7 * b + 3)) + min (R (3 + 7 * a + 3)) (R (3 + 7 * b + 3)) / 2)) (by omega) _) (lw_S q1764 q1765 q134 q1766) (by decide +kernel) rfl rfl rfl (Nat.le_of_ble_eq_true rfl) (Nat.le_of_ble_eq_true rfl) (Nat.le_of_ble_eq_true rfl) (Nat.le_of_ble_eq_true rfl) (Nat.le_of_ble_eq_true rfl) dX2_merge_62 ?_
    refine au_callV (n := 3) (kX2_put G a 3 (min 9999 (max (R (3 + 7 * a + 3)) (R (3 + 7 * b + 3)) + min (R (3 + 7 * a + 3)) (R (3 + 7 * b + 3)) / 2)) A mi si hi sl r nx hF (by omega) (by omega) (by decide) (by decide)) (lw_V q1674 q1676 qs90 q134 q1677) rfl (by decide +kernel) (by decide) (T := TX2) (N := 35) rfl rfl rfl rfl (Nat.le_of_ble_eq_true rfl) (Nat.le_of_ble_eq_true rfl) (Nat.le_of_ble_eq_true rfl) (Nat.le_of_ble_eq_true rfl) (Nat.le_of_ble_eq_true rfl) dX2_merge_65 (fun rv_ M_ hp_ => ?_)
    obtain ⟨rfl, rfl⟩ := hp_
    show au_Go G _ _ 68 [some (au_r MO), some (au_i a), some (au_i b), some (au_i (R (3 + 7 * a + 3))), some (au_i (((R (3 + 7 * a + 3)) + (R (3 + 7 * b + 3))) - (R (3 + 7 * a + 3))))] [] ((rowS mi MA (up1 A (20 + 7 * a + 3) (min 9999 (max (R (3 + 7 * a + 3)) (R (3 + 7 * b + 3)) + min (R (3 + 7 * a + 3)) (R (3 + 7 * b + 3)) / 2)))), si, hi, sl, r, nx) 0 0
    refine au_aload_n dX2_merge_68 rfl ?_
    refine au_iload_n dX2_merge_69 rfl ?_
    refine au_iconst dX2_merge_70 rfl rfl ?_
    refine au_iconst dX2_merge_71 rfl rfl ?_
    refine au_callV (n := 3) (kX2_put G b 3 0 (up1 A (20 + 7 * a + 3) (min 9999 (max (R (3 + 7 * a + 3)) (R (3 + 7 * b + 3)) + min (R (3 + 7 * a + 3)) (R (3 + 7 * b + 3)) / 2))) mi si hi sl r nx hF (by omega) (by omega) (by decide) (by decide)) (lw_V q1674 q1676 qs90 q134 q1677) rfl (by decide +kernel) (by decide) (T := TX2) (N := 35) rfl rfl rfl rfl (Nat.le_of_ble_eq_true rfl) (Nat.le_of_ble_eq_true rfl) (Nat.le_of_ble_eq_true rfl) (Nat.le_of_ble_eq_true rfl) (Nat.le_of_ble_eq_true rfl) dX2_merge_72 (fun rv_ M_ hp_ => ?_)
    obtain ⟨rfl, rfl⟩ := hp_
    show au_Go G _ _ 75 [some (au_r MO), some (au_i a), some (au_i b), some (au_i (R (3 + 7 * a + 3))), some (au_i (((R (3 + 7 * a + 3)) + (R (3 + 7 * b + 3))) - (R (3 + 7 * a + 3))))] [] ((rowS mi MA (up1 (up1 A (20 + 7 * a + 3) (min 9999 (max (R (3 + 7 * a + 3)) (R (3 + 7 * b + 3)) + min (R (3 + 7 * a + 3)) (R (3 + 7 * b + 3)) / 2))) (20 + 7 * b + 3) 0)), si, hi, sl, r, nx) 0 0
    have hM2 : MRel wr _ (up1 (up1 R (3 + 7 * a + 3) (min 9999 (max (R (3 + 7 * a + 3)) (R (3 + 7 * b + 3)) + min (R (3 + 7 * a + 3)) (R (3 + 7 * b + 3)) / 2))) (3 + 7 * b + 3) 0) := (hM.put (min 9999 (max (R (3 + 7 * a + 3)) (R (3 + 7 * b + 3)) + min (R (3 + 7 * a + 3)) (R (3 + 7 * b + 3)) / 2)) a0 (by omega) (by decide) (by decide)).put 0 (by omega) (by omega) (by decide) (by decide)
    have hfA : FrW wr A _ := (FrW.up wr A (min 9999 (max (R (3 + 7 * a + 3)) (R (3 + 7 * b + 3)) + min (R (3 + 7 * a + 3)) (R (3 + 7 * b + 3)) / 2)) (j := 20 + 7 * a + 3) (by omega) (by omega) (by omega)).tr (FrW.up wr _ 0 (j := 20 + 7 * b + 3) (by omega) (by omega) (by omega))
    have hb2 : b < (up1 (up1 R (3 + 7 * a + 3) (min 9999 (max (R (3 + 7 * a + 3)) (R (3 + 7 * b + 3)) + min (R (3 + 7 * a + 3)) (R (3 + 7 * b + 3)) / 2))) (3 + 7 * b + 3) 0) 2 := by rw [up1_ne _ _ (by omega), up1_ne _ _ (by omega)]; exact b1
    have hR2 : RowIn (up1 (up1 R (3 + 7 * a + 3) (min 9999 (max (R (3 + 7 * a + 3)) (R (3 + 7 * b + 3)) + min (R (3 + 7 * a + 3)) (R (3 + 7 * b + 3)) / 2))) (3 + 7 * b + 3) 0) n := (hR.up a0 (by omega) (w := 3) (v := (min 9999 (max (R (3 + 7 * a + 3)) (R (3 + 7 * b + 3)) + min (R (3 + 7 * a + 3)) (R (3 + 7 * b + 3)) / 2))) (by decide) (by decide) ⟨by omega, by intro _; omega, by omega, by omega⟩).up (by omega) (by rw [up1_ne _ _ (by omega)]; exact b1) (w := 3) (v := 0) (by decide) (by decide) ⟨by omega, by intro _; omega, by omega, by omega⟩
    refine au_aload_n dX2_merge_75 rfl ?_
    refine au_iload_n dX2_merge_76 rfl ?_
    refine au_iconst dX2_merge_77 rfl rfl ?_
    refine au_callV (n := 2) (kX2_finish G b 3 wr (up1 (up1 R (3 + 7 * a + 3) (min 9999 (max (R (3 + 7 * a + 3)) (R (3 + 7 * b + 3)) + min (R (3 + 7 * a + 3)) (R (3 + 7 * b + 3)) / 2))) (3 + 7 * b + 3) 0) (up1 (up1 A (20 + 7 * a + 3) (min 9999 (max (R (3 + 7 * a + 3)) (R (3 + 7 * b + 3)) + min (R (3 + 7 * a + 3)) (R (3 + 7 * b + 3)) / 2))) (20 + 7 * b + 3) 0) mi si hi sl r nx hF hW hwr hM2 (by omega) (by omega) (by decide) (by decide) hR2.2.2.2.1 ⟨hR2.1.1, by have := hR2.1.2; omega⟩ (hR2.2.2.2.2 b (by omega) hb2).2.2.2.1) (lw_V q1786 q1788 qs109 q134 q1789) rfl (by decide +kernel) (by decide) (T := TX2) (N := 35) rfl rfl rfl rfl (Nat.le_of_ble_eq_true rfl) (Nat.le_of_ble_eq_true rfl) (Nat.le_of_ble_eq_true rfl) (Nat.le_of_ble_eq_true rfl) (Nat.le_of_ble_eq_true rfl) dX2_merge_78 (fun rv_ M_ hp_ => ?_)
    obtain ⟨rfl, A3, s3, rfl, hM3, hf4, rfl⟩ := hp_
    show au_Go G _ _ 81 [some (au_r MO), some (au_i a), some (au_i b), some (au_i (R (3 + 7 * a + 3))), some (au_i (((R (3 + 7 * a + 3)) + (R (3 + 7 * b + 3))) - (R (3 + 7 * a + 3))))] [] ((rowS mi MA A3), (au_up si MO 24 (au_w (si MO 24 + 1))), hi, sl, r, nx) 0 0
    exact au_vret dX2_merge_81 rfl rfl (Nat.le_of_ble_eq_true rfl) (Nat.le_of_ble_eq_true rfl) (⟨rfl, A3, _, rfl, hM3, hfA.tr hf4, au_up_self _ _ _ _, au_up_ne _ _ (by decide), au_up_neF _ _ _ (by decide)⟩)
