/-! WHAT IS TOLD OF AN OFFICER; whose law (printed by tools/m69.py) -/
set_option maxRecDepth 100000
set_option maxHeartbeats 4000000

/-- what is told of an officer -/
noncomputable def ofV (n : Int) (B Pr Co R : Int → Int) (Lw : au_Lw) (o w : Int) : Int :=
  if ¬ (0 ≤ o ∧ o < n) then -2 else if w = 0 then B o else if w = 1 then Pr o else if w = 2 then rank B o else if w = 3 then R (73 + o) else if w = 4 then lawV Lw 0 (nmF B Pr n (R 0) 10 o o 0 0 0) (Pr o + 1) 999 else if w = 5 then dkN (fun k w => R (3 + 7 * k + w)) o (-1) (R 2).toNat else if w = 6 then Co o else if w = 7 then ((under B n.toNat o : Nat) : Int) else -2
/-- whether a law adds what others added -/
def islP (n : Int) (B Pr : Int → Int) (D an : Int) (Ad Bd : Int → Int) (Lw : au_Lw) : Prop := ∀ i, 0 ≤ i → i < an → lawV Lw 0 (nmF B Pr n D 10 (Ad i) (Ad i) 0 0 0) (Pr (Ad i) + 1) 999 = Bd i

theorem kX0_of (G : au_G) (d : Nat) (Lw : au_Lw) (o w : Int) (n : Int) (B Pr Co : Int → Int) (mi si hi sl : au_A → Int → Int) (r : au_A → Int → Option au_A) (nx : Nat) (hF : Fix r) (hX : EnX r hi mi d n B Pr Lw) (hCo : ∀ o, 0 ≤ o → o < 10 → mi XNcousin o = Co o) (hR : RowOK (mi XNrow) n B) : au_Ctr G yX0_of cX0_of 3 (some .int) (d + 7) 0 0 [au_r XO, au_i o, au_i w] (mi, si, hi, sl, r, nx) (fun rv M' => rv = some (au_i (ofV n B Pr Co (mi XNrow) Lw o w)) ∧ ∃ sj : au_A → Int → Int, M' = (mi, sj, hi, sl, r, nx)) := by
  refine au_of (by decide) (Nat.le_of_ble_eq_true rfl) ?_
  obtain ⟨hN, hE, hB, hPr, hP9, tx, hRu, hTx⟩ := id hX
  have hb1 := hB.1
  have hb0 := hB.2.1
  have hn : 0 ≤ n ∧ n ≤ 10 := ⟨hb1, hb0⟩
  obtain ⟨⟨r0, r0b⟩, ⟨r1, r1b⟩, ⟨r2, r2b⟩, ⟨r83, r83b⟩, rA⟩ := id hR.1
  show au_Go G _ _ 0 [some (au_r XO), some (au_i o), some (au_i w)] [] (mi, si, hi, sl, r, nx) 0 0
  refine au_aload_n dX0_of_0 rfl ?_
  refine au_iload_n dX0_of_1 rfl ?_
  refine au_callVp (n := 1) (kX0_isOfficer G o mi si hi sl r nx hF n hN hn ) (lw_V q296 q298 qs0 q130 q299) rfl (by decide +kernel) (by decide) (T := TX0) (N := 15) rfl rfl rfl rfl (Nat.le_of_ble_eq_true rfl) (by show _ ≤ (d + 7); omega) (by show _ ≤ 80 * (d + 7); omega) (Nat.le_of_ble_eq_true rfl) (Nat.le_of_ble_eq_true rfl) dX0_of_2 ?_
  refine au_if_ne (tgt := 11) dX0_of_5 (by decide) (fun c5 => ?_) (fun c5 => ?_)
  · have c5 := au_b1 c5
    refine au_iload_n dX0_of_11 rfl ?_
    by_cases c12 : w < 0 ∨ 7 < w
    · refine au_tableOut (tgt := 135) dX0_of_12 c12 (by decide) ?_
      refine au_bipush dX0_of_135 rfl rfl ?_
      refine au_iret dX0_of_137 rfl rfl (Nat.le_of_ble_eq_true rfl) (Nat.le_of_ble_eq_true rfl) ?_
      refine ⟨?_, si, rfl⟩
      unfold ofV
      first
      | (rw [if_pos c5]; done)
      | (rw [if_neg (not_not_intro c5)]
         first
         | (rw [if_pos (by omega)]; done)
         | (rw [if_neg (by omega), if_pos (by omega)]; done)
         | (rw [if_neg (by omega), if_neg (by omega), if_pos (by omega)]; done)
         | (rw [if_neg (by omega), if_neg (by omega), if_neg (by omega), if_pos (by omega)]; done)
         | (rw [if_neg (by omega), if_neg (by omega), if_neg (by omega), if_neg (by omega), if_pos (by omega)]; done)
         | (rw [if_neg (by omega), if_neg (by omega), if_neg (by omega), if_neg (by omega), if_neg (by omega), if_pos (by omega)]; done)
         | (rw [if_neg (by omega), if_neg (by omega), if_neg (by omega), if_neg (by omega), if_neg (by omega), if_neg (by omega), if_pos (by omega)]; done)
         | (rw [if_neg (by omega), if_neg (by omega), if_neg (by omega), if_neg (by omega), if_neg (by omega), if_neg (by omega), if_neg (by omega), if_pos (by omega)]; done)
         | (rw [if_neg (by omega), if_neg (by omega), if_neg (by omega), if_neg (by omega), if_neg (by omega), if_neg (by omega), if_neg (by omega), if_neg (by omega)]; done))
    · have c12 : w = 0 ∨ w = 1 ∨ w = 2 ∨ w = 3 ∨ w = 4 ∨ w = 5 ∨ w = 6 ∨ w = 7 := by omega
      rcases c12 with e12 | e12 | e12 | e12 | e12 | e12 | e12 | e12
      · refine au_tableIn (off := 48) (tgt := 60) dX0_of_12 (by omega) (by omega) (by rw [e12]; rfl) (by decide) ?_
        refine au_aload_n dX0_of_60 rfl ?_
        refine au_getf (C := RX0) (T := TX0) (N := 15) in_X0 (by decide) rfl 0 (by decide) rfl rfl q245 rfl dX0_of_61 (v := au_r XN) (congrArg au_q (fx_XO_0 hF)) ?_
        refine au_getN (C := RX1) (T := TX1) (N := 11) in_X1 (by decide) rfl 2 (by decide) rfl rfl q191 rfl dX0_of_64 (v := au_r XNboss) (congrArg au_q (fx_XN_2 hF)) ?_
        refine au_iload_n dX0_of_67 rfl ?_
        refine au_iald dX0_of_68 rfl (by omega) (by show _ < ((10 : Nat) : Int); omega) (v := au_i (B o)) (congrArg au_i (hE _ (by omega) (by omega))) ?_
        refine au_iret dX0_of_69 rfl rfl (Nat.le_of_ble_eq_true rfl) (Nat.le_of_ble_eq_true rfl) ?_
        refine ⟨?_, si, rfl⟩
        unfold ofV
        first
        | (rw [if_pos c5]; done)
        | (rw [if_neg (not_not_intro c5)]
           first
           | (rw [if_pos (by omega)]; done)
           | (rw [if_neg (by omega), if_pos (by omega)]; done)
           | (rw [if_neg (by omega), if_neg (by omega), if_pos (by omega)]; done)
           | (rw [if_neg (by omega), if_neg (by omega), if_neg (by omega), if_pos (by omega)]; done)
           | (rw [if_neg (by omega), if_neg (by omega), if_neg (by omega), if_neg (by omega), if_pos (by omega)]; done)
           | (rw [if_neg (by omega), if_neg (by omega), if_neg (by omega), if_neg (by omega), if_neg (by omega), if_pos (by omega)]; done)
           | (rw [if_neg (by omega), if_neg (by omega), if_neg (by omega), if_neg (by omega), if_neg (by omega), if_neg (by omega), if_pos (by omega)]; done)
           | (rw [if_neg (by omega), if_neg (by omega), if_neg (by omega), if_neg (by omega), if_neg (by omega), if_neg (by omega), if_neg (by omega), if_pos (by omega)]; done)
           | (rw [if_neg (by omega), if_neg (by omega), if_neg (by omega), if_neg (by omega), if_neg (by omega), if_neg (by omega), if_neg (by omega), if_neg (by omega)]; done))
      · refine au_tableIn (off := 58) (tgt := 70) dX0_of_12 (by omega) (by omega) (by rw [e12]; rfl) (by decide) ?_
        refine au_aload_n dX0_of_70 rfl ?_
        refine au_getf (C := RX0) (T := TX0) (N := 15) in_X0 (by decide) rfl 0 (by decide) rfl rfl q245 rfl dX0_of_71 (v := au_r XN) (congrArg au_q (fx_XO_0 hF)) ?_
        refine au_getN (C := RX1) (T := TX1) (N := 11) in_X1 (by decide) rfl 3 (by decide) rfl rfl q193 rfl dX0_of_74 (v := au_r XNpride) (congrArg au_q (fx_XN_3 hF)) ?_
        refine au_iload_n dX0_of_77 rfl ?_
        refine au_iald dX0_of_78 rfl (by omega) (by show _ < ((10 : Nat) : Int); omega) (v := au_i (Pr o)) (congrArg au_i (hPr _ (by omega) (by omega))) ?_
        refine au_iret dX0_of_79 rfl rfl (Nat.le_of_ble_eq_true rfl) (Nat.le_of_ble_eq_true rfl) ?_
        refine ⟨?_, si, rfl⟩
        unfold ofV
        first
        | (rw [if_pos c5]; done)
        | (rw [if_neg (not_not_intro c5)]
           first
           | (rw [if_pos (by omega)]; done)
           | (rw [if_neg (by omega), if_pos (by omega)]; done)
           | (rw [if_neg (by omega), if_neg (by omega), if_pos (by omega)]; done)
           | (rw [if_neg (by omega), if_neg (by omega), if_neg (by omega), if_pos (by omega)]; done)
           | (rw [if_neg (by omega), if_neg (by omega), if_neg (by omega), if_neg (by omega), if_pos (by omega)]; done)
           | (rw [if_neg (by omega), if_neg (by omega), if_neg (by omega), if_neg (by omega), if_neg (by omega), if_pos (by omega)]; done)
           | (rw [if_neg (by omega), if_neg (by omega), if_neg (by omega), if_neg (by omega), if_neg (by omega), if_neg (by omega), if_pos (by omega)]; done)
           | (rw [if_neg (by omega), if_neg (by omega), if_neg (by omega), if_neg (by omega), if_neg (by omega), if_neg (by omega), if_neg (by omega), if_pos (by omega)]; done)
           | (rw [if_neg (by omega), if_neg (by omega), if_neg (by omega), if_neg (by omega), if_neg (by omega), if_neg (by omega), if_neg (by omega), if_neg (by omega)]; done))
      · refine au_tableIn (off := 68) (tgt := 80) dX0_of_12 (by omega) (by omega) (by rw [e12]; rfl) (by decide) ?_
        refine au_aload_n dX0_of_80 rfl ?_
        refine au_iload_n dX0_of_81 rfl ?_
        refine au_callVp (n := 1) (kX0_rankOf G o mi si hi sl r nx hF n hN B hE hB (by omega) (by omega)) (lw_V q916 q918 qs29 q130 q919) rfl (by decide +kernel) (by decide) (T := TX0) (N := 15) rfl rfl rfl rfl (Nat.le_of_ble_eq_true rfl) (by show _ ≤ (d + 7); omega) (by show _ ≤ 80 * (d + 7); omega) (Nat.le_of_ble_eq_true rfl) (Nat.le_of_ble_eq_true rfl) dX0_of_82 ?_
        refine au_iret dX0_of_85 rfl rfl (Nat.le_of_ble_eq_true rfl) (Nat.le_of_ble_eq_true rfl) ?_
        refine ⟨?_, si, rfl⟩
        unfold ofV
        first
        | (rw [if_pos c5]; done)
        | (rw [if_neg (not_not_intro c5)]
           first
           | (rw [if_pos (by omega)]; done)
           | (rw [if_neg (by omega), if_pos (by omega)]; done)
           | (rw [if_neg (by omega), if_neg (by omega), if_pos (by omega)]; done)
           | (rw [if_neg (by omega), if_neg (by omega), if_neg (by omega), if_pos (by omega)]; done)
           | (rw [if_neg (by omega), if_neg (by omega), if_neg (by omega), if_neg (by omega), if_pos (by omega)]; done)
           | (rw [if_neg (by omega), if_neg (by omega), if_neg (by omega), if_neg (by omega), if_neg (by omega), if_pos (by omega)]; done)
           | (rw [if_neg (by omega), if_neg (by omega), if_neg (by omega), if_neg (by omega), if_neg (by omega), if_neg (by omega), if_pos (by omega)]; done)
           | (rw [if_neg (by omega), if_neg (by omega), if_neg (by omega), if_neg (by omega), if_neg (by omega), if_neg (by omega), if_neg (by omega), if_pos (by omega)]; done)
           | (rw [if_neg (by omega), if_neg (by omega), if_neg (by omega), if_neg (by omega), if_neg (by omega), if_neg (by omega), if_neg (by omega), if_neg (by omega)]; done))
      · refine au_tableIn (off := 74) (tgt := 86) dX0_of_12 (by omega) (by omega) (by rw [e12]; rfl) (by decide) ?_
        refine au_aload_n dX0_of_86 rfl ?_
        refine au_getf (C := RX0) (T := TX0) (N := 15) in_X0 (by decide) rfl 0 (by decide) rfl rfl q245 rfl dX0_of_87 (v := au_r XN) (congrArg au_q (fx_XO_0 hF)) ?_
        refine au_getN (C := RX1) (T := TX1) (N := 11) in_X1 (by decide) rfl 1 (by decide) rfl rfl q189 rfl dX0_of_90 (v := au_r XNrow) (congrArg au_q (fx_XN_1 hF)) ?_
        refine au_bipush dX0_of_93 rfl rfl ?_
        refine au_iload_n dX0_of_95 rfl ?_
        refine au_iadd dX0_of_96 (by omega) (by omega) ?_
        refine au_iald dX0_of_97 rfl (by omega) (by show _ < ((204 : Nat) : Int); omega) (v := au_i (mi XNrow (73 + o))) (by rfl) ?_
        refine au_iret dX0_of_98 rfl rfl (Nat.le_of_ble_eq_true rfl) (Nat.le_of_ble_eq_true rfl) ?_
        refine ⟨?_, si, rfl⟩
        unfold ofV
        first
        | (rw [if_pos c5]; done)
        | (rw [if_neg (not_not_intro c5)]
           first
           | (rw [if_pos (by omega)]; done)
           | (rw [if_neg (by omega), if_pos (by omega)]; done)
           | (rw [if_neg (by omega), if_neg (by omega), if_pos (by omega)]; done)
           | (rw [if_neg (by omega), if_neg (by omega), if_neg (by omega), if_pos (by omega)]; done)
           | (rw [if_neg (by omega), if_neg (by omega), if_neg (by omega), if_neg (by omega), if_pos (by omega)]; done)
           | (rw [if_neg (by omega), if_neg (by omega), if_neg (by omega), if_neg (by omega), if_neg (by omega), if_pos (by omega)]; done)
           | (rw [if_neg (by omega), if_neg (by omega), if_neg (by omega), if_neg (by omega), if_neg (by omega), if_neg (by omega), if_pos (by omega)]; done)
           | (rw [if_neg (by omega), if_neg (by omega), if_neg (by omega), if_neg (by omega), if_neg (by omega), if_neg (by omega), if_neg (by omega), if_pos (by omega)]; done)
           | (rw [if_neg (by omega), if_neg (by omega), if_neg (by omega), if_neg (by omega), if_neg (by omega), if_neg (by omega), if_neg (by omega), if_neg (by omega)]; done))
      · refine au_tableIn (off := 87) (tgt := 99) dX0_of_12 (by omega) (by omega) (by rw [e12]; rfl) (by decide) ?_
        refine au_aload_n dX0_of_99 rfl ?_
        refine au_aload_n dX0_of_100 rfl ?_
        refine au_callVp (n := 0) (kX0_rules G tx mi si hi sl r nx hF hRu) (lw_V q920 q922 qs30 q130 q923) rfl (by decide +kernel) (by decide) (T := TX0) (N := 15) rfl rfl rfl rfl (Nat.le_of_ble_eq_true rfl) (by show _ ≤ (d + 7); omega) (by show _ ≤ 80 * (d + 7); omega) (Nat.le_of_ble_eq_true rfl) (Nat.le_of_ble_eq_true rfl) dX0_of_101 ?_
        refine au_iload_n dX0_of_104 rfl ?_
        refine au_bipush dX0_of_105 rfl rfl ?_
        refine au_iload_n dX0_of_107 rfl ?_
        refine au_iconst dX0_of_108 rfl rfl ?_
        refine au_callV (n := 5) (kX0_addsBy G d tx o 10 o 0 Lw mi si hi sl r nx hF trivial n hN B hE hB Pr hPr hTx c5.1 c5.2 (hP9 o c5.1 c5.2) (by unfold I32; omega) (by unfold I32; omega) (by unfold I32; omega) (by unfold I32; omega)) (lw_V q1160 q1162 qs43 q130 q1163) rfl (by decide +kernel) (by decide) (T := TX0) (N := 15) rfl rfl rfl rfl (Nat.le_of_ble_eq_true rfl) (by show _ ≤ (d + 7); omega) (by show _ ≤ 80 * (d + 7); omega) (Nat.le_of_ble_eq_true rfl) (Nat.le_of_ble_eq_true rfl) dX0_of_109 (fun rv_ M_ hp_ => ?_)
        obtain ⟨rfl, s1, rfl, hg1⟩ := hp_
        show au_Go G _ _ 112 [some (au_r XO), some (au_i o), some (au_i w)] [au_i (lawV Lw 0 (nmF B Pr n (mi XNrow 0) 10 o o 0 0 0) (Pr o + 1) 999)] (mi, s1, hi, sl, r, nx) 0 0
        refine au_iret dX0_of_112 rfl rfl (Nat.le_of_ble_eq_true rfl) (Nat.le_of_ble_eq_true rfl) ?_
        refine ⟨?_, s1, rfl⟩
        unfold ofV
        first
        | (rw [if_pos c5]; done)
        | (rw [if_neg (not_not_intro c5)]
           first
           | (rw [if_pos (by omega)]; done)
           | (rw [if_neg (by omega), if_pos (by omega)]; done)
           | (rw [if_neg (by omega), if_neg (by omega), if_pos (by omega)]; done)
           | (rw [if_neg (by omega), if_neg (by omega), if_neg (by omega), if_pos (by omega)]; done)
           | (rw [if_neg (by omega), if_neg (by omega), if_neg (by omega), if_neg (by omega), if_pos (by omega)]; done)
           | (rw [if_neg (by omega), if_neg (by omega), if_neg (by omega), if_neg (by omega), if_neg (by omega), if_pos (by omega)]; done)
           | (rw [if_neg (by omega), if_neg (by omega), if_neg (by omega), if_neg (by omega), if_neg (by omega), if_neg (by omega), if_pos (by omega)]; done)
           | (rw [if_neg (by omega), if_neg (by omega), if_neg (by omega), if_neg (by omega), if_neg (by omega), if_neg (by omega), if_neg (by omega), if_pos (by omega)]; done)
           | (rw [if_neg (by omega), if_neg (by omega), if_neg (by omega), if_neg (by omega), if_neg (by omega), if_neg (by omega), if_neg (by omega), if_neg (by omega)]; done))
      · refine au_tableIn (off := 101) (tgt := 113) dX0_of_12 (by omega) (by omega) (by rw [e12]; rfl) (by decide) ?_
        refine au_aload_n dX0_of_113 rfl ?_
        refine au_iload_n dX0_of_114 rfl ?_
        refine au_callVp (n := 1) (kX0_deskOf G o mi si hi sl r nx hF (mi XNrow 2) rfl ⟨r2, r2b⟩ (fun k w => mi XNrow (3 + 7 * k + w)) (fun _ _ _ _ _ _ => rfl)) (lw_V q1164 q1166 qs44 q130 q1167) rfl (by decide +kernel) (by decide) (T := TX0) (N := 15) rfl rfl rfl rfl (Nat.le_of_ble_eq_true rfl) (by show _ ≤ (d + 7); omega) (by show _ ≤ 80 * (d + 7); omega) (Nat.le_of_ble_eq_true rfl) (Nat.le_of_ble_eq_true rfl) dX0_of_115 ?_
        refine au_iret dX0_of_118 rfl rfl (Nat.le_of_ble_eq_true rfl) (Nat.le_of_ble_eq_true rfl) ?_
        refine ⟨?_, si, rfl⟩
        unfold ofV
        first
        | (rw [if_pos c5]; done)
        | (rw [if_neg (not_not_intro c5)]
           first
           | (rw [if_pos (by omega)]; done)
           | (rw [if_neg (by omega), if_pos (by omega)]; done)
           | (rw [if_neg (by omega), if_neg (by omega), if_pos (by omega)]; done)
           | (rw [if_neg (by omega), if_neg (by omega), if_neg (by omega), if_pos (by omega)]; done)
           | (rw [if_neg (by omega), if_neg (by omega), if_neg (by omega), if_neg (by omega), if_pos (by omega)]; done)
           | (rw [if_neg (by omega), if_neg (by omega), if_neg (by omega), if_neg (by omega), if_neg (by omega), if_pos (by omega)]; done)
           | (rw [if_neg (by omega), if_neg (by omega), if_neg (by omega), if_neg (by omega), if_neg (by omega), if_neg (by omega), if_pos (by omega)]; done)
           | (rw [if_neg (by omega), if_neg (by omega), if_neg (by omega), if_neg (by omega), if_neg (by omega), if_neg (by omega), if_neg (by omega), if_pos (by omega)]; done)
           | (rw [if_neg (by omega), if_neg (by omega), if_neg (by omega), if_neg (by omega), if_neg (by omega), if_neg (by omega), if_neg (by omega), if_neg (by omega)]; done))
      · refine au_tableIn (off := 107) (tgt := 119) dX0_of_12 (by omega) (by omega) (by rw [e12]; rfl) (by decide) ?_
        refine au_aload_n dX0_of_119 rfl ?_
        refine au_getf (C := RX0) (T := TX0) (N := 15) in_X0 (by decide) rfl 0 (by decide) rfl rfl q245 rfl dX0_of_120 (v := au_r XN) (congrArg au_q (fx_XO_0 hF)) ?_
        refine au_getN (C := RX1) (T := TX1) (N := 11) in_X1 (by decide) rfl 4 (by decide) rfl rfl q195 rfl dX0_of_123 (v := au_r XNcousin) (congrArg au_q (fx_XN_4 hF)) ?_
        refine au_iload_n dX0_of_126 rfl ?_
        refine au_iald dX0_of_127 rfl (by omega) (by show _ < ((10 : Nat) : Int); omega) (v := au_i (Co o)) (congrArg au_i (hCo _ (by omega) (by omega))) ?_
        refine au_iret dX0_of_128 rfl rfl (Nat.le_of_ble_eq_true rfl) (Nat.le_of_ble_eq_true rfl) ?_
        refine ⟨?_, si, rfl⟩
        unfold ofV
        first
        | (rw [if_pos c5]; done)
        | (rw [if_neg (not_not_intro c5)]
           first
           | (rw [if_pos (by omega)]; done)
           | (rw [if_neg (by omega), if_pos (by omega)]; done)
           | (rw [if_neg (by omega), if_neg (by omega), if_pos (by omega)]; done)
           | (rw [if_neg (by omega), if_neg (by omega), if_neg (by omega), if_pos (by omega)]; done)
           | (rw [if_neg (by omega), if_neg (by omega), if_neg (by omega), if_neg (by omega), if_pos (by omega)]; done)
           | (rw [if_neg (by omega), if_neg (by omega), if_neg (by omega), if_neg (by omega), if_neg (by omega), if_pos (by omega)]; done)
           | (rw [if_neg (by omega), if_neg (by omega), if_neg (by omega), if_neg (by omega), if_neg (by omega), if_neg (by omega), if_pos (by omega)]; done)
           | (rw [if_neg (by omega), if_neg (by omega), if_neg (by omega), if_neg (by omega), if_neg (by omega), if_neg (by omega), if_neg (by omega), if_pos (by omega)]; done)
           | (rw [if_neg (by omega), if_neg (by omega), if_neg (by omega), if_neg (by omega), if_neg (by omega), if_neg (by omega), if_neg (by omega), if_neg (by omega)]; done))
      · refine au_tableIn (off := 117) (tgt := 129) dX0_of_12 (by omega) (by omega) (by rw [e12]; rfl) (by decide) ?_
        refine au_aload_n dX0_of_129 rfl ?_
        refine au_iload_n dX0_of_130 rfl ?_
        refine au_callVp (n := 1) (kX0_under G o mi si hi sl r nx hF n hN B hE hB (by omega)) (lw_V q1168 q1170 qs45 q130 q1171) rfl (by decide +kernel) (by decide) (T := TX0) (N := 15) rfl rfl rfl rfl (Nat.le_of_ble_eq_true rfl) (by show _ ≤ (d + 7); omega) (by show _ ≤ 80 * (d + 7); omega) (Nat.le_of_ble_eq_true rfl) (Nat.le_of_ble_eq_true rfl) dX0_of_131 ?_
        refine au_iret dX0_of_134 rfl rfl (Nat.le_of_ble_eq_true rfl) (Nat.le_of_ble_eq_true rfl) ?_
        refine ⟨?_, si, rfl⟩
        unfold ofV
        first
        | (rw [if_pos c5]; done)
        | (rw [if_neg (not_not_intro c5)]
           first
           | (rw [if_pos (by omega)]; done)
           | (rw [if_neg (by omega), if_pos (by omega)]; done)
           | (rw [if_neg (by omega), if_neg (by omega), if_pos (by omega)]; done)
           | (rw [if_neg (by omega), if_neg (by omega), if_neg (by omega), if_pos (by omega)]; done)
           | (rw [if_neg (by omega), if_neg (by omega), if_neg (by omega), if_neg (by omega), if_pos (by omega)]; done)
           | (rw [if_neg (by omega), if_neg (by omega), if_neg (by omega), if_neg (by omega), if_neg (by omega), if_pos (by omega)]; done)
           | (rw [if_neg (by omega), if_neg (by omega), if_neg (by omega), if_neg (by omega), if_neg (by omega), if_neg (by omega), if_pos (by omega)]; done)
           | (rw [if_neg (by omega), if_neg (by omega), if_neg (by omega), if_neg (by omega), if_neg (by omega), if_neg (by omega), if_neg (by omega), if_pos (by omega)]; done)
           | (rw [if_neg (by omega), if_neg (by omega), if_neg (by omega), if_neg (by omega), if_neg (by omega), if_neg (by omega), if_neg (by omega), if_neg (by omega)]; done))
  · have c5 := au_b0 c5
    refine au_bipush dX0_of_8 rfl rfl ?_
    refine au_iret dX0_of_10 rfl rfl (Nat.le_of_ble_eq_true rfl) (Nat.le_of_ble_eq_true rfl) ?_
    refine ⟨?_, si, rfl⟩
    unfold ofV
    first
    | (rw [if_pos c5]; done)
    | (rw [if_neg (not_not_intro c5)]
       first
       | (rw [if_pos (by omega)]; done)
       | (rw [if_neg (by omega), if_pos (by omega)]; done)
       | (rw [if_neg (by omega), if_neg (by omega), if_pos (by omega)]; done)
       | (rw [if_neg (by omega), if_neg (by omega), if_neg (by omega), if_pos (by omega)]; done)
       | (rw [if_neg (by omega), if_neg (by omega), if_neg (by omega), if_neg (by omega), if_pos (by omega)]; done)
       | (rw [if_neg (by omega), if_neg (by omega), if_neg (by omega), if_neg (by omega), if_neg (by omega), if_pos (by omega)]; done)
       | (rw [if_neg (by omega), if_neg (by omega), if_neg (by omega), if_neg (by omega), if_neg (by omega), if_neg (by omega), if_pos (by omega)]; done)
       | (rw [if_neg (by omega), if_neg (by omega), if_neg (by omega), if_neg (by omega), if_neg (by omega), if_neg (by omega), if_neg (by omega), if_pos (by omega)]; done)
       | (rw [if_neg (by omega), if_neg (by omega), if_neg (by omega), if_neg (by omega), if_neg (by omega), if_neg (by omega), if_neg (by omega), if_neg (by omega)]; done))
theorem kX0_isLaw (G : au_G) (d : Nat) (Lw : au_Lw) (t : au_A) (n : Int) (B Pr : Int → Int) (mi si hi sl : au_A → Int → Int) (r : au_A → Int → Option au_A) (nx : Nat) (hF : Fix r) (hT : TxAt r hi d t Lw) (hN : mi XNn 0 = n) (hE : ∀ o, 0 ≤ o → o < 10 → mi XNboss o = B o) (hB : Bs B n) (hPr : ∀ o, 0 ≤ o → o < 10 → mi XNpride o = Pr o) (hP9 : ∀ o, 0 ≤ o → o < n → 0 ≤ Pr o ∧ Pr o ≤ 9) (hD : I32 (mi XNrow 0)) (an : Int) (Ad Bd : Int → Int) (hAn : mi XNn 5 = an) (han : 0 ≤ an ∧ an ≤ 8) (hAd : ∀ k : Nat, k < 8 → mi (1013 + k, 2, 40) 0 = Ad k ∧ mi (1013 + k, 2, 40) 1 = Bd k) (hAo : ∀ i, 0 ≤ i → i < an → 0 ≤ Ad i ∧ Ad i < n) : au_Ctr G yX0_isLaw cX0_isLaw 3 (some .boolean) (d + 7) 0 0 [au_r XO, au_r t] (mi, si, hi, sl, r, nx) (fun rv M' => rv = some (au_i (au_b (islP n B Pr (mi XNrow 0) an Ad Bd Lw))) ∧ ∃ sj : au_A → Int → Int, M' = (mi, sj, hi, sl, r, nx)) := by
  refine au_of (by decide) (Nat.le_of_ble_eq_true rfl) ?_
  have hb0 := hB.2.1
  show au_Go G _ _ 0 [some (au_r XO), some (au_r t), none] [] (mi, si, hi, sl, r, nx) 0 0
  refine au_iconst dX0_isLaw_0 rfl rfl ?_
  refine au_istore_n dX0_isLaw_1 (show 2 < 3 by decide) ?_
  show au_Go G _ _ 2 [some (au_r XO), some (au_r t), some (au_i 0)] [] (mi, si, hi, sl, r, nx) 0 0
  have hl : ∀ (f : Nat) (k : Nat) (sj : au_A → Int → Int), (k : Int) ≤ an → (∀ i, 0 ≤ i → i < (k : Int) → lawV Lw 0 (nmF B Pr n (mi XNrow 0) 10 (Ad i) (Ad i) 0 0 0) (Pr (Ad i) + 1) 999 = Bd i) → 10 - k < f → au_Go G (yX0_isLaw.cls, cX0_isLaw, 3, (some .boolean), au_rm (d + 7) 0 0, yX0_isLaw.name) (au_QM G (au_rm (d + 7) 0 0) (fun rv M' => rv = some (au_i (au_b (islP n B Pr (mi XNrow 0) an Ad Bd Lw))) ∧ ∃ sj : au_A → Int → Int, M' = (mi, sj, hi, sl, r, nx))) 2 [some (au_r XO), some (au_r t), some (au_i (k : Int))] [] (mi, sj, hi, sl, r, nx) 0 0 := by
    intro f
    induction f with
    | zero => intro k sj hk hq hf; exfalso; omega
    | succ f ih =>
      intro k sj hk hq hf
      refine au_iload_n dX0_isLaw_2 rfl ?_
      refine au_aload_n dX0_isLaw_3 rfl ?_
      refine au_getf (C := RX0) (T := TX0) (N := 15) in_X0 (by decide) rfl 0 (by decide) rfl rfl q245 rfl dX0_isLaw_4 (v := au_r XN) (congrArg au_q (fx_XO_0 hF)) ?_
      refine au_getN (C := RX1) (T := TX1) (N := 11) in_X1 (by decide) rfl 0 (by decide) rfl rfl q187 rfl dX0_isLaw_7 (v := au_r XNn) (congrArg au_q (fx_XN_0 hF)) ?_
      refine au_iconst dX0_isLaw_10 rfl rfl ?_
      refine au_iald dX0_isLaw_11 rfl (by omega) (by show _ < ((6 : Nat) : Int); omega) (v := au_i (an)) (congrArg au_i hAn) ?_
      refine au_icmp_ge (tgt := 67) dX0_isLaw_12 (by decide) (fun c12 => ?_) (fun c12 => ?_)
      · refine au_iconst dX0_isLaw_67 rfl rfl ?_
        exact au_zret dX0_isLaw_68 rfl (Or.inr rfl) rfl (Nat.le_of_ble_eq_true rfl) (Nat.le_of_ble_eq_true rfl) (⟨by rw [au_bt (show (islP n B Pr (mi XNrow 0) an Ad Bd Lw) from fun i i0 i1 => hq i i0 (by omega))], _, rfl⟩)
      · have hao := hAo (k : Int) (by omega) (by omega)
        refine au_aload_n dX0_isLaw_15 rfl ?_
        refine au_aload_n dX0_isLaw_16 rfl ?_
        refine au_aload_n dX0_isLaw_17 rfl ?_
        refine au_getf (C := RX0) (T := TX0) (N := 15) in_X0 (by decide) rfl 0 (by decide) rfl rfl q245 rfl dX0_isLaw_18 (v := au_r XN) (congrArg au_q (fx_XO_0 hF)) ?_
        refine au_getN (C := RX1) (T := TX1) (N := 11) in_X1 (by decide) rfl 8 (by decide) rfl rfl q203 rfl dX0_isLaw_21 (v := au_r XNadded) (congrArg au_q (fx_XN_8 hF)) ?_
        refine au_iload_n dX0_isLaw_24 rfl ?_
        refine au_aald dX0_isLaw_25 (by decide) (by decide) (by omega) (by show _ < ((8 : Nat) : Int); omega) (v := au_r (1013 + k, 2, 40)) (congrArg au_q ((hF.2.2.1 k (by omega)).1)) ?_
        refine au_iconst dX0_isLaw_26 rfl rfl ?_
        refine au_iald dX0_isLaw_27 rfl (by omega) (by show _ < ((2 : Nat) : Int); omega) (v := au_i (Ad (k : Int))) (congrArg au_i ((au_gi_m (au_reg_lo (by omega) (by omega) _)).trans (hAd k (by omega)).1)) ?_
        refine au_bipush dX0_isLaw_28 rfl rfl ?_
        refine au_aload_n dX0_isLaw_30 rfl ?_
        refine au_getf (C := RX0) (T := TX0) (N := 15) in_X0 (by decide) rfl 0 (by decide) rfl rfl q245 rfl dX0_isLaw_31 (v := au_r XN) (congrArg au_q (fx_XO_0 hF)) ?_
        refine au_getN (C := RX1) (T := TX1) (N := 11) in_X1 (by decide) rfl 8 (by decide) rfl rfl q203 rfl dX0_isLaw_34 (v := au_r XNadded) (congrArg au_q (fx_XN_8 hF)) ?_
        refine au_iload_n dX0_isLaw_37 rfl ?_
        refine au_aald dX0_isLaw_38 (by decide) (by decide) (by omega) (by show _ < ((8 : Nat) : Int); omega) (v := au_r (1013 + k, 2, 40)) (congrArg au_q ((hF.2.2.1 k (by omega)).1)) ?_
        refine au_iconst dX0_isLaw_39 rfl rfl ?_
        refine au_iald dX0_isLaw_40 rfl (by omega) (by show _ < ((2 : Nat) : Int); omega) (v := au_i (Ad (k : Int))) (congrArg au_i ((au_gi_m (au_reg_lo (by omega) (by omega) _)).trans (hAd k (by omega)).1)) ?_
        refine au_iconst dX0_isLaw_41 rfl rfl ?_
        refine au_callV (n := 5) (kX0_addsBy G d t (Ad (k : Int)) 10 (Ad (k : Int)) 0 Lw mi sj hi sl r nx hF trivial n hN B hE hB Pr hPr (Or.inl hT) hao.1 hao.2 (hP9 _ hao.1 hao.2) hD (by unfold I32; omega) (by unfold I32; omega) (by unfold I32; omega)) (lw_V q1160 q1162 qs43 q130 q1163) rfl (by decide +kernel) (by decide) (T := TX0) (N := 15) rfl rfl rfl rfl (Nat.le_of_ble_eq_true rfl) (by show _ ≤ (d + 7); omega) (by show _ ≤ 80 * (d + 7); omega) (Nat.le_of_ble_eq_true rfl) (Nat.le_of_ble_eq_true rfl) dX0_isLaw_42 (fun rv_ M_ hp_ => ?_)
        obtain ⟨rfl, s1, rfl, hg1⟩ := hp_
        show au_Go G _ _ 45 [some (au_r XO), some (au_r t), some (au_i (k : Int))] [au_i (lawV Lw 0 (nmF B Pr n (mi XNrow 0) 10 (Ad (k : Int)) (Ad (k : Int)) 0 0 0) (Pr (Ad (k : Int)) + 1) 999)] (mi, s1, hi, sl, r, nx) 0 0
        refine au_aload_n dX0_isLaw_45 rfl ?_
        refine au_getf (C := RX0) (T := TX0) (N := 15) in_X0 (by decide) rfl 0 (by decide) rfl rfl q245 rfl dX0_isLaw_46 (v := au_r XN) (congrArg au_q (fx_XO_0 hF)) ?_
        refine au_getN (C := RX1) (T := TX1) (N := 11) in_X1 (by decide) rfl 8 (by decide) rfl rfl q203 rfl dX0_isLaw_49 (v := au_r XNadded) (congrArg au_q (fx_XN_8 hF)) ?_
        refine au_iload_n dX0_isLaw_52 rfl ?_
        refine au_aald dX0_isLaw_53 (by decide) (by decide) (by omega) (by show _ < ((8 : Nat) : Int); omega) (v := au_r (1013 + k, 2, 40)) (congrArg au_q ((hF.2.2.1 k (by omega)).1)) ?_
        refine au_iconst dX0_isLaw_54 rfl rfl ?_
        refine au_iald dX0_isLaw_55 rfl (by omega) (by show _ < ((2 : Nat) : Int); omega) (v := au_i (Bd (k : Int))) (congrArg au_i ((au_gi_m (au_reg_lo (by omega) (by omega) _)).trans (hAd k (by omega)).2)) ?_
        refine au_icmp_eq (tgt := 61) dX0_isLaw_56 (by decide) (fun c56 => ?_) (fun c56 => ?_)
        · refine au_iinc dX0_isLaw_61 rfl (show 2 < 3 by decide) (by omega) (by omega) (by decide) (by decide) ?_
          show au_Go G _ _ 64 [some (au_r XO), some (au_r t), some (au_i ((k : Int) + 1))] [] (mi, s1, hi, sl, r, nx) 0 0
          refine au_goto (tgt := 2) dX0_isLaw_64 (by decide) ?_
          refine ih (k + 1) _ (by omega) (fun i i0 i1 => ?_) (by omega)
          by_cases e : i = (k : Int)
          · rw [e]; exact c56
          · exact hq i i0 (by omega)
        · refine au_iconst dX0_isLaw_59 rfl rfl ?_
          exact au_zret dX0_isLaw_60 rfl (Or.inl rfl) rfl (Nat.le_of_ble_eq_true rfl) (Nat.le_of_ble_eq_true rfl) (⟨by rw [au_bf (fun z => c56 (z (k : Int) (by omega) (by omega)))], _, rfl⟩)
  exact hl 11 0 si (by omega) (fun i i0 i1 => by omega) (by omega)
theorem kX0_whose (G : au_G) (d : Nat) (Lws : Nat → au_Lw) (tn : Nat) (n : Int) (B Pr : Int → Int) (mi si hi sl : au_A → Int → Int) (r : au_A → Int → Option au_A) (nx : Nat) (hF : Fix r) (hTn : mi XNn 1 = (tn : Int)) (htn : tn ≤ 4) (hT : ∀ t : Nat, t < tn → ∃ tx, r XNtext t = some tx ∧ TxAt r hi d tx (Lws t)) (hN : mi XNn 0 = n) (hE : ∀ o, 0 ≤ o → o < 10 → mi XNboss o = B o) (hB : Bs B n) (hPr : ∀ o, 0 ≤ o → o < 10 → mi XNpride o = Pr o) (hP9 : ∀ o, 0 ≤ o → o < n → 0 ≤ Pr o ∧ Pr o ≤ 9) (hD : I32 (mi XNrow 0)) (an : Int) (Ad Bd : Int → Int) (hAn : mi XNn 5 = an) (han : 0 ≤ an ∧ an ≤ 8) (hAd : ∀ k : Nat, k < 8 → mi (1013 + k, 2, 40) 0 = Ad k ∧ mi (1013 + k, 2, 40) 1 = Bd k) (hAo : ∀ i, 0 ≤ i → i < an → 0 ≤ Ad i ∧ Ad i < n) : au_Ctr G yX0_whose cX0_whose 3 (some .int) (d + 8) 0 0 [au_r XO] (mi, si, hi, sl, r, nx) (fun rv M' => rv = some (au_i ((bsN (fun t : Nat => islP n B Pr (mi XNrow 0) an Ad Bd (Lws t)) tn : Nat) : Int)) ∧ ∃ sj : au_A → Int → Int, M' = (mi, sj, hi, sl, r, nx)) := by
  refine au_of (by decide) (Nat.le_of_ble_eq_true rfl) ?_
  show au_Go G _ _ 0 [some (au_r XO), none, none] [] (mi, si, hi, sl, r, nx) 0 0
  refine au_iconst dX0_whose_0 rfl rfl ?_
  refine au_istore_n dX0_whose_1 (show 1 < 3 by decide) ?_
  show au_Go G _ _ 2 [some (au_r XO), some (au_i 0), none] [] (mi, si, hi, sl, r, nx) 0 0
  refine au_iconst dX0_whose_2 rfl rfl ?_
  refine au_istore_n dX0_whose_3 (show 2 < 3 by decide) ?_
  show au_Go G _ _ 4 [some (au_r XO), some (au_i 0), some (au_i 0)] [] (mi, si, hi, sl, r, nx) 0 0
  have hl : ∀ (f : Nat) (k : Nat) (sj : au_A → Int → Int), k ≤ tn → tn - k < f → au_Go G (yX0_whose.cls, cX0_whose, 3, (some .int), au_rm (d + 8) 0 0, yX0_whose.name) (au_QM G (au_rm (d + 8) 0 0) (fun rv M' => rv = some (au_i ((bsN (fun t : Nat => islP n B Pr (mi XNrow 0) an Ad Bd (Lws t)) tn : Nat) : Int)) ∧ ∃ sj : au_A → Int → Int, M' = (mi, sj, hi, sl, r, nx))) 4 [some (au_r XO), some (au_i ((bsN (fun t : Nat => islP n B Pr (mi XNrow 0) an Ad Bd (Lws t)) k : Nat) : Int)), some (au_i (k : Int))] [] (mi, sj, hi, sl, r, nx) 0 0 := by
    intro f
    induction f with
    | zero => intro k sj hk hf; exfalso; omega
    | succ f ih =>
      intro k sj hk hf
      refine au_iload_n dX0_whose_4 rfl ?_
      refine au_aload_n dX0_whose_5 rfl ?_
      refine au_getf (C := RX0) (T := TX0) (N := 15) in_X0 (by decide) rfl 0 (by decide) rfl rfl q245 rfl dX0_whose_6 (v := au_r XN) (congrArg au_q (fx_XO_0 hF)) ?_
      refine au_getN (C := RX1) (T := TX1) (N := 11) in_X1 (by decide) rfl 0 (by decide) rfl rfl q187 rfl dX0_whose_9 (v := au_r XNn) (congrArg au_q (fx_XN_0 hF)) ?_
      refine au_iconst dX0_whose_12 rfl rfl ?_
      refine au_iald dX0_whose_13 rfl (by omega) (by show _ < ((6 : Nat) : Int); omega) (v := au_i ((tn : Int))) (congrArg au_i hTn) ?_
      refine au_icmp_ge (tgt := 49) dX0_whose_14 (by decide) (fun c14 => ?_) (fun c14 => ?_)
      · refine au_iload_n dX0_whose_49 rfl ?_
        refine au_iret dX0_whose_50 rfl rfl (Nat.le_of_ble_eq_true rfl) (Nat.le_of_ble_eq_true rfl) ?_
        have hkt : k = tn := by omega
        subst hkt
        exact ⟨rfl, sj, rfl⟩
      · obtain ⟨tx, hrt, htx⟩ := hT k (by omega)
        refine au_iload_n dX0_whose_17 rfl ?_
        refine au_aload_n dX0_whose_18 rfl ?_
        refine au_aload_n dX0_whose_19 rfl ?_
        refine au_getf (C := RX0) (T := TX0) (N := 15) in_X0 (by decide) rfl 0 (by decide) rfl rfl q245 rfl dX0_whose_20 (v := au_r XN) (congrArg au_q (fx_XO_0 hF)) ?_
        refine au_getN (C := RX1) (T := TX1) (N := 11) in_X1 (by decide) rfl 10 (by decide) rfl rfl q207 rfl dX0_whose_23 (v := au_r XNtext) (congrArg au_q (fx_XN_10 hF)) ?_
        refine au_iload_n dX0_whose_26 rfl ?_
        refine au_aald dX0_whose_27 (by decide) (by decide) (by omega) (by show _ < ((4 : Nat) : Int); omega) (v := au_r tx) (congrArg au_q (hrt)) ?_
        refine au_callV (n := 1) (kX0_isLaw G d (Lws k) tx n B Pr mi sj hi sl r nx hF htx hN hE hB hPr hP9 hD an Ad Bd hAn han hAd hAo) (lw_V q1318 q1320 qs55 q130 q1321) rfl (by decide +kernel) (by decide) (T := TX0) (N := 15) rfl rfl rfl rfl (Nat.le_of_ble_eq_true rfl) (by show _ ≤ (d + 8); omega) (by show _ ≤ 80 * (d + 8); omega) (Nat.le_of_ble_eq_true rfl) (Nat.le_of_ble_eq_true rfl) dX0_whose_28 (fun rv_ M_ hp_ => ?_)
        obtain ⟨rfl, s1, rfl⟩ := hp_
        show au_Go G _ _ 31 [some (au_r XO), some (au_i ((bsN (fun t : Nat => islP n B Pr (mi XNrow 0) an Ad Bd (Lws t)) k : Nat) : Int)), some (au_i (k : Int))] [au_i (au_b (islP n B Pr (mi XNrow 0) an Ad Bd (Lws k))), au_i ((bsN (fun t : Nat => islP n B Pr (mi XNrow 0) an Ad Bd (Lws t)) k : Nat) : Int)] (mi, s1, hi, sl, r, nx) 0 0
        refine au_if_eq (tgt := 40) dX0_whose_31 (by decide) (fun c31 => ?_) (fun c31 => ?_)
        · have c31 := au_b0 c31
          refine au_iconst dX0_whose_40 rfl rfl ?_
          refine au_ior dX0_whose_41 ?_
          refine au_istore_n dX0_whose_42 (show 1 < 3 by decide) ?_
          show au_Go G _ _ 43 [some (au_r XO), some (au_i (au_or ((bsN (fun t : Nat => islP n B Pr (mi XNrow 0) an Ad Bd (Lws t)) k : Nat) : Int) 0)), some (au_i (k : Int))] [] (mi, s1, hi, sl, r, nx) 0 0
          refine au_iinc dX0_whose_43 rfl (show 2 < 3 by decide) (by omega) (by omega) (by decide) (by decide) ?_
          show au_Go G _ _ 46 [some (au_r XO), some (au_i (au_or ((bsN (fun t : Nat => islP n B Pr (mi XNrow 0) an Ad Bd (Lws t)) k : Nat) : Int) 0)), some (au_i ((k : Int) + 1))] [] (mi, s1, hi, sl, r, nx) 0 0
          refine au_goto (tgt := 4) dX0_whose_46 (by decide) ?_
          rw [bsN_step (fun t : Nat => islP n B Pr (mi XNrow 0) an Ad Bd (Lws t)) k (by omega) _ (by first | exact ⟨fun _ => rfl, fun q => absurd c31 q⟩ | exact ⟨fun q => absurd q c31, fun _ => rfl⟩)]
          exact ih (k + 1) _ (by omega) (by omega)
        · have c31 := au_b1 c31
          refine au_iconst dX0_whose_34 rfl rfl ?_
          refine au_iload_n dX0_whose_35 rfl ?_
          refine au_ishl dX0_whose_36 ?_
          refine au_goto (tgt := 41) dX0_whose_37 (by decide) ?_
          refine au_ior dX0_whose_41 ?_
          refine au_istore_n dX0_whose_42 (show 1 < 3 by decide) ?_
          show au_Go G _ _ 43 [some (au_r XO), some (au_i (au_or ((bsN (fun t : Nat => islP n B Pr (mi XNrow 0) an Ad Bd (Lws t)) k : Nat) : Int) (au_shl 1 (k : Int)))), some (au_i (k : Int))] [] (mi, s1, hi, sl, r, nx) 0 0
          refine au_iinc dX0_whose_43 rfl (show 2 < 3 by decide) (by omega) (by omega) (by decide) (by decide) ?_
          show au_Go G _ _ 46 [some (au_r XO), some (au_i (au_or ((bsN (fun t : Nat => islP n B Pr (mi XNrow 0) an Ad Bd (Lws t)) k : Nat) : Int) (au_shl 1 (k : Int)))), some (au_i ((k : Int) + 1))] [] (mi, s1, hi, sl, r, nx) 0 0
          refine au_goto (tgt := 4) dX0_whose_46 (by decide) ?_
          rw [bsN_step (fun t : Nat => islP n B Pr (mi XNrow 0) an Ad Bd (Lws t)) k (by omega) _ (by first | exact ⟨fun _ => rfl, fun q => absurd c31 q⟩ | exact ⟨fun q => absurd q c31, fun _ => rfl⟩)]
          exact ih (k + 1) _ (by omega) (by omega)
  exact hl (tn + 1) 0 si (by omega) (by omega)
theorem kX2_of (G : au_G) (Lw : au_Lw) (o w : Int) (n : Int) (B Pr Co R : Int → Int) (A : Int → Int) (mi si hi sl : au_A → Int → Int) (r : au_A → Int → Option au_A) (nx : Nat) (hF : Fix r) (hE : EnA (mi MT) A n B Pr Lw) (hCo : ∀ o, 0 ≤ o → o < 10 → A (110 + o) = Co o) (hM : MRow A R) (hR : RowOK R n B) : au_Ctr G yX2_of cX2_of 3 (some .int) 6 0 0 [au_r MO, au_i o, au_i w] (rowS mi MA A, si, hi, sl, r, nx) (fun rv M' => rv = some (au_i (ofV n B Pr Co R Lw o w)) ∧ ∃ sj slj : au_A → Int → Int, M' = (rowS mi MA A, sj, hi, slj, r, nx)) := by
  refine au_of (by decide) (Nat.le_of_ble_eq_true rfl) ?_
  have hB := hE.2.2.1
  have hb1 := hB.1
  have hb0 := hB.2.1
  have hP9 := hE.2.2.2.2.1
  have hn : 0 ≤ n ∧ n ≤ 10 := ⟨hb1, hb0⟩
  obtain ⟨gN, gE, gP⟩ := hE.g mi
  have gT := hE.gT
  have g6 : rowS mi MA A MA 6 = R 0 := (rowS_self _ _ _ _).trans hM.1
  obtain ⟨⟨r0, r0b⟩, ⟨r1, r1b⟩, ⟨r2, r2b⟩, ⟨r83, r83b⟩, rA⟩ := id hR.1
  show au_Go G _ _ 0 [some (au_r MO), some (au_i o), some (au_i w)] [] (rowS mi MA A, si, hi, sl, r, nx) 0 0
  refine au_aload_n dX2_of_0 rfl ?_
  refine au_iload_n dX2_of_1 rfl ?_
  refine au_callVp (n := 1) (kX2_isOfficer G o (rowS mi MA A) si hi sl r nx hF n gN hn) (lw_V q1471 q1473 qs56 q134 q1474) rfl (by decide +kernel) (by decide) (T := TX2) (N := 35) rfl rfl rfl rfl (Nat.le_of_ble_eq_true rfl) (Nat.le_of_ble_eq_true rfl) (Nat.le_of_ble_eq_true rfl) (Nat.le_of_ble_eq_true rfl) (Nat.le_of_ble_eq_true rfl) dX2_of_2 ?_
  refine au_if_ne (tgt := 11) dX2_of_5 (by decide) (fun c5 => ?_) (fun c5 => ?_)
  · have c5 := au_b1 c5
    refine au_iload_n dX2_of_11 rfl ?_
    by_cases c12 : w < 0 ∨ 7 < w
    · refine au_tableOut (tgt := 131) dX2_of_12 c12 (by decide) ?_
      refine au_bipush dX2_of_131 rfl rfl ?_
      refine au_iret dX2_of_133 rfl rfl (Nat.le_of_ble_eq_true rfl) (Nat.le_of_ble_eq_true rfl) ?_
      refine ⟨?_, si, sl, rfl⟩
      unfold ofV
      first
      | (rw [if_pos c5]; done)
      | (rw [if_neg (not_not_intro c5)]
         first
         | (rw [if_pos (by omega)]; done)
         | (rw [if_neg (by omega), if_pos (by omega)]; done)
         | (rw [if_neg (by omega), if_neg (by omega), if_pos (by omega)]; done)
         | (rw [if_neg (by omega), if_neg (by omega), if_neg (by omega), if_pos (by omega)]; done)
         | (rw [if_neg (by omega), if_neg (by omega), if_neg (by omega), if_neg (by omega), if_pos (by omega)]; done)
         | (rw [if_neg (by omega), if_neg (by omega), if_neg (by omega), if_neg (by omega), if_neg (by omega), if_pos (by omega)]; done)
         | (rw [if_neg (by omega), if_neg (by omega), if_neg (by omega), if_neg (by omega), if_neg (by omega), if_neg (by omega), if_pos (by omega)]; done)
         | (rw [if_neg (by omega), if_neg (by omega), if_neg (by omega), if_neg (by omega), if_neg (by omega), if_neg (by omega), if_neg (by omega), if_pos (by omega)]; done)
         | (rw [if_neg (by omega), if_neg (by omega), if_neg (by omega), if_neg (by omega), if_neg (by omega), if_neg (by omega), if_neg (by omega), if_neg (by omega)]; done))
    · have c12 : w = 0 ∨ w = 1 ∨ w = 2 ∨ w = 3 ∨ w = 4 ∨ w = 5 ∨ w = 6 ∨ w = 7 := by omega
      rcases c12 with e12 | e12 | e12 | e12 | e12 | e12 | e12 | e12
      · refine au_tableIn (off := 48) (tgt := 60) dX2_of_12 (by omega) (by omega) (by rw [e12]; rfl) (by decide) ?_
        refine au_aload_n dX2_of_60 rfl ?_
        refine au_getf (C := RX2) (T := TX2) (N := 35) in_X2 (by decide) rfl 0 (by decide) rfl rfl q1359 rfl dX2_of_61 (v := au_r MA) (congrArg au_q (fx_MO_0 hF)) ?_
        refine au_bipush dX2_of_64 rfl rfl ?_
        refine au_iload_n dX2_of_66 rfl ?_
        refine au_iadd dX2_of_67 (by omega) (by omega) ?_
        refine au_iald dX2_of_68 rfl (by omega) (by show _ < ((4544 : Nat) : Int); omega) (v := au_i (B o)) (congrArg au_i (((au_gi_m (au_reg_MA _)).trans (show rowS mi MA A MA (90 + o) = A (90 + o) from (rowS_self _ _ _ _).trans (rfl))).trans (hE.2.1 _ (by omega) (by omega)))) ?_
        refine au_iret dX2_of_69 rfl rfl (Nat.le_of_ble_eq_true rfl) (Nat.le_of_ble_eq_true rfl) ?_
        refine ⟨?_, si, sl, rfl⟩
        unfold ofV
        first
        | (rw [if_pos c5]; done)
        | (rw [if_neg (not_not_intro c5)]
           first
           | (rw [if_pos (by omega)]; done)
           | (rw [if_neg (by omega), if_pos (by omega)]; done)
           | (rw [if_neg (by omega), if_neg (by omega), if_pos (by omega)]; done)
           | (rw [if_neg (by omega), if_neg (by omega), if_neg (by omega), if_pos (by omega)]; done)
           | (rw [if_neg (by omega), if_neg (by omega), if_neg (by omega), if_neg (by omega), if_pos (by omega)]; done)
           | (rw [if_neg (by omega), if_neg (by omega), if_neg (by omega), if_neg (by omega), if_neg (by omega), if_pos (by omega)]; done)
           | (rw [if_neg (by omega), if_neg (by omega), if_neg (by omega), if_neg (by omega), if_neg (by omega), if_neg (by omega), if_pos (by omega)]; done)
           | (rw [if_neg (by omega), if_neg (by omega), if_neg (by omega), if_neg (by omega), if_neg (by omega), if_neg (by omega), if_neg (by omega), if_pos (by omega)]; done)
           | (rw [if_neg (by omega), if_neg (by omega), if_neg (by omega), if_neg (by omega), if_neg (by omega), if_neg (by omega), if_neg (by omega), if_neg (by omega)]; done))
      · refine au_tableIn (off := 58) (tgt := 70) dX2_of_12 (by omega) (by omega) (by rw [e12]; rfl) (by decide) ?_
        refine au_aload_n dX2_of_70 rfl ?_
        refine au_getf (C := RX2) (T := TX2) (N := 35) in_X2 (by decide) rfl 0 (by decide) rfl rfl q1359 rfl dX2_of_71 (v := au_r MA) (congrArg au_q (fx_MO_0 hF)) ?_
        refine au_bipush dX2_of_74 rfl rfl ?_
        refine au_iload_n dX2_of_76 rfl ?_
        refine au_iadd dX2_of_77 (by omega) (by omega) ?_
        refine au_iald dX2_of_78 rfl (by omega) (by show _ < ((4544 : Nat) : Int); omega) (v := au_i (Pr o)) (congrArg au_i (((au_gi_m (au_reg_MA _)).trans (show rowS mi MA A MA (100 + o) = A (100 + o) from (rowS_self _ _ _ _).trans (rfl))).trans (hE.2.2.2.1 _ (by omega) (by omega)))) ?_
        refine au_iret dX2_of_79 rfl rfl (Nat.le_of_ble_eq_true rfl) (Nat.le_of_ble_eq_true rfl) ?_
        refine ⟨?_, si, sl, rfl⟩
        unfold ofV
        first
        | (rw [if_pos c5]; done)
        | (rw [if_neg (not_not_intro c5)]
           first
           | (rw [if_pos (by omega)]; done)
           | (rw [if_neg (by omega), if_pos (by omega)]; done)
           | (rw [if_neg (by omega), if_neg (by omega), if_pos (by omega)]; done)
           | (rw [if_neg (by omega), if_neg (by omega), if_neg (by omega), if_pos (by omega)]; done)
           | (rw [if_neg (by omega), if_neg (by omega), if_neg (by omega), if_neg (by omega), if_pos (by omega)]; done)
           | (rw [if_neg (by omega), if_neg (by omega), if_neg (by omega), if_neg (by omega), if_neg (by omega), if_pos (by omega)]; done)
           | (rw [if_neg (by omega), if_neg (by omega), if_neg (by omega), if_neg (by omega), if_neg (by omega), if_neg (by omega), if_pos (by omega)]; done)
           | (rw [if_neg (by omega), if_neg (by omega), if_neg (by omega), if_neg (by omega), if_neg (by omega), if_neg (by omega), if_neg (by omega), if_pos (by omega)]; done)
           | (rw [if_neg (by omega), if_neg (by omega), if_neg (by omega), if_neg (by omega), if_neg (by omega), if_neg (by omega), if_neg (by omega), if_neg (by omega)]; done))
      · refine au_tableIn (off := 68) (tgt := 80) dX2_of_12 (by omega) (by omega) (by rw [e12]; rfl) (by decide) ?_
        refine au_aload_n dX2_of_80 rfl ?_
        refine au_iload_n dX2_of_81 rfl ?_
        refine au_callVp (n := 1) (kX2_rankOf G o (rowS mi MA A) si hi sl r nx hF n gN B gE hB (by omega) (by omega)) (lw_V q1722 q1724 qs99 q134 q1725) rfl (by decide +kernel) (by decide) (T := TX2) (N := 35) rfl rfl rfl rfl (Nat.le_of_ble_eq_true rfl) (Nat.le_of_ble_eq_true rfl) (Nat.le_of_ble_eq_true rfl) (Nat.le_of_ble_eq_true rfl) (Nat.le_of_ble_eq_true rfl) dX2_of_82 ?_
        refine au_iret dX2_of_85 rfl rfl (Nat.le_of_ble_eq_true rfl) (Nat.le_of_ble_eq_true rfl) ?_
        refine ⟨?_, si, sl, rfl⟩
        unfold ofV
        first
        | (rw [if_pos c5]; done)
        | (rw [if_neg (not_not_intro c5)]
           first
           | (rw [if_pos (by omega)]; done)
           | (rw [if_neg (by omega), if_pos (by omega)]; done)
           | (rw [if_neg (by omega), if_neg (by omega), if_pos (by omega)]; done)
           | (rw [if_neg (by omega), if_neg (by omega), if_neg (by omega), if_pos (by omega)]; done)
           | (rw [if_neg (by omega), if_neg (by omega), if_neg (by omega), if_neg (by omega), if_pos (by omega)]; done)
           | (rw [if_neg (by omega), if_neg (by omega), if_neg (by omega), if_neg (by omega), if_neg (by omega), if_pos (by omega)]; done)
           | (rw [if_neg (by omega), if_neg (by omega), if_neg (by omega), if_neg (by omega), if_neg (by omega), if_neg (by omega), if_pos (by omega)]; done)
           | (rw [if_neg (by omega), if_neg (by omega), if_neg (by omega), if_neg (by omega), if_neg (by omega), if_neg (by omega), if_neg (by omega), if_pos (by omega)]; done)
           | (rw [if_neg (by omega), if_neg (by omega), if_neg (by omega), if_neg (by omega), if_neg (by omega), if_neg (by omega), if_neg (by omega), if_neg (by omega)]; done))
      · refine au_tableIn (off := 74) (tgt := 86) dX2_of_12 (by omega) (by omega) (by rw [e12]; rfl) (by decide) ?_
        refine au_aload_n dX2_of_86 rfl ?_
        refine au_getf (C := RX2) (T := TX2) (N := 35) in_X2 (by decide) rfl 0 (by decide) rfl rfl q1359 rfl dX2_of_87 (v := au_r MA) (congrArg au_q (fx_MO_0 hF)) ?_
        refine au_bipush dX2_of_90 rfl rfl ?_
        refine au_iload_n dX2_of_92 rfl ?_
        refine au_iadd dX2_of_93 (by omega) (by omega) ?_
        refine au_iald dX2_of_94 rfl (by omega) (by show _ < ((4544 : Nat) : Int); omega) (v := au_i (R (73 + o))) (congrArg au_i (((au_gi_m (au_reg_MA _)).trans (show rowS mi MA A MA (10 + o) = A (10 + o) from (rowS_self _ _ _ _).trans (rfl))).trans (hM.2.2.2.1 _ (by omega) (by omega)))) ?_
        refine au_iret dX2_of_95 rfl rfl (Nat.le_of_ble_eq_true rfl) (Nat.le_of_ble_eq_true rfl) ?_
        refine ⟨?_, si, sl, rfl⟩
        unfold ofV
        first
        | (rw [if_pos c5]; done)
        | (rw [if_neg (not_not_intro c5)]
           first
           | (rw [if_pos (by omega)]; done)
           | (rw [if_neg (by omega), if_pos (by omega)]; done)
           | (rw [if_neg (by omega), if_neg (by omega), if_pos (by omega)]; done)
           | (rw [if_neg (by omega), if_neg (by omega), if_neg (by omega), if_pos (by omega)]; done)
           | (rw [if_neg (by omega), if_neg (by omega), if_neg (by omega), if_neg (by omega), if_pos (by omega)]; done)
           | (rw [if_neg (by omega), if_neg (by omega), if_neg (by omega), if_neg (by omega), if_neg (by omega), if_pos (by omega)]; done)
           | (rw [if_neg (by omega), if_neg (by omega), if_neg (by omega), if_neg (by omega), if_neg (by omega), if_neg (by omega), if_pos (by omega)]; done)
           | (rw [if_neg (by omega), if_neg (by omega), if_neg (by omega), if_neg (by omega), if_neg (by omega), if_neg (by omega), if_neg (by omega), if_pos (by omega)]; done)
           | (rw [if_neg (by omega), if_neg (by omega), if_neg (by omega), if_neg (by omega), if_neg (by omega), if_neg (by omega), if_neg (by omega), if_neg (by omega)]; done))
      · refine au_tableIn (off := 84) (tgt := 96) dX2_of_12 (by omega) (by omega) (by rw [e12]; rfl) (by decide) ?_
        refine au_aload_n dX2_of_96 rfl ?_
        refine au_aload_n dX2_of_97 rfl ?_
        refine au_getf (C := RX2) (T := TX2) (N := 35) in_X2 (by decide) rfl 0 (by decide) rfl rfl q1359 rfl dX2_of_98 (v := au_r MA) (congrArg au_q (fx_MO_0 hF)) ?_
        refine au_iconst dX2_of_101 rfl rfl ?_
        refine au_iald dX2_of_102 rfl (by omega) (by show _ < ((4544 : Nat) : Int); omega) (v := au_i (A 2)) (congrArg au_i ((au_gi_m (au_reg_MA _)).trans (show rowS mi MA A MA 2 = A 2 from (rowS_self _ _ _ _).trans (rfl)))) ?_
        refine au_iload_n dX2_of_103 rfl ?_
        refine au_callV (n := 2) (kX2_addsOf G (A 2) o Lw (rowS mi MA A) si hi sl r nx hF n gN B gE hB Pr gP gT c5.1 c5.2 (hP9 o c5.1 c5.2) (by rw [g6]; unfold I32; omega)) (lw_V q1819 q1821 qs113 q134 q1822) rfl (by decide +kernel) (by decide) (T := TX2) (N := 35) rfl rfl rfl rfl (Nat.le_of_ble_eq_true rfl) (Nat.le_of_ble_eq_true rfl) (Nat.le_of_ble_eq_true rfl) (Nat.le_of_ble_eq_true rfl) (Nat.le_of_ble_eq_true rfl) dX2_of_104 (fun rv_ M_ hp_ => ?_)
        obtain ⟨rfl, s1, l1, rfl, hg1, hg2⟩ := hp_
        rw [g6]
        show au_Go G _ _ 107 [some (au_r MO), some (au_i o), some (au_i w)] [au_i (lawV Lw 0 (nmF B Pr n (R 0) 10 o o 0 0 0) (Pr o + 1) 999)] ((rowS mi MA A), s1, hi, l1, r, nx) 0 0
        refine au_iret dX2_of_107 rfl rfl (Nat.le_of_ble_eq_true rfl) (Nat.le_of_ble_eq_true rfl) ?_
        refine ⟨?_, s1, l1, rfl⟩
        unfold ofV
        first
        | (rw [if_pos c5]; done)
        | (rw [if_neg (not_not_intro c5)]
           first
           | (rw [if_pos (by omega)]; done)
           | (rw [if_neg (by omega), if_pos (by omega)]; done)
           | (rw [if_neg (by omega), if_neg (by omega), if_pos (by omega)]; done)
           | (rw [if_neg (by omega), if_neg (by omega), if_neg (by omega), if_pos (by omega)]; done)
           | (rw [if_neg (by omega), if_neg (by omega), if_neg (by omega), if_neg (by omega), if_pos (by omega)]; done)
           | (rw [if_neg (by omega), if_neg (by omega), if_neg (by omega), if_neg (by omega), if_neg (by omega), if_pos (by omega)]; done)
           | (rw [if_neg (by omega), if_neg (by omega), if_neg (by omega), if_neg (by omega), if_neg (by omega), if_neg (by omega), if_pos (by omega)]; done)
           | (rw [if_neg (by omega), if_neg (by omega), if_neg (by omega), if_neg (by omega), if_neg (by omega), if_neg (by omega), if_neg (by omega), if_pos (by omega)]; done)
           | (rw [if_neg (by omega), if_neg (by omega), if_neg (by omega), if_neg (by omega), if_neg (by omega), if_neg (by omega), if_neg (by omega), if_neg (by omega)]; done))
      · refine au_tableIn (off := 96) (tgt := 108) dX2_of_12 (by omega) (by omega) (by rw [e12]; rfl) (by decide) ?_
        refine au_aload_n dX2_of_108 rfl ?_
        refine au_iload_n dX2_of_109 rfl ?_
        refine au_iconst dX2_of_110 rfl rfl ?_
        refine au_callVp (n := 2) (kX2_deskOf G o (-1) (rowS mi MA A) si hi sl r nx hF (R 2) ((rowS_self _ _ _ _).trans hM.2.2.1) ⟨r2, r2b⟩ (fun k w => R (3 + 7 * k + w)) (hM.g mi)) (lw_V q1726 q1728 qs100 q134 q1729) rfl (by decide +kernel) (by decide) (T := TX2) (N := 35) rfl rfl rfl rfl (Nat.le_of_ble_eq_true rfl) (Nat.le_of_ble_eq_true rfl) (Nat.le_of_ble_eq_true rfl) (Nat.le_of_ble_eq_true rfl) (Nat.le_of_ble_eq_true rfl) dX2_of_111 ?_
        refine au_iret dX2_of_114 rfl rfl (Nat.le_of_ble_eq_true rfl) (Nat.le_of_ble_eq_true rfl) ?_
        refine ⟨?_, si, sl, rfl⟩
        unfold ofV
        first
        | (rw [if_pos c5]; done)
        | (rw [if_neg (not_not_intro c5)]
           first
           | (rw [if_pos (by omega)]; done)
           | (rw [if_neg (by omega), if_pos (by omega)]; done)
           | (rw [if_neg (by omega), if_neg (by omega), if_pos (by omega)]; done)
           | (rw [if_neg (by omega), if_neg (by omega), if_neg (by omega), if_pos (by omega)]; done)
           | (rw [if_neg (by omega), if_neg (by omega), if_neg (by omega), if_neg (by omega), if_pos (by omega)]; done)
           | (rw [if_neg (by omega), if_neg (by omega), if_neg (by omega), if_neg (by omega), if_neg (by omega), if_pos (by omega)]; done)
           | (rw [if_neg (by omega), if_neg (by omega), if_neg (by omega), if_neg (by omega), if_neg (by omega), if_neg (by omega), if_pos (by omega)]; done)
           | (rw [if_neg (by omega), if_neg (by omega), if_neg (by omega), if_neg (by omega), if_neg (by omega), if_neg (by omega), if_neg (by omega), if_pos (by omega)]; done)
           | (rw [if_neg (by omega), if_neg (by omega), if_neg (by omega), if_neg (by omega), if_neg (by omega), if_neg (by omega), if_neg (by omega), if_neg (by omega)]; done))
      · refine au_tableIn (off := 103) (tgt := 115) dX2_of_12 (by omega) (by omega) (by rw [e12]; rfl) (by decide) ?_
        refine au_aload_n dX2_of_115 rfl ?_
        refine au_getf (C := RX2) (T := TX2) (N := 35) in_X2 (by decide) rfl 0 (by decide) rfl rfl q1359 rfl dX2_of_116 (v := au_r MA) (congrArg au_q (fx_MO_0 hF)) ?_
        refine au_bipush dX2_of_119 rfl rfl ?_
        refine au_iload_n dX2_of_121 rfl ?_
        refine au_iadd dX2_of_122 (by omega) (by omega) ?_
        refine au_iald dX2_of_123 rfl (by omega) (by show _ < ((4544 : Nat) : Int); omega) (v := au_i (Co o)) (congrArg au_i (((au_gi_m (au_reg_MA _)).trans (show rowS mi MA A MA (110 + o) = A (110 + o) from (rowS_self _ _ _ _).trans (rfl))).trans (hCo _ (by omega) (by omega)))) ?_
        refine au_iret dX2_of_124 rfl rfl (Nat.le_of_ble_eq_true rfl) (Nat.le_of_ble_eq_true rfl) ?_
        refine ⟨?_, si, sl, rfl⟩
        unfold ofV
        first
        | (rw [if_pos c5]; done)
        | (rw [if_neg (not_not_intro c5)]
           first
           | (rw [if_pos (by omega)]; done)
           | (rw [if_neg (by omega), if_pos (by omega)]; done)
           | (rw [if_neg (by omega), if_neg (by omega), if_pos (by omega)]; done)
           | (rw [if_neg (by omega), if_neg (by omega), if_neg (by omega), if_pos (by omega)]; done)
           | (rw [if_neg (by omega), if_neg (by omega), if_neg (by omega), if_neg (by omega), if_pos (by omega)]; done)
           | (rw [if_neg (by omega), if_neg (by omega), if_neg (by omega), if_neg (by omega), if_neg (by omega), if_pos (by omega)]; done)
           | (rw [if_neg (by omega), if_neg (by omega), if_neg (by omega), if_neg (by omega), if_neg (by omega), if_neg (by omega), if_pos (by omega)]; done)
           | (rw [if_neg (by omega), if_neg (by omega), if_neg (by omega), if_neg (by omega), if_neg (by omega), if_neg (by omega), if_neg (by omega), if_pos (by omega)]; done)
           | (rw [if_neg (by omega), if_neg (by omega), if_neg (by omega), if_neg (by omega), if_neg (by omega), if_neg (by omega), if_neg (by omega), if_neg (by omega)]; done))
      · refine au_tableIn (off := 113) (tgt := 125) dX2_of_12 (by omega) (by omega) (by rw [e12]; rfl) (by decide) ?_
        refine au_aload_n dX2_of_125 rfl ?_
        refine au_iload_n dX2_of_126 rfl ?_
        refine au_callVp (n := 1) (kX2_belowOf G o (rowS mi MA A) si hi sl r nx hF n gN B gE hB (by omega) (by omega)) (lw_V q1823 q1825 qs114 q134 q1826) rfl (by decide +kernel) (by decide) (T := TX2) (N := 35) rfl rfl rfl rfl (Nat.le_of_ble_eq_true rfl) (Nat.le_of_ble_eq_true rfl) (Nat.le_of_ble_eq_true rfl) (Nat.le_of_ble_eq_true rfl) (Nat.le_of_ble_eq_true rfl) dX2_of_127 ?_
        refine au_iret dX2_of_130 rfl rfl (Nat.le_of_ble_eq_true rfl) (Nat.le_of_ble_eq_true rfl) ?_
        refine ⟨?_, si, sl, rfl⟩
        unfold ofV
        first
        | (rw [if_pos c5]; done)
        | (rw [if_neg (not_not_intro c5)]
           first
           | (rw [if_pos (by omega)]; done)
           | (rw [if_neg (by omega), if_pos (by omega)]; done)
           | (rw [if_neg (by omega), if_neg (by omega), if_pos (by omega)]; done)
           | (rw [if_neg (by omega), if_neg (by omega), if_neg (by omega), if_pos (by omega)]; done)
           | (rw [if_neg (by omega), if_neg (by omega), if_neg (by omega), if_neg (by omega), if_pos (by omega)]; done)
           | (rw [if_neg (by omega), if_neg (by omega), if_neg (by omega), if_neg (by omega), if_neg (by omega), if_pos (by omega)]; done)
           | (rw [if_neg (by omega), if_neg (by omega), if_neg (by omega), if_neg (by omega), if_neg (by omega), if_neg (by omega), if_pos (by omega)]; done)
           | (rw [if_neg (by omega), if_neg (by omega), if_neg (by omega), if_neg (by omega), if_neg (by omega), if_neg (by omega), if_neg (by omega), if_pos (by omega)]; done)
           | (rw [if_neg (by omega), if_neg (by omega), if_neg (by omega), if_neg (by omega), if_neg (by omega), if_neg (by omega), if_neg (by omega), if_neg (by omega)]; done))
  · have c5 := au_b0 c5
    refine au_bipush dX2_of_8 rfl rfl ?_
    refine au_iret dX2_of_10 rfl rfl (Nat.le_of_ble_eq_true rfl) (Nat.le_of_ble_eq_true rfl) ?_
    refine ⟨?_, si, sl, rfl⟩
    unfold ofV
    first
    | (rw [if_pos c5]; done)
    | (rw [if_neg (not_not_intro c5)]
       first
       | (rw [if_pos (by omega)]; done)
       | (rw [if_neg (by omega), if_pos (by omega)]; done)
       | (rw [if_neg (by omega), if_neg (by omega), if_pos (by omega)]; done)
       | (rw [if_neg (by omega), if_neg (by omega), if_neg (by omega), if_pos (by omega)]; done)
       | (rw [if_neg (by omega), if_neg (by omega), if_neg (by omega), if_neg (by omega), if_pos (by omega)]; done)
       | (rw [if_neg (by omega), if_neg (by omega), if_neg (by omega), if_neg (by omega), if_neg (by omega), if_pos (by omega)]; done)
       | (rw [if_neg (by omega), if_neg (by omega), if_neg (by omega), if_neg (by omega), if_neg (by omega), if_neg (by omega), if_pos (by omega)]; done)
       | (rw [if_neg (by omega), if_neg (by omega), if_neg (by omega), if_neg (by omega), if_neg (by omega), if_neg (by omega), if_neg (by omega), if_pos (by omega)]; done)
       | (rw [if_neg (by omega), if_neg (by omega), if_neg (by omega), if_neg (by omega), if_neg (by omega), if_neg (by omega), if_neg (by omega), if_neg (by omega)]; done))
theorem kX2_whose (G : au_G) (Lws : Nat → au_Lw) (tn : Nat) (n : Int) (B Pr R : Int → Int) (A : Int → Int) (mi si hi sl : au_A → Int → Int) (r : au_A → Int → Option au_A) (nx : Nat) (hF : Fix r) (hTn : A 1 = (tn : Int)) (htn : tn ≤ 4) (hT : ∀ t : Nat, t < tn → TmAt (mi MT) (t : Int) (Lws t)) (hN : A 0 = n) (hBo : ∀ o, 0 ≤ o → o < 10 → A (90 + o) = B o) (hB : Bs B n) (hPr : ∀ o, 0 ≤ o → o < 10 → A (100 + o) = Pr o) (hP9 : ∀ o, 0 ≤ o → o < n → 0 ≤ Pr o ∧ Pr o ≤ 9) (hM : A 6 = R 0) (hD : I32 (R 0)) (an : Int) (Ad Bd : Int → Int) (hAn : A 5 = an) (han : 0 ≤ an ∧ an ≤ 8) (hAd : ∀ k, 0 ≤ k → k < 8 → A (148 + 2 * k) = Ad k ∧ A (148 + 2 * k + 1) = Bd k) (hAo : ∀ i, 0 ≤ i → i < an → 0 ≤ Ad i ∧ Ad i < n) : au_Ctr G yX2_whose cX2_whose 5 (some .int) 6 0 0 [au_r MO] (rowS mi MA A, si, hi, sl, r, nx) (fun rv M' => rv = some (au_i ((bsN (fun t : Nat => islP n B Pr (R 0) an Ad Bd (Lws t)) tn : Nat) : Int)) ∧ ∃ sj slj : au_A → Int → Int, M' = (rowS mi MA A, sj, hi, slj, r, nx)) := by
  refine au_of (by decide) (Nat.le_of_ble_eq_true rfl) ?_
  have gN : rowS mi MA A MA 0 = n := (rowS_self _ _ _ _).trans hN
  have gE : ∀ o, 0 ≤ o → o < 10 → rowS mi MA A MA (90 + o) = B o := fun o a b => (rowS_self _ _ _ _).trans (hBo o a b)
  have gP : ∀ o, 0 ≤ o → o < 10 → rowS mi MA A MA (100 + o) = Pr o := fun o a b => (rowS_self _ _ _ _).trans (hPr o a b)
  have g6 : rowS mi MA A MA 6 = R 0 := (rowS_self _ _ _ _).trans hM
  show au_Go G _ _ 0 [some (au_r MO), none, none, none, none] [] (rowS mi MA A, si, hi, sl, r, nx) 0 0
  refine au_iconst dX2_whose_0 rfl rfl ?_
  refine au_istore_n dX2_whose_1 (show 1 < 5 by decide) ?_
  show au_Go G _ _ 2 [some (au_r MO), some (au_i 0), none, none, none] [] ((rowS mi MA A), si, hi, sl, r, nx) 0 0
  refine au_iconst dX2_whose_2 rfl rfl ?_
  refine au_istore_n dX2_whose_3 (show 2 < 5 by decide) ?_
  show au_Go G _ _ 4 [some (au_r MO), some (au_i 0), some (au_i 0), none, none] [] ((rowS mi MA A), si, hi, sl, r, nx) 0 0
  have hl0 : ∀ (f : Nat) (t : Nat) (st lt : au_A → Int → Int) (x3 x4 : Option au_V), t ≤ tn → tn - t < f → au_Go G (yX2_whose.cls, cX2_whose, 5, (some .int), au_rm 6 0 0, yX2_whose.name) (au_QM G (au_rm 6 0 0) (fun rv M' => rv = some (au_i ((bsN (fun t : Nat => islP n B Pr (R 0) an Ad Bd (Lws t)) tn : Nat) : Int)) ∧ ∃ sj slj : au_A → Int → Int, M' = (rowS mi MA A, sj, hi, slj, r, nx))) 4 [some (au_r MO), some (au_i ((bsN (fun t : Nat => islP n B Pr (R 0) an Ad Bd (Lws t)) t : Nat) : Int)), some (au_i (t : Int)), x3, x4] [] (rowS mi MA A, st, hi, lt, r, nx) 0 0 := by
    intro f
    induction f with
    | zero => intro t st lt x3 x4 ht hf; exfalso; omega
    | succ f ih0 =>
      intro t st lt x3 x4 ht hf
      refine au_iload_n dX2_whose_4 rfl ?_
      refine au_aload_n dX2_whose_5 rfl ?_
      refine au_getf (C := RX2) (T := TX2) (N := 35) in_X2 (by decide) rfl 0 (by decide) rfl rfl q1359 rfl dX2_whose_6 (v := au_r MA) (congrArg au_q (fx_MO_0 hF)) ?_
      refine au_iconst dX2_whose_9 rfl rfl ?_
      refine au_iald dX2_whose_10 rfl (by omega) (by show _ < ((4544 : Nat) : Int); omega) (v := au_i ((tn : Int))) (congrArg au_i (((au_gi_m (au_reg_MA _)).trans (show rowS mi MA A MA 1 = A 1 from (rowS_self _ _ _ _).trans (rfl))).trans (hTn))) ?_
      refine au_icmp_ge (tgt := 102) dX2_whose_11 (by decide) (fun c11 => ?_) (fun c11 => ?_)
      · refine au_iload_n dX2_whose_102 rfl ?_
        refine au_iret dX2_whose_103 rfl rfl (Nat.le_of_ble_eq_true rfl) (Nat.le_of_ble_eq_true rfl) ?_
        have hkt : t = tn := by omega
        subst hkt
        exact ⟨rfl, _, _, rfl⟩
      · have hTt0 := hT t (by omega)
        have hTt : TmAt (rowS mi MA A MT) (t : Int) (Lws t) := by rw [rowS_neF _ _ (show MT ≠ MA by decide)]; exact hTt0
        refine au_iconst dX2_whose_14 rfl rfl ?_
        refine au_istore_n dX2_whose_15 (show 3 < 5 by decide) ?_
        show au_Go G _ _ 16 [some (au_r MO), some (au_i ((bsN (fun t : Nat => islP n B Pr (R 0) an Ad Bd (Lws t)) t : Nat) : Int)), some (au_i (t : Int)), some (au_i 1), x4] [] ((rowS mi MA A), st, hi, lt, r, nx) 0 0
        refine au_iconst dX2_whose_16 rfl rfl ?_
        refine au_istore dX2_whose_17 (show 4 < 5 by decide) ?_
        show au_Go G _ _ 19 [some (au_r MO), some (au_i ((bsN (fun t : Nat => islP n B Pr (R 0) an Ad Bd (Lws t)) t : Nat) : Int)), some (au_i (t : Int)), some (au_i 1), some (au_i 0)] [] ((rowS mi MA A), st, hi, lt, r, nx) 0 0
        have hl : ∀ (f : Nat) (k : Nat) (sk_ lk : au_A → Int → Int), (k : Int) ≤ an → 10 - k < f → au_Go G (yX2_whose.cls, cX2_whose, 5, (some .int), au_rm 6 0 0, yX2_whose.name) (au_QM G (au_rm 6 0 0) (fun rv M' => rv = some (au_i ((bsN (fun t : Nat => islP n B Pr (R 0) an Ad Bd (Lws t)) tn : Nat) : Int)) ∧ ∃ sj slj : au_A → Int → Int, M' = (rowS mi MA A, sj, hi, slj, r, nx))) 19 [some (au_r MO), some (au_i ((bsN (fun t : Nat => islP n B Pr (R 0) an Ad Bd (Lws t)) t : Nat) : Int)), some (au_i (t : Int)), some (au_i (au_b (∀ i, 0 ≤ i → i < (k : Int) → lawV (Lws t) 0 (nmF B Pr n (R 0) 10 (Ad i) (Ad i) 0 0 0) (Pr (Ad i) + 1) 999 = Bd i))), some (au_i (k : Int))] [] (rowS mi MA A, sk_, hi, lk, r, nx) 0 0 := by
          intro f
          induction f with
          | zero => intro k sk_ lk hk hf; exfalso; omega
          | succ f ih =>
            intro k sk_ lk hk hf
            refine au_iload dX2_whose_19 rfl ?_
            refine au_aload_n dX2_whose_21 rfl ?_
            refine au_getf (C := RX2) (T := TX2) (N := 35) in_X2 (by decide) rfl 0 (by decide) rfl rfl q1359 rfl dX2_whose_22 (v := au_r MA) (congrArg au_q (fx_MO_0 hF)) ?_
            refine au_iconst dX2_whose_25 rfl rfl ?_
            refine au_iald dX2_whose_26 rfl (by omega) (by show _ < ((4544 : Nat) : Int); omega) (v := au_i (an)) (congrArg au_i (((au_gi_m (au_reg_MA _)).trans (show rowS mi MA A MA 5 = A 5 from (rowS_self _ _ _ _).trans (rfl))).trans (hAn))) ?_
            refine au_icmp_ge (tgt := 82) dX2_whose_27 (by decide) (fun c27 => ?_) (fun c27 => ?_)
            · refine au_iload_n dX2_whose_82 rfl ?_
              refine au_iload_n dX2_whose_83 rfl ?_
              refine au_if_eq (tgt := 93) dX2_whose_84 (by decide) (fun c84 => ?_) (fun c84 => ?_)
              · have c84 := au_b0 c84
                refine au_iconst dX2_whose_93 rfl rfl ?_
                refine au_ior dX2_whose_94 ?_
                refine au_istore_n dX2_whose_95 (show 1 < 5 by decide) ?_
                show au_Go G _ _ 96 [some (au_r MO), some (au_i (au_or ((bsN (fun t : Nat => islP n B Pr (R 0) an Ad Bd (Lws t)) t : Nat) : Int) 0)), some (au_i (t : Int)), some (au_i (au_b (∀ i, 0 ≤ i → i < (k : Int) → lawV (Lws t) 0 (nmF B Pr n (R 0) 10 (Ad i) (Ad i) 0 0 0) (Pr (Ad i) + 1) 999 = Bd i))), some (au_i (k : Int))] [] ((rowS mi MA A), sk_, hi, lk, r, nx) 0 0
                refine au_iinc dX2_whose_96 rfl (show 2 < 5 by decide) (by omega) (by omega) (by decide) (by decide) ?_
                show au_Go G _ _ 99 [some (au_r MO), some (au_i (au_or ((bsN (fun t : Nat => islP n B Pr (R 0) an Ad Bd (Lws t)) t : Nat) : Int) 0)), some (au_i ((t : Int) + 1)), some (au_i (au_b (∀ i, 0 ≤ i → i < (k : Int) → lawV (Lws t) 0 (nmF B Pr n (R 0) 10 (Ad i) (Ad i) 0 0 0) (Pr (Ad i) + 1) 999 = Bd i))), some (au_i (k : Int))] [] ((rowS mi MA A), sk_, hi, lk, r, nx) 0 0
                refine au_goto (tgt := 4) dX2_whose_99 (by decide) ?_
                have hiff : (∀ i, 0 ≤ i → i < (k : Int) → lawV (Lws t) 0 (nmF B Pr n (R 0) 10 (Ad i) (Ad i) 0 0 0) (Pr (Ad i) + 1) 999 = Bd i) ↔ islP n B Pr (R 0) an Ad Bd (Lws t) := by
                  rw [show (k : Int) = an by omega]
                  exact Iff.rfl
                rw [bsN_step (fun t : Nat => islP n B Pr (R 0) an Ad Bd (Lws t)) t (by omega) _ (by first | exact ⟨fun _ => rfl, fun q => absurd (hiff.mp c84) q⟩ | exact ⟨fun q => absurd (hiff.mpr q) c84, fun _ => rfl⟩)]
                exact ih0 (t + 1) _ _ _ _ (by omega) (by omega)
              · have c84 := au_b1 c84
                refine au_iconst dX2_whose_87 rfl rfl ?_
                refine au_iload_n dX2_whose_88 rfl ?_
                refine au_ishl dX2_whose_89 ?_
                refine au_goto (tgt := 94) dX2_whose_90 (by decide) ?_
                refine au_ior dX2_whose_94 ?_
                refine au_istore_n dX2_whose_95 (show 1 < 5 by decide) ?_
                show au_Go G _ _ 96 [some (au_r MO), some (au_i (au_or ((bsN (fun t : Nat => islP n B Pr (R 0) an Ad Bd (Lws t)) t : Nat) : Int) (au_shl 1 (t : Int)))), some (au_i (t : Int)), some (au_i (au_b (∀ i, 0 ≤ i → i < (k : Int) → lawV (Lws t) 0 (nmF B Pr n (R 0) 10 (Ad i) (Ad i) 0 0 0) (Pr (Ad i) + 1) 999 = Bd i))), some (au_i (k : Int))] [] ((rowS mi MA A), sk_, hi, lk, r, nx) 0 0
                refine au_iinc dX2_whose_96 rfl (show 2 < 5 by decide) (by omega) (by omega) (by decide) (by decide) ?_
                show au_Go G _ _ 99 [some (au_r MO), some (au_i (au_or ((bsN (fun t : Nat => islP n B Pr (R 0) an Ad Bd (Lws t)) t : Nat) : Int) (au_shl 1 (t : Int)))), some (au_i ((t : Int) + 1)), some (au_i (au_b (∀ i, 0 ≤ i → i < (k : Int) → lawV (Lws t) 0 (nmF B Pr n (R 0) 10 (Ad i) (Ad i) 0 0 0) (Pr (Ad i) + 1) 999 = Bd i))), some (au_i (k : Int))] [] ((rowS mi MA A), sk_, hi, lk, r, nx) 0 0
                refine au_goto (tgt := 4) dX2_whose_99 (by decide) ?_
                have hiff : (∀ i, 0 ≤ i → i < (k : Int) → lawV (Lws t) 0 (nmF B Pr n (R 0) 10 (Ad i) (Ad i) 0 0 0) (Pr (Ad i) + 1) 999 = Bd i) ↔ islP n B Pr (R 0) an Ad Bd (Lws t) := by
                  rw [show (k : Int) = an by omega]
                  exact Iff.rfl
                rw [bsN_step (fun t : Nat => islP n B Pr (R 0) an Ad Bd (Lws t)) t (by omega) _ (by first | exact ⟨fun _ => rfl, fun q => absurd (hiff.mp c84) q⟩ | exact ⟨fun q => absurd (hiff.mpr q) c84, fun _ => rfl⟩)]
                exact ih0 (t + 1) _ _ _ _ (by omega) (by omega)
            · have hao := hAo (k : Int) (by omega) (by omega)
              refine au_iload_n dX2_whose_30 rfl ?_
              refine au_if_eq (tgt := 74) dX2_whose_31 (by decide) (fun c31 => ?_) (fun c31 => ?_)
              · have c31 := au_b0 c31
                refine au_iconst dX2_whose_74 rfl rfl ?_
                refine au_istore_n dX2_whose_75 (show 3 < 5 by decide) ?_
                show au_Go G _ _ 76 [some (au_r MO), some (au_i ((bsN (fun t : Nat => islP n B Pr (R 0) an Ad Bd (Lws t)) t : Nat) : Int)), some (au_i (t : Int)), some (au_i 0), some (au_i (k : Int))] [] ((rowS mi MA A), sk_, hi, lk, r, nx) 0 0
                refine au_iinc dX2_whose_76 rfl (show 4 < 5 by decide) (by omega) (by omega) (by decide) (by decide) ?_
                show au_Go G _ _ 79 [some (au_r MO), some (au_i ((bsN (fun t : Nat => islP n B Pr (R 0) an Ad Bd (Lws t)) t : Nat) : Int)), some (au_i (t : Int)), some (au_i 0), some (au_i ((k : Int) + 1))] [] ((rowS mi MA A), sk_, hi, lk, r, nx) 0 0
                refine au_goto (tgt := 19) dX2_whose_79 (by decide) ?_
                have ek : au_b (∀ i, 0 ≤ i → i < ((k + 1 : Nat) : Int) → lawV (Lws t) 0 (nmF B Pr n (R 0) 10 (Ad i) (Ad i) 0 0 0) (Pr (Ad i) + 1) 999 = Bd i) = 0 := by
                  exact au_bf (fun z => c31 (fun i i0 i1 => z i i0 (by omega)))
                have hz := fun (sa la : au_A → Int → Int) => ih (k + 1) sa la (by omega) (by omega)
                rw [ek] at hz
                exact hz _ _
              · have c31 := au_b1 c31
                refine au_aload_n dX2_whose_34 rfl ?_
                refine au_iload_n dX2_whose_35 rfl ?_
                refine au_aload_n dX2_whose_36 rfl ?_
                refine au_getf (C := RX2) (T := TX2) (N := 35) in_X2 (by decide) rfl 0 (by decide) rfl rfl q1359 rfl dX2_whose_37 (v := au_r MA) (congrArg au_q (fx_MO_0 hF)) ?_
                refine au_sipush dX2_whose_40 rfl rfl ?_
                refine au_iconst dX2_whose_43 rfl rfl ?_
                refine au_iload dX2_whose_44 rfl ?_
                refine au_imul dX2_whose_46 (by omega) (by omega) ?_
                refine au_iadd dX2_whose_47 (by omega) (by omega) ?_
                refine au_iald dX2_whose_48 rfl (by omega) (by show _ < ((4544 : Nat) : Int); omega) (v := au_i (Ad (k : Int))) (congrArg au_i (((au_gi_m (au_reg_MA _)).trans (show rowS mi MA A MA (148 + (2 * (k : Int))) = A (148 + (2 * (k : Int))) from (rowS_self _ _ _ _).trans (rfl))).trans ((hAd _ (by omega) (by omega)).1))) ?_
                refine au_callV (n := 2) (kX2_addsOf G (t : Int) (Ad (k : Int)) (Lws t) (rowS mi MA A) sk_ hi lk r nx hF n gN B gE hB Pr gP hTt hao.1 hao.2 (hP9 _ hao.1 hao.2) (by rw [g6]; exact hD)) (lw_V q1819 q1821 qs113 q134 q1822) rfl (by decide +kernel) (by decide) (T := TX2) (N := 35) rfl rfl rfl rfl (Nat.le_of_ble_eq_true rfl) (Nat.le_of_ble_eq_true rfl) (Nat.le_of_ble_eq_true rfl) (Nat.le_of_ble_eq_true rfl) (Nat.le_of_ble_eq_true rfl) dX2_whose_49 (fun rv_ M_ hp_ => ?_)
                obtain ⟨rfl, s1, l1, rfl, hg1, hg2⟩ := hp_
                rw [g6]
                show au_Go G _ _ 52 [some (au_r MO), some (au_i ((bsN (fun t : Nat => islP n B Pr (R 0) an Ad Bd (Lws t)) t : Nat) : Int)), some (au_i (t : Int)), some (au_i (au_b (∀ i, 0 ≤ i → i < (k : Int) → lawV (Lws t) 0 (nmF B Pr n (R 0) 10 (Ad i) (Ad i) 0 0 0) (Pr (Ad i) + 1) 999 = Bd i))), some (au_i (k : Int))] [au_i (lawV (Lws t) 0 (nmF B Pr n (R 0) 10 (Ad (k : Int)) (Ad (k : Int)) 0 0 0) (Pr (Ad (k : Int)) + 1) 999)] ((rowS mi MA A), s1, hi, l1, r, nx) 0 0
                refine au_aload_n dX2_whose_52 rfl ?_
                refine au_getf (C := RX2) (T := TX2) (N := 35) in_X2 (by decide) rfl 0 (by decide) rfl rfl q1359 rfl dX2_whose_53 (v := au_r MA) (congrArg au_q (fx_MO_0 hF)) ?_
                refine au_sipush dX2_whose_56 rfl rfl ?_
                refine au_iconst dX2_whose_59 rfl rfl ?_
                refine au_iload dX2_whose_60 rfl ?_
                refine au_imul dX2_whose_62 (by omega) (by omega) ?_
                refine au_iadd dX2_whose_63 (by omega) (by omega) ?_
                refine au_iconst dX2_whose_64 rfl rfl ?_
                refine au_iadd dX2_whose_65 (by omega) (by omega) ?_
                refine au_iald dX2_whose_66 rfl (by omega) (by show _ < ((4544 : Nat) : Int); omega) (v := au_i (Bd (k : Int))) (congrArg au_i (((au_gi_m (au_reg_MA _)).trans (show rowS mi MA A MA ((148 + (2 * (k : Int))) + 1) = A ((148 + (2 * (k : Int))) + 1) from (rowS_self _ _ _ _).trans (rfl))).trans ((hAd _ (by omega) (by omega)).2))) ?_
                refine au_icmp_ne (tgt := 74) dX2_whose_67 (by decide) (fun c67 => ?_) (fun c67 => ?_)
                · refine au_iconst dX2_whose_74 rfl rfl ?_
                  refine au_istore_n dX2_whose_75 (show 3 < 5 by decide) ?_
                  show au_Go G _ _ 76 [some (au_r MO), some (au_i ((bsN (fun t : Nat => islP n B Pr (R 0) an Ad Bd (Lws t)) t : Nat) : Int)), some (au_i (t : Int)), some (au_i 0), some (au_i (k : Int))] [] ((rowS mi MA A), s1, hi, l1, r, nx) 0 0
                  refine au_iinc dX2_whose_76 rfl (show 4 < 5 by decide) (by omega) (by omega) (by decide) (by decide) ?_
                  show au_Go G _ _ 79 [some (au_r MO), some (au_i ((bsN (fun t : Nat => islP n B Pr (R 0) an Ad Bd (Lws t)) t : Nat) : Int)), some (au_i (t : Int)), some (au_i 0), some (au_i ((k : Int) + 1))] [] ((rowS mi MA A), s1, hi, l1, r, nx) 0 0
                  refine au_goto (tgt := 19) dX2_whose_79 (by decide) ?_
                  have ek : au_b (∀ i, 0 ≤ i → i < ((k + 1 : Nat) : Int) → lawV (Lws t) 0 (nmF B Pr n (R 0) 10 (Ad i) (Ad i) 0 0 0) (Pr (Ad i) + 1) 999 = Bd i) = 0 := by
                    exact au_bf (fun z => c67 (z (k : Int) (by omega) (by omega)))
                  have hz := fun (sa la : au_A → Int → Int) => ih (k + 1) sa la (by omega) (by omega)
                  rw [ek] at hz
                  exact hz _ _
                · refine au_iconst dX2_whose_70 rfl rfl ?_
                  refine au_goto (tgt := 75) dX2_whose_71 (by decide) ?_
                  refine au_istore_n dX2_whose_75 (show 3 < 5 by decide) ?_
                  show au_Go G _ _ 76 [some (au_r MO), some (au_i ((bsN (fun t : Nat => islP n B Pr (R 0) an Ad Bd (Lws t)) t : Nat) : Int)), some (au_i (t : Int)), some (au_i 1), some (au_i (k : Int))] [] ((rowS mi MA A), s1, hi, l1, r, nx) 0 0
                  refine au_iinc dX2_whose_76 rfl (show 4 < 5 by decide) (by omega) (by omega) (by decide) (by decide) ?_
                  show au_Go G _ _ 79 [some (au_r MO), some (au_i ((bsN (fun t : Nat => islP n B Pr (R 0) an Ad Bd (Lws t)) t : Nat) : Int)), some (au_i (t : Int)), some (au_i 1), some (au_i ((k : Int) + 1))] [] ((rowS mi MA A), s1, hi, l1, r, nx) 0 0
                  refine au_goto (tgt := 19) dX2_whose_79 (by decide) ?_
                  have ek : au_b (∀ i, 0 ≤ i → i < ((k + 1 : Nat) : Int) → lawV (Lws t) 0 (nmF B Pr n (R 0) 10 (Ad i) (Ad i) 0 0 0) (Pr (Ad i) + 1) 999 = Bd i) = 1 := by
                    refine au_bt (fun i i0 i1 => ?_)
                    by_cases e : i = (k : Int)
                    · rw [e]; exact c67
                    · exact c31 i i0 (by omega)
                  have hz := fun (sa la : au_A → Int → Int) => ih (k + 1) sa la (by omega) (by omega)
                  rw [ek] at hz
                  exact hz _ _
        have h0 := hl 11 0 st lt (by omega) (by omega)
        rw [au_bt (show ∀ i, 0 ≤ i → i < ((0 : Nat) : Int) → lawV (Lws t) 0 (nmF B Pr n (R 0) 10 (Ad i) (Ad i) 0 0 0) (Pr (Ad i) + 1) 999 = Bd i from fun i i0 i1 => by omega)] at h0
        exact h0
  exact hl0 (tn + 1) 0 si sl none none (by omega) (by omega)
