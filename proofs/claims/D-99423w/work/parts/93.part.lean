/-! THE MODEL: the next part of what is open (printed by tools/m93.py) -/
set_option maxRecDepth 100000
set_option maxHeartbeats 4000000
theorem kX2_partOf (G : au_G) (so : Int → Int) (q : Int) (W : List Int) (o : Int) (mi si hi sl : au_A → Int → Int) (r : au_A → Int → Option au_A) (nx : Nat) (hF : Fix r) (hS : SgAt (so q) si) (hW : WdAt (so q) si sl) (hp : si MO 16 = (W.length : Int)) (hw : WtAt (si MWait) W) (hl : W.length ≤ 160) (ho : o = opn W) : au_Ctr G yX2_partOf cX2_partOf 2 (some .int) 3 0 0 [au_r MO, au_i o] (mi, si, hi, sl, r, nx) (au_pure (au_i (parM so q W)) (mi, si, hi, sl, r, nx)) := by
  refine au_of (by decide) (Nat.le_of_ble_eq_true rfl) ?_
  have w17 := hW.at 17 (((116 * 256 + 104) * 256 + 101) * 256 + 110) 217 (by decide) (by decide +kernel) rfl
  have w18 := hW.at 18 (((101 * 256 + 108) * 256 + 115) * 256 + 101) 218 (by decide) (by decide +kernel) rfl
  have w19 := hW.at 19 ((101 * 256 + 110) * 256 + 100) 219 (by decide) (by decide +kernel) rfl
  show au_Go G _ _ 0 [some (au_r MO), some (au_i o)] [] (mi, si, hi, sl, r, nx) 0 0
  refine au_iload_n dX2_partOf_0 rfl ?_
  by_cases c1 : o < 40 ∨ 44 < o
  · refine au_tableOut (tgt := 130) dX2_partOf_1 c1 (by decide) ?_
    refine au_iconst dX2_partOf_130 rfl rfl ?_
    refine au_iret dX2_partOf_131 rfl rfl (Nat.le_of_ble_eq_true rfl) (Nat.le_of_ble_eq_true rfl) ?_
    refine au_pe ?_ rfl
    unfold parM
    rw [← ho]
    first
    | (rw [if_neg (by omega), if_neg (by omega), if_neg (by omega), if_neg (by omega)])
    | (rw [if_pos (by omega), if_neg ((hS.at 41 (by decide)).no (by assumption))])
    | (rw [if_pos (by omega), if_pos ((hS.at 41 (by decide)).yes (by assumption))])
    | (rw [if_neg (by omega), if_pos (by omega), if_neg (fun z => c66 (w17.no z.1))])
    | (rw [if_neg (by omega), if_pos (by omega), if_neg (fun z => c73 z.2)])
    | (rw [if_neg (by omega), if_pos (by omega), if_pos ⟨w17.yes (And.left c66) (And.right c66), by simpa using c73⟩])
    | (rw [if_neg (by omega), if_neg (by omega), if_pos (by omega), if_neg (fun z => c98 (w18.no z))])
    | (rw [if_neg (by omega), if_neg (by omega), if_pos (by omega), if_pos (w18.yes (And.left c98) (And.right c98))])
    | (rw [if_neg (by omega), if_neg (by omega), if_neg (by omega), if_pos (by omega), if_neg (fun z => c121 (w19.no z))])
    | (rw [if_neg (by omega), if_neg (by omega), if_neg (by omega), if_pos (by omega), if_pos (w19.yes (And.left c121) (And.right c121))])
  · have c1 : o = 40 ∨ o = 41 ∨ o = 42 ∨ o = 43 ∨ o = 44 := by omega
    rcases c1 with e1 | e1 | e1 | e1 | e1
    · refine au_tableIn (off := 35) (tgt := 36) dX2_partOf_1 (by omega) (by omega) (by rw [e1]; rfl) (by decide) ?_
      refine au_aload_n dX2_partOf_36 rfl ?_
      refine au_getf (C := RX2) (T := TX2) (N := 35) in_X2 (by decide) rfl 9 (by decide) rfl rfl q1368 rfl dX2_partOf_37 (v := au_i (si MO 9)) (by rfl) ?_
      refine au_bipush dX2_partOf_40 rfl rfl ?_
      refine au_icmp_ne (tgt := 49) dX2_partOf_42 (by decide) (fun c42 => ?_) (fun c42 => ?_)
      · refine au_iconst dX2_partOf_49 rfl rfl ?_
        refine au_iret dX2_partOf_50 rfl rfl (Nat.le_of_ble_eq_true rfl) (Nat.le_of_ble_eq_true rfl) ?_
        refine au_pe ?_ rfl
        unfold parM
        rw [← ho]
        first
        | (rw [if_neg (by omega), if_neg (by omega), if_neg (by omega), if_neg (by omega)])
        | (rw [if_pos (by omega), if_neg ((hS.at 41 (by decide)).no (by assumption))])
        | (rw [if_pos (by omega), if_pos ((hS.at 41 (by decide)).yes (by assumption))])
        | (rw [if_neg (by omega), if_pos (by omega), if_neg (fun z => c66 (w17.no z.1))])
        | (rw [if_neg (by omega), if_pos (by omega), if_neg (fun z => c73 z.2)])
        | (rw [if_neg (by omega), if_pos (by omega), if_pos ⟨w17.yes (And.left c66) (And.right c66), by simpa using c73⟩])
        | (rw [if_neg (by omega), if_neg (by omega), if_pos (by omega), if_neg (fun z => c98 (w18.no z))])
        | (rw [if_neg (by omega), if_neg (by omega), if_pos (by omega), if_pos (w18.yes (And.left c98) (And.right c98))])
        | (rw [if_neg (by omega), if_neg (by omega), if_neg (by omega), if_pos (by omega), if_neg (fun z => c121 (w19.no z))])
        | (rw [if_neg (by omega), if_neg (by omega), if_neg (by omega), if_pos (by omega), if_pos (w19.yes (And.left c121) (And.right c121))])
      · refine au_iconst dX2_partOf_45 rfl rfl ?_
        refine au_goto (tgt := 50) dX2_partOf_46 (by decide) ?_
        refine au_iret dX2_partOf_50 rfl rfl (Nat.le_of_ble_eq_true rfl) (Nat.le_of_ble_eq_true rfl) ?_
        refine au_pe ?_ rfl
        unfold parM
        rw [← ho]
        first
        | (rw [if_neg (by omega), if_neg (by omega), if_neg (by omega), if_neg (by omega)])
        | (rw [if_pos (by omega), if_neg ((hS.at 41 (by decide)).no (by assumption))])
        | (rw [if_pos (by omega), if_pos ((hS.at 41 (by decide)).yes (by assumption))])
        | (rw [if_neg (by omega), if_pos (by omega), if_neg (fun z => c66 (w17.no z.1))])
        | (rw [if_neg (by omega), if_pos (by omega), if_neg (fun z => c73 z.2)])
        | (rw [if_neg (by omega), if_pos (by omega), if_pos ⟨w17.yes (And.left c66) (And.right c66), by simpa using c73⟩])
        | (rw [if_neg (by omega), if_neg (by omega), if_pos (by omega), if_neg (fun z => c98 (w18.no z))])
        | (rw [if_neg (by omega), if_neg (by omega), if_pos (by omega), if_pos (w18.yes (And.left c98) (And.right c98))])
        | (rw [if_neg (by omega), if_neg (by omega), if_neg (by omega), if_pos (by omega), if_neg (fun z => c121 (w19.no z))])
        | (rw [if_neg (by omega), if_neg (by omega), if_neg (by omega), if_pos (by omega), if_pos (w19.yes (And.left c121) (And.right c121))])
    · refine au_tableIn (off := 129) (tgt := 130) dX2_partOf_1 (by omega) (by omega) (by rw [e1]; rfl) (by decide) ?_
      refine au_iconst dX2_partOf_130 rfl rfl ?_
      refine au_iret dX2_partOf_131 rfl rfl (Nat.le_of_ble_eq_true rfl) (Nat.le_of_ble_eq_true rfl) ?_
      refine au_pe ?_ rfl
      unfold parM
      rw [← ho]
      first
      | (rw [if_neg (by omega), if_neg (by omega), if_neg (by omega), if_neg (by omega)])
      | (rw [if_pos (by omega), if_neg ((hS.at 41 (by decide)).no (by assumption))])
      | (rw [if_pos (by omega), if_pos ((hS.at 41 (by decide)).yes (by assumption))])
      | (rw [if_neg (by omega), if_pos (by omega), if_neg (fun z => c66 (w17.no z.1))])
      | (rw [if_neg (by omega), if_pos (by omega), if_neg (fun z => c73 z.2)])
      | (rw [if_neg (by omega), if_pos (by omega), if_pos ⟨w17.yes (And.left c66) (And.right c66), by simpa using c73⟩])
      | (rw [if_neg (by omega), if_neg (by omega), if_pos (by omega), if_neg (fun z => c98 (w18.no z))])
      | (rw [if_neg (by omega), if_neg (by omega), if_pos (by omega), if_pos (w18.yes (And.left c98) (And.right c98))])
      | (rw [if_neg (by omega), if_neg (by omega), if_neg (by omega), if_pos (by omega), if_neg (fun z => c121 (w19.no z))])
      | (rw [if_neg (by omega), if_neg (by omega), if_neg (by omega), if_pos (by omega), if_pos (w19.yes (And.left c121) (And.right c121))])
    · refine au_tableIn (off := 50) (tgt := 51) dX2_partOf_1 (by omega) (by omega) (by rw [e1]; rfl) (by decide) ?_
      refine au_aload_n dX2_partOf_51 rfl ?_
      refine au_bipush dX2_partOf_52 rfl rfl ?_
      refine au_bipush dX2_partOf_54 rfl rfl ?_
      refine au_bipush dX2_partOf_56 rfl rfl ?_
      refine au_bipush dX2_partOf_58 rfl rfl ?_
      refine au_callSp (n := 4) (kX2_w4 G 116 104 101 110 (by omega) (by omega) (by omega) (by omega) _) (lw_S q1532 q1533 q134 q1534) (by decide +kernel) rfl rfl rfl (Nat.le_of_ble_eq_true rfl) (Nat.le_of_ble_eq_true rfl) (Nat.le_of_ble_eq_true rfl) (Nat.le_of_ble_eq_true rfl) (Nat.le_of_ble_eq_true rfl) dX2_partOf_60 ?_
      refine au_callVp (n := 1) (kX2_isWord G (((((116) * 256 + (104)) * 256 + (101)) * 256 + (110))) mi si hi sl r nx hF) (lw_V q1541 q1543 qs63 q134 q1544) rfl (by decide +kernel) (by decide) (T := TX2) (N := 35) rfl rfl rfl rfl (Nat.le_of_ble_eq_true rfl) (Nat.le_of_ble_eq_true rfl) (Nat.le_of_ble_eq_true rfl) (Nat.le_of_ble_eq_true rfl) (Nat.le_of_ble_eq_true rfl) dX2_partOf_63 ?_
      refine au_if_eq (tgt := 81) dX2_partOf_66 (by decide) (fun c66 => ?_) (fun c66 => ?_)
      · have c66 := au_b0 c66
        refine au_iconst dX2_partOf_81 rfl rfl ?_
        refine au_iret dX2_partOf_82 rfl rfl (Nat.le_of_ble_eq_true rfl) (Nat.le_of_ble_eq_true rfl) ?_
        refine au_pe ?_ rfl
        unfold parM
        rw [← ho]
        first
        | (rw [if_neg (by omega), if_neg (by omega), if_neg (by omega), if_neg (by omega)])
        | (rw [if_pos (by omega), if_neg ((hS.at 41 (by decide)).no (by assumption))])
        | (rw [if_pos (by omega), if_pos ((hS.at 41 (by decide)).yes (by assumption))])
        | (rw [if_neg (by omega), if_pos (by omega), if_neg (fun z => c66 (w17.no z.1))])
        | (rw [if_neg (by omega), if_pos (by omega), if_neg (fun z => c73 z.2)])
        | (rw [if_neg (by omega), if_pos (by omega), if_pos ⟨w17.yes (And.left c66) (And.right c66), by simpa using c73⟩])
        | (rw [if_neg (by omega), if_neg (by omega), if_pos (by omega), if_neg (fun z => c98 (w18.no z))])
        | (rw [if_neg (by omega), if_neg (by omega), if_pos (by omega), if_pos (w18.yes (And.left c98) (And.right c98))])
        | (rw [if_neg (by omega), if_neg (by omega), if_neg (by omega), if_pos (by omega), if_neg (fun z => c121 (w19.no z))])
        | (rw [if_neg (by omega), if_neg (by omega), if_neg (by omega), if_pos (by omega), if_pos (w19.yes (And.left c121) (And.right c121))])
      · have c66 := au_b1 c66
        refine au_aload_n dX2_partOf_69 rfl ?_
        refine au_callVp (n := 0) (kX2_isCompared G W mi si hi sl r nx hF hp hw hl) (lw_V q1595 q1597 qs75 q134 q1598) rfl (by decide +kernel) (by decide) (T := TX2) (N := 35) rfl rfl rfl rfl (Nat.le_of_ble_eq_true rfl) (Nat.le_of_ble_eq_true rfl) (Nat.le_of_ble_eq_true rfl) (Nat.le_of_ble_eq_true rfl) (Nat.le_of_ble_eq_true rfl) dX2_partOf_70 ?_
        refine au_if_eq (tgt := 81) dX2_partOf_73 (by decide) (fun c73 => ?_) (fun c73 => ?_)
        · have c73 := au_b0 c73
          refine au_iconst dX2_partOf_81 rfl rfl ?_
          refine au_iret dX2_partOf_82 rfl rfl (Nat.le_of_ble_eq_true rfl) (Nat.le_of_ble_eq_true rfl) ?_
          refine au_pe ?_ rfl
          unfold parM
          rw [← ho]
          first
          | (rw [if_neg (by omega), if_neg (by omega), if_neg (by omega), if_neg (by omega)])
          | (rw [if_pos (by omega), if_neg ((hS.at 41 (by decide)).no (by assumption))])
          | (rw [if_pos (by omega), if_pos ((hS.at 41 (by decide)).yes (by assumption))])
          | (rw [if_neg (by omega), if_pos (by omega), if_neg (fun z => c66 (w17.no z.1))])
          | (rw [if_neg (by omega), if_pos (by omega), if_neg (fun z => c73 z.2)])
          | (rw [if_neg (by omega), if_pos (by omega), if_pos ⟨w17.yes (And.left c66) (And.right c66), by simpa using c73⟩])
          | (rw [if_neg (by omega), if_neg (by omega), if_pos (by omega), if_neg (fun z => c98 (w18.no z))])
          | (rw [if_neg (by omega), if_neg (by omega), if_pos (by omega), if_pos (w18.yes (And.left c98) (And.right c98))])
          | (rw [if_neg (by omega), if_neg (by omega), if_neg (by omega), if_pos (by omega), if_neg (fun z => c121 (w19.no z))])
          | (rw [if_neg (by omega), if_neg (by omega), if_neg (by omega), if_pos (by omega), if_pos (w19.yes (And.left c121) (And.right c121))])
        · have c73 := au_b1 c73
          refine au_bipush dX2_partOf_76 rfl rfl ?_
          refine au_goto (tgt := 82) dX2_partOf_78 (by decide) ?_
          refine au_iret dX2_partOf_82 rfl rfl (Nat.le_of_ble_eq_true rfl) (Nat.le_of_ble_eq_true rfl) ?_
          refine au_pe ?_ rfl
          unfold parM
          rw [← ho]
          first
          | (rw [if_neg (by omega), if_neg (by omega), if_neg (by omega), if_neg (by omega)])
          | (rw [if_pos (by omega), if_neg ((hS.at 41 (by decide)).no (by assumption))])
          | (rw [if_pos (by omega), if_pos ((hS.at 41 (by decide)).yes (by assumption))])
          | (rw [if_neg (by omega), if_pos (by omega), if_neg (fun z => c66 (w17.no z.1))])
          | (rw [if_neg (by omega), if_pos (by omega), if_neg (fun z => c73 z.2)])
          | (rw [if_neg (by omega), if_pos (by omega), if_pos ⟨w17.yes (And.left c66) (And.right c66), by simpa using c73⟩])
          | (rw [if_neg (by omega), if_neg (by omega), if_pos (by omega), if_neg (fun z => c98 (w18.no z))])
          | (rw [if_neg (by omega), if_neg (by omega), if_pos (by omega), if_pos (w18.yes (And.left c98) (And.right c98))])
          | (rw [if_neg (by omega), if_neg (by omega), if_neg (by omega), if_pos (by omega), if_neg (fun z => c121 (w19.no z))])
          | (rw [if_neg (by omega), if_neg (by omega), if_neg (by omega), if_pos (by omega), if_pos (w19.yes (And.left c121) (And.right c121))])
    · refine au_tableIn (off := 82) (tgt := 83) dX2_partOf_1 (by omega) (by omega) (by rw [e1]; rfl) (by decide) ?_
      refine au_aload_n dX2_partOf_83 rfl ?_
      refine au_bipush dX2_partOf_84 rfl rfl ?_
      refine au_bipush dX2_partOf_86 rfl rfl ?_
      refine au_bipush dX2_partOf_88 rfl rfl ?_
      refine au_bipush dX2_partOf_90 rfl rfl ?_
      refine au_callSp (n := 4) (kX2_w4 G 101 108 115 101 (by omega) (by omega) (by omega) (by omega) _) (lw_S q1532 q1533 q134 q1534) (by decide +kernel) rfl rfl rfl (Nat.le_of_ble_eq_true rfl) (Nat.le_of_ble_eq_true rfl) (Nat.le_of_ble_eq_true rfl) (Nat.le_of_ble_eq_true rfl) (Nat.le_of_ble_eq_true rfl) dX2_partOf_92 ?_
      refine au_callVp (n := 1) (kX2_isWord G (((((101) * 256 + (108)) * 256 + (115)) * 256 + (101))) mi si hi sl r nx hF) (lw_V q1541 q1543 qs63 q134 q1544) rfl (by decide +kernel) (by decide) (T := TX2) (N := 35) rfl rfl rfl rfl (Nat.le_of_ble_eq_true rfl) (Nat.le_of_ble_eq_true rfl) (Nat.le_of_ble_eq_true rfl) (Nat.le_of_ble_eq_true rfl) (Nat.le_of_ble_eq_true rfl) dX2_partOf_95 ?_
      refine au_if_eq (tgt := 106) dX2_partOf_98 (by decide) (fun c98 => ?_) (fun c98 => ?_)
      · have c98 := au_b0 c98
        refine au_iconst dX2_partOf_106 rfl rfl ?_
        refine au_iret dX2_partOf_107 rfl rfl (Nat.le_of_ble_eq_true rfl) (Nat.le_of_ble_eq_true rfl) ?_
        refine au_pe ?_ rfl
        unfold parM
        rw [← ho]
        first
        | (rw [if_neg (by omega), if_neg (by omega), if_neg (by omega), if_neg (by omega)])
        | (rw [if_pos (by omega), if_neg ((hS.at 41 (by decide)).no (by assumption))])
        | (rw [if_pos (by omega), if_pos ((hS.at 41 (by decide)).yes (by assumption))])
        | (rw [if_neg (by omega), if_pos (by omega), if_neg (fun z => c66 (w17.no z.1))])
        | (rw [if_neg (by omega), if_pos (by omega), if_neg (fun z => c73 z.2)])
        | (rw [if_neg (by omega), if_pos (by omega), if_pos ⟨w17.yes (And.left c66) (And.right c66), by simpa using c73⟩])
        | (rw [if_neg (by omega), if_neg (by omega), if_pos (by omega), if_neg (fun z => c98 (w18.no z))])
        | (rw [if_neg (by omega), if_neg (by omega), if_pos (by omega), if_pos (w18.yes (And.left c98) (And.right c98))])
        | (rw [if_neg (by omega), if_neg (by omega), if_neg (by omega), if_pos (by omega), if_neg (fun z => c121 (w19.no z))])
        | (rw [if_neg (by omega), if_neg (by omega), if_neg (by omega), if_pos (by omega), if_pos (w19.yes (And.left c121) (And.right c121))])
      · have c98 := au_b1 c98
        refine au_bipush dX2_partOf_101 rfl rfl ?_
        refine au_goto (tgt := 107) dX2_partOf_103 (by decide) ?_
        refine au_iret dX2_partOf_107 rfl rfl (Nat.le_of_ble_eq_true rfl) (Nat.le_of_ble_eq_true rfl) ?_
        refine au_pe ?_ rfl
        unfold parM
        rw [← ho]
        first
        | (rw [if_neg (by omega), if_neg (by omega), if_neg (by omega), if_neg (by omega)])
        | (rw [if_pos (by omega), if_neg ((hS.at 41 (by decide)).no (by assumption))])
        | (rw [if_pos (by omega), if_pos ((hS.at 41 (by decide)).yes (by assumption))])
        | (rw [if_neg (by omega), if_pos (by omega), if_neg (fun z => c66 (w17.no z.1))])
        | (rw [if_neg (by omega), if_pos (by omega), if_neg (fun z => c73 z.2)])
        | (rw [if_neg (by omega), if_pos (by omega), if_pos ⟨w17.yes (And.left c66) (And.right c66), by simpa using c73⟩])
        | (rw [if_neg (by omega), if_neg (by omega), if_pos (by omega), if_neg (fun z => c98 (w18.no z))])
        | (rw [if_neg (by omega), if_neg (by omega), if_pos (by omega), if_pos (w18.yes (And.left c98) (And.right c98))])
        | (rw [if_neg (by omega), if_neg (by omega), if_neg (by omega), if_pos (by omega), if_neg (fun z => c121 (w19.no z))])
        | (rw [if_neg (by omega), if_neg (by omega), if_neg (by omega), if_pos (by omega), if_pos (w19.yes (And.left c121) (And.right c121))])
    · refine au_tableIn (off := 107) (tgt := 108) dX2_partOf_1 (by omega) (by omega) (by rw [e1]; rfl) (by decide) ?_
      refine au_aload_n dX2_partOf_108 rfl ?_
      refine au_bipush dX2_partOf_109 rfl rfl ?_
      refine au_bipush dX2_partOf_111 rfl rfl ?_
      refine au_bipush dX2_partOf_113 rfl rfl ?_
      refine au_callSp (n := 3) (kX2_w3 G 101 110 100 (by omega) (by omega) (by omega) _) (lw_S q1535 q1536 q134 q1537) (by decide +kernel) rfl rfl rfl (Nat.le_of_ble_eq_true rfl) (Nat.le_of_ble_eq_true rfl) (Nat.le_of_ble_eq_true rfl) (Nat.le_of_ble_eq_true rfl) (Nat.le_of_ble_eq_true rfl) dX2_partOf_115 ?_
      refine au_callVp (n := 1) (kX2_isWord G ((((101) * 256 + (110)) * 256 + (100))) mi si hi sl r nx hF) (lw_V q1541 q1543 qs63 q134 q1544) rfl (by decide +kernel) (by decide) (T := TX2) (N := 35) rfl rfl rfl rfl (Nat.le_of_ble_eq_true rfl) (Nat.le_of_ble_eq_true rfl) (Nat.le_of_ble_eq_true rfl) (Nat.le_of_ble_eq_true rfl) (Nat.le_of_ble_eq_true rfl) dX2_partOf_118 ?_
      refine au_if_eq (tgt := 128) dX2_partOf_121 (by decide) (fun c121 => ?_) (fun c121 => ?_)
      · have c121 := au_b0 c121
        refine au_iconst dX2_partOf_128 rfl rfl ?_
        refine au_iret dX2_partOf_129 rfl rfl (Nat.le_of_ble_eq_true rfl) (Nat.le_of_ble_eq_true rfl) ?_
        refine au_pe ?_ rfl
        unfold parM
        rw [← ho]
        first
        | (rw [if_neg (by omega), if_neg (by omega), if_neg (by omega), if_neg (by omega)])
        | (rw [if_pos (by omega), if_neg ((hS.at 41 (by decide)).no (by assumption))])
        | (rw [if_pos (by omega), if_pos ((hS.at 41 (by decide)).yes (by assumption))])
        | (rw [if_neg (by omega), if_pos (by omega), if_neg (fun z => c66 (w17.no z.1))])
        | (rw [if_neg (by omega), if_pos (by omega), if_neg (fun z => c73 z.2)])
        | (rw [if_neg (by omega), if_pos (by omega), if_pos ⟨w17.yes (And.left c66) (And.right c66), by simpa using c73⟩])
        | (rw [if_neg (by omega), if_neg (by omega), if_pos (by omega), if_neg (fun z => c98 (w18.no z))])
        | (rw [if_neg (by omega), if_neg (by omega), if_pos (by omega), if_pos (w18.yes (And.left c98) (And.right c98))])
        | (rw [if_neg (by omega), if_neg (by omega), if_neg (by omega), if_pos (by omega), if_neg (fun z => c121 (w19.no z))])
        | (rw [if_neg (by omega), if_neg (by omega), if_neg (by omega), if_pos (by omega), if_pos (w19.yes (And.left c121) (And.right c121))])
      · have c121 := au_b1 c121
        refine au_iconst dX2_partOf_124 rfl rfl ?_
        refine au_goto (tgt := 129) dX2_partOf_125 (by decide) ?_
        refine au_iret dX2_partOf_129 rfl rfl (Nat.le_of_ble_eq_true rfl) (Nat.le_of_ble_eq_true rfl) ?_
        refine au_pe ?_ rfl
        unfold parM
        rw [← ho]
        first
        | (rw [if_neg (by omega), if_neg (by omega), if_neg (by omega), if_neg (by omega)])
        | (rw [if_pos (by omega), if_neg ((hS.at 41 (by decide)).no (by assumption))])
        | (rw [if_pos (by omega), if_pos ((hS.at 41 (by decide)).yes (by assumption))])
        | (rw [if_neg (by omega), if_pos (by omega), if_neg (fun z => c66 (w17.no z.1))])
        | (rw [if_neg (by omega), if_pos (by omega), if_neg (fun z => c73 z.2)])
        | (rw [if_neg (by omega), if_pos (by omega), if_pos ⟨w17.yes (And.left c66) (And.right c66), by simpa using c73⟩])
        | (rw [if_neg (by omega), if_neg (by omega), if_pos (by omega), if_neg (fun z => c98 (w18.no z))])
        | (rw [if_neg (by omega), if_neg (by omega), if_pos (by omega), if_pos (w18.yes (And.left c98) (And.right c98))])
        | (rw [if_neg (by omega), if_neg (by omega), if_neg (by omega), if_pos (by omega), if_neg (fun z => c121 (w19.no z))])
        | (rw [if_neg (by omega), if_neg (by omega), if_neg (by omega), if_pos (by omega), if_pos (w19.yes (And.left c121) (And.right c121))])
