/-! THE MODEL: the sign between two (printed by tools/m92.py) -/
set_option maxRecDepth 100000
set_option maxHeartbeats 4000000

/-- one sign's fact, kept shut -/
def SgE (t s : Int) (si : au_A → Int → Int) : Prop := si MO 9 = t ↔ s = t
theorem SgE.yes {t s : Int} {si : au_A → Int → Int} (h : SgE t s si) (h1 : si MO 9 = t) : s = t := h.mp h1
theorem SgE.no {t s : Int} {si : au_A → Int → Int} (h : SgE t s si) (h1 : ¬ si MO 9 = t) : ¬ s = t := fun z => h1 (h.mpr z)
theorem SgAt.at {s : Int} {si : au_A → Int → Int} (h : SgAt s si) (t : Int) (ht : t = 60 ∨ t = 62 ∨ t = 61 ∨ t = 35 ∨ t = 43 ∨ t = 45 ∨ t = 42 ∨ t = 47 ∨ t = 40 ∨ t = 41 ∨ t = 59) : SgE t s si := h.2.2.2.2 t ht
theorem SgAt.le {s : Int} {si : au_A → Int → Int} (h : SgAt s si) : (si MO 9 = 4 → s = 303) ∧ (¬ si MO 9 = 4 → ¬ s = 303) := ⟨h.2.2.1.mp, fun z y => z (h.2.2.1.mpr y)⟩
theorem SgAt.ge {s : Int} {si : au_A → Int → Int} (h : SgAt s si) : (si MO 9 = 5 → s = 304) ∧ (¬ si MO 9 = 5 → ¬ s = 304) := ⟨h.2.2.2.1.mp, fun z y => z (h.2.2.2.1.mpr y)⟩
theorem cmO_none {s : Int} (a : ¬ s = 60) (b : ¬ s = 303) (c : ¬ s = 62) (d : ¬ s = 304) (e : ¬ s = 61) (f : ¬ s = 35) : cmO s = -1 := by
  unfold cmO
  rw [if_neg a, if_neg b, if_neg c, if_neg d, if_neg e, if_neg f]
theorem betM_na {so : Int → Int} {q : Int} {W : List Int} (a : ¬ so q = 43) (b : ¬ so q = 45) (c : ¬ so q = 42) (d : ¬ so q = 47) : betM so q W = if opn W ≠ 42 then -1 else if cmd W = false then cmO (so q) else if so q = 221 then 21 else if so q = 220 then 22 else -1 := by
  unfold betM
  have e1 : isPM (so q) = false := decide_eq_false (by omega)
  have e2 : isTD (so q) = false := decide_eq_false (by omega)
  rw [if_neg (by rw [e1, e2]; decide)]
theorem betM_op {so : Int → Int} {q : Int} {W : List Int} (s : Int) (h : so q = s) (hs : s = 43 ∨ s = 45 ∨ s = 42 ∨ s = 47) : betM so q W = opO s := by
  unfold betM
  rw [h, if_pos]
  rcases hs with e | e | e | e <;> subst e <;> rfl

theorem kX2_compareOf (G : au_G) (s : Int) (mi si hi sl : au_A → Int → Int) (r : au_A → Int → Option au_A) (nx : Nat) (hF : Fix r) (hS : SgAt s si) : au_Ctr G yX2_compareOf cX2_compareOf 1 (some .int) 0 0 0 [au_r MO] (mi, si, hi, sl, r, nx) (au_pure (au_i (cmO s)) (mi, si, hi, sl, r, nx)) := by
  refine au_of (by decide) (Nat.le_of_ble_eq_true rfl) ?_
  show au_Go G _ _ 0 [some (au_r MO)] [] (mi, si, hi, sl, r, nx) 0 0
  refine au_aload_n dX2_compareOf_0 rfl ?_
  refine au_getf (C := RX2) (T := TX2) (N := 35) in_X2 (by decide) rfl 9 (by decide) rfl rfl q1368 rfl dX2_compareOf_1 (v := au_i (si MO 9)) (by rfl) ?_
  refine au_bipush dX2_compareOf_4 rfl rfl ?_
  refine au_icmp_ne (tgt := 14) dX2_compareOf_6 (by decide) (fun c6 => ?_) (fun c6 => ?_)
  · refine au_aload_n dX2_compareOf_14 rfl ?_
    refine au_getf (C := RX2) (T := TX2) (N := 35) in_X2 (by decide) rfl 9 (by decide) rfl rfl q1368 rfl dX2_compareOf_15 (v := au_i (si MO 9)) (by rfl) ?_
    refine au_iconst dX2_compareOf_18 rfl rfl ?_
    refine au_icmp_ne (tgt := 27) dX2_compareOf_19 (by decide) (fun c19 => ?_) (fun c19 => ?_)
    · refine au_aload_n dX2_compareOf_27 rfl ?_
      refine au_getf (C := RX2) (T := TX2) (N := 35) in_X2 (by decide) rfl 9 (by decide) rfl rfl q1368 rfl dX2_compareOf_28 (v := au_i (si MO 9)) (by rfl) ?_
      refine au_bipush dX2_compareOf_31 rfl rfl ?_
      refine au_icmp_ne (tgt := 41) dX2_compareOf_33 (by decide) (fun c33 => ?_) (fun c33 => ?_)
      · refine au_aload_n dX2_compareOf_41 rfl ?_
        refine au_getf (C := RX2) (T := TX2) (N := 35) in_X2 (by decide) rfl 9 (by decide) rfl rfl q1368 rfl dX2_compareOf_42 (v := au_i (si MO 9)) (by rfl) ?_
        refine au_iconst dX2_compareOf_45 rfl rfl ?_
        refine au_icmp_ne (tgt := 54) dX2_compareOf_46 (by decide) (fun c46 => ?_) (fun c46 => ?_)
        · refine au_aload_n dX2_compareOf_54 rfl ?_
          refine au_getf (C := RX2) (T := TX2) (N := 35) in_X2 (by decide) rfl 9 (by decide) rfl rfl q1368 rfl dX2_compareOf_55 (v := au_i (si MO 9)) (by rfl) ?_
          refine au_bipush dX2_compareOf_58 rfl rfl ?_
          refine au_icmp_ne (tgt := 68) dX2_compareOf_60 (by decide) (fun c60 => ?_) (fun c60 => ?_)
          · refine au_aload_n dX2_compareOf_68 rfl ?_
            refine au_getf (C := RX2) (T := TX2) (N := 35) in_X2 (by decide) rfl 9 (by decide) rfl rfl q1368 rfl dX2_compareOf_69 (v := au_i (si MO 9)) (by rfl) ?_
            refine au_bipush dX2_compareOf_72 rfl rfl ?_
            refine au_icmp_ne (tgt := 82) dX2_compareOf_74 (by decide) (fun c74 => ?_) (fun c74 => ?_)
            · refine au_iconst dX2_compareOf_82 rfl rfl ?_
              refine au_iret dX2_compareOf_83 rfl rfl (Nat.le_of_ble_eq_true rfl) (Nat.le_of_ble_eq_true rfl) ?_
              first
              | exact au_pe (show 10 = cmO s by rw [(hS.at 60 (by decide)).yes (by assumption)]; rfl) rfl
              | exact au_pe (show 11 = cmO s by rw [hS.le.1 (by assumption)]; rfl) rfl
              | exact au_pe (show 12 = cmO s by rw [(hS.at 62 (by decide)).yes (by assumption)]; rfl) rfl
              | exact au_pe (show 13 = cmO s by rw [hS.ge.1 (by assumption)]; rfl) rfl
              | exact au_pe (show 14 = cmO s by rw [(hS.at 61 (by decide)).yes (by assumption)]; rfl) rfl
              | exact au_pe (show 15 = cmO s by rw [(hS.at 35 (by decide)).yes (by assumption)]; rfl) rfl
              | exact au_pe (cmO_none ((hS.at 60 (by decide)).no (by assumption)) (hS.le.2 (by assumption)) ((hS.at 62 (by decide)).no (by assumption)) (hS.ge.2 (by assumption)) ((hS.at 61 (by decide)).no (by assumption)) ((hS.at 35 (by decide)).no (by assumption))).symm rfl
            · refine au_bipush dX2_compareOf_77 rfl rfl ?_
              refine au_goto (tgt := 83) dX2_compareOf_79 (by decide) ?_
              refine au_iret dX2_compareOf_83 rfl rfl (Nat.le_of_ble_eq_true rfl) (Nat.le_of_ble_eq_true rfl) ?_
              first
              | exact au_pe (show 10 = cmO s by rw [(hS.at 60 (by decide)).yes (by assumption)]; rfl) rfl
              | exact au_pe (show 11 = cmO s by rw [hS.le.1 (by assumption)]; rfl) rfl
              | exact au_pe (show 12 = cmO s by rw [(hS.at 62 (by decide)).yes (by assumption)]; rfl) rfl
              | exact au_pe (show 13 = cmO s by rw [hS.ge.1 (by assumption)]; rfl) rfl
              | exact au_pe (show 14 = cmO s by rw [(hS.at 61 (by decide)).yes (by assumption)]; rfl) rfl
              | exact au_pe (show 15 = cmO s by rw [(hS.at 35 (by decide)).yes (by assumption)]; rfl) rfl
              | exact au_pe (cmO_none ((hS.at 60 (by decide)).no (by assumption)) (hS.le.2 (by assumption)) ((hS.at 62 (by decide)).no (by assumption)) (hS.ge.2 (by assumption)) ((hS.at 61 (by decide)).no (by assumption)) ((hS.at 35 (by decide)).no (by assumption))).symm rfl
          · refine au_bipush dX2_compareOf_63 rfl rfl ?_
            refine au_goto (tgt := 83) dX2_compareOf_65 (by decide) ?_
            refine au_iret dX2_compareOf_83 rfl rfl (Nat.le_of_ble_eq_true rfl) (Nat.le_of_ble_eq_true rfl) ?_
            first
            | exact au_pe (show 10 = cmO s by rw [(hS.at 60 (by decide)).yes (by assumption)]; rfl) rfl
            | exact au_pe (show 11 = cmO s by rw [hS.le.1 (by assumption)]; rfl) rfl
            | exact au_pe (show 12 = cmO s by rw [(hS.at 62 (by decide)).yes (by assumption)]; rfl) rfl
            | exact au_pe (show 13 = cmO s by rw [hS.ge.1 (by assumption)]; rfl) rfl
            | exact au_pe (show 14 = cmO s by rw [(hS.at 61 (by decide)).yes (by assumption)]; rfl) rfl
            | exact au_pe (show 15 = cmO s by rw [(hS.at 35 (by decide)).yes (by assumption)]; rfl) rfl
            | exact au_pe (cmO_none ((hS.at 60 (by decide)).no (by assumption)) (hS.le.2 (by assumption)) ((hS.at 62 (by decide)).no (by assumption)) (hS.ge.2 (by assumption)) ((hS.at 61 (by decide)).no (by assumption)) ((hS.at 35 (by decide)).no (by assumption))).symm rfl
        · refine au_bipush dX2_compareOf_49 rfl rfl ?_
          refine au_goto (tgt := 83) dX2_compareOf_51 (by decide) ?_
          refine au_iret dX2_compareOf_83 rfl rfl (Nat.le_of_ble_eq_true rfl) (Nat.le_of_ble_eq_true rfl) ?_
          first
          | exact au_pe (show 10 = cmO s by rw [(hS.at 60 (by decide)).yes (by assumption)]; rfl) rfl
          | exact au_pe (show 11 = cmO s by rw [hS.le.1 (by assumption)]; rfl) rfl
          | exact au_pe (show 12 = cmO s by rw [(hS.at 62 (by decide)).yes (by assumption)]; rfl) rfl
          | exact au_pe (show 13 = cmO s by rw [hS.ge.1 (by assumption)]; rfl) rfl
          | exact au_pe (show 14 = cmO s by rw [(hS.at 61 (by decide)).yes (by assumption)]; rfl) rfl
          | exact au_pe (show 15 = cmO s by rw [(hS.at 35 (by decide)).yes (by assumption)]; rfl) rfl
          | exact au_pe (cmO_none ((hS.at 60 (by decide)).no (by assumption)) (hS.le.2 (by assumption)) ((hS.at 62 (by decide)).no (by assumption)) (hS.ge.2 (by assumption)) ((hS.at 61 (by decide)).no (by assumption)) ((hS.at 35 (by decide)).no (by assumption))).symm rfl
      · refine au_bipush dX2_compareOf_36 rfl rfl ?_
        refine au_goto (tgt := 83) dX2_compareOf_38 (by decide) ?_
        refine au_iret dX2_compareOf_83 rfl rfl (Nat.le_of_ble_eq_true rfl) (Nat.le_of_ble_eq_true rfl) ?_
        first
        | exact au_pe (show 10 = cmO s by rw [(hS.at 60 (by decide)).yes (by assumption)]; rfl) rfl
        | exact au_pe (show 11 = cmO s by rw [hS.le.1 (by assumption)]; rfl) rfl
        | exact au_pe (show 12 = cmO s by rw [(hS.at 62 (by decide)).yes (by assumption)]; rfl) rfl
        | exact au_pe (show 13 = cmO s by rw [hS.ge.1 (by assumption)]; rfl) rfl
        | exact au_pe (show 14 = cmO s by rw [(hS.at 61 (by decide)).yes (by assumption)]; rfl) rfl
        | exact au_pe (show 15 = cmO s by rw [(hS.at 35 (by decide)).yes (by assumption)]; rfl) rfl
        | exact au_pe (cmO_none ((hS.at 60 (by decide)).no (by assumption)) (hS.le.2 (by assumption)) ((hS.at 62 (by decide)).no (by assumption)) (hS.ge.2 (by assumption)) ((hS.at 61 (by decide)).no (by assumption)) ((hS.at 35 (by decide)).no (by assumption))).symm rfl
    · refine au_bipush dX2_compareOf_22 rfl rfl ?_
      refine au_goto (tgt := 83) dX2_compareOf_24 (by decide) ?_
      refine au_iret dX2_compareOf_83 rfl rfl (Nat.le_of_ble_eq_true rfl) (Nat.le_of_ble_eq_true rfl) ?_
      first
      | exact au_pe (show 10 = cmO s by rw [(hS.at 60 (by decide)).yes (by assumption)]; rfl) rfl
      | exact au_pe (show 11 = cmO s by rw [hS.le.1 (by assumption)]; rfl) rfl
      | exact au_pe (show 12 = cmO s by rw [(hS.at 62 (by decide)).yes (by assumption)]; rfl) rfl
      | exact au_pe (show 13 = cmO s by rw [hS.ge.1 (by assumption)]; rfl) rfl
      | exact au_pe (show 14 = cmO s by rw [(hS.at 61 (by decide)).yes (by assumption)]; rfl) rfl
      | exact au_pe (show 15 = cmO s by rw [(hS.at 35 (by decide)).yes (by assumption)]; rfl) rfl
      | exact au_pe (cmO_none ((hS.at 60 (by decide)).no (by assumption)) (hS.le.2 (by assumption)) ((hS.at 62 (by decide)).no (by assumption)) (hS.ge.2 (by assumption)) ((hS.at 61 (by decide)).no (by assumption)) ((hS.at 35 (by decide)).no (by assumption))).symm rfl
  · refine au_bipush dX2_compareOf_9 rfl rfl ?_
    refine au_goto (tgt := 83) dX2_compareOf_11 (by decide) ?_
    refine au_iret dX2_compareOf_83 rfl rfl (Nat.le_of_ble_eq_true rfl) (Nat.le_of_ble_eq_true rfl) ?_
    first
    | exact au_pe (show 10 = cmO s by rw [(hS.at 60 (by decide)).yes (by assumption)]; rfl) rfl
    | exact au_pe (show 11 = cmO s by rw [hS.le.1 (by assumption)]; rfl) rfl
    | exact au_pe (show 12 = cmO s by rw [(hS.at 62 (by decide)).yes (by assumption)]; rfl) rfl
    | exact au_pe (show 13 = cmO s by rw [hS.ge.1 (by assumption)]; rfl) rfl
    | exact au_pe (show 14 = cmO s by rw [(hS.at 61 (by decide)).yes (by assumption)]; rfl) rfl
    | exact au_pe (show 15 = cmO s by rw [(hS.at 35 (by decide)).yes (by assumption)]; rfl) rfl
    | exact au_pe (cmO_none ((hS.at 60 (by decide)).no (by assumption)) (hS.le.2 (by assumption)) ((hS.at 62 (by decide)).no (by assumption)) (hS.ge.2 (by assumption)) ((hS.at 61 (by decide)).no (by assumption)) ((hS.at 35 (by decide)).no (by assumption))).symm rfl
theorem kX2_betweenOf (G : au_G) (so : Int → Int) (q : Int) (W : List Int) (mi si hi sl : au_A → Int → Int) (r : au_A → Int → Option au_A) (nx : Nat) (hF : Fix r) (hS : SgAt (so q) si) (hW : WdAt (so q) si sl) (hp : si MO 16 = (W.length : Int)) (hw : WtAt (si MWait) W) (hl : W.length ≤ 160) : au_Ctr G yX2_betweenOf cX2_betweenOf 1 (some .int) 2 0 0 [au_r MO] (mi, si, hi, sl, r, nx) (au_pure (au_i (betM so q W)) (mi, si, hi, sl, r, nx)) := by
  refine au_of (by decide) (Nat.le_of_ble_eq_true rfl) ?_
  have w21 := hW.at 21 ((97 * 256 + 110) * 256 + 100) 221 (by decide) (by decide +kernel) rfl
  have w20 := hW.at 20 (111 * 256 + 114) 220 (by decide) (by decide +kernel) rfl
  show au_Go G _ _ 0 [some (au_r MO)] [] (mi, si, hi, sl, r, nx) 0 0
  refine au_aload_n dX2_betweenOf_0 rfl ?_
  refine au_getf (C := RX2) (T := TX2) (N := 35) in_X2 (by decide) rfl 9 (by decide) rfl rfl q1368 rfl dX2_betweenOf_1 (v := au_i (si MO 9)) (by rfl) ?_
  refine au_bipush dX2_betweenOf_4 rfl rfl ?_
  refine au_icmp_ne (tgt := 12) dX2_betweenOf_6 (by decide) (fun c6 => ?_) (fun c6 => ?_)
  · refine au_aload_n dX2_betweenOf_12 rfl ?_
    refine au_getf (C := RX2) (T := TX2) (N := 35) in_X2 (by decide) rfl 9 (by decide) rfl rfl q1368 rfl dX2_betweenOf_13 (v := au_i (si MO 9)) (by rfl) ?_
    refine au_bipush dX2_betweenOf_16 rfl rfl ?_
    refine au_icmp_ne (tgt := 24) dX2_betweenOf_18 (by decide) (fun c18 => ?_) (fun c18 => ?_)
    · refine au_aload_n dX2_betweenOf_24 rfl ?_
      refine au_getf (C := RX2) (T := TX2) (N := 35) in_X2 (by decide) rfl 9 (by decide) rfl rfl q1368 rfl dX2_betweenOf_25 (v := au_i (si MO 9)) (by rfl) ?_
      refine au_bipush dX2_betweenOf_28 rfl rfl ?_
      refine au_icmp_ne (tgt := 36) dX2_betweenOf_30 (by decide) (fun c30 => ?_) (fun c30 => ?_)
      · refine au_aload_n dX2_betweenOf_36 rfl ?_
        refine au_getf (C := RX2) (T := TX2) (N := 35) in_X2 (by decide) rfl 9 (by decide) rfl rfl q1368 rfl dX2_betweenOf_37 (v := au_i (si MO 9)) (by rfl) ?_
        refine au_bipush dX2_betweenOf_40 rfl rfl ?_
        refine au_icmp_ne (tgt := 48) dX2_betweenOf_42 (by decide) (fun c42 => ?_) (fun c42 => ?_)
        · refine au_aload_n dX2_betweenOf_48 rfl ?_
          refine au_callVp (n := 0) (kX2_openNow G W mi si hi sl r nx hF hp hw hl) (lw_V q1587 q1589 qs73 q134 q1590) rfl (by decide +kernel) (by decide) (T := TX2) (N := 35) rfl rfl rfl rfl (Nat.le_of_ble_eq_true rfl) (Nat.le_of_ble_eq_true rfl) (Nat.le_of_ble_eq_true rfl) (Nat.le_of_ble_eq_true rfl) (Nat.le_of_ble_eq_true rfl) dX2_betweenOf_49 ?_
          refine au_bipush dX2_betweenOf_52 rfl rfl ?_
          refine au_icmp_eq (tgt := 59) dX2_betweenOf_54 (by decide) (fun c54 => ?_) (fun c54 => ?_)
          · refine au_aload_n dX2_betweenOf_59 rfl ?_
            refine au_callVp (n := 0) (kX2_isCompared G W mi si hi sl r nx hF hp hw hl) (lw_V q1595 q1597 qs75 q134 q1598) rfl (by decide +kernel) (by decide) (T := TX2) (N := 35) rfl rfl rfl rfl (Nat.le_of_ble_eq_true rfl) (Nat.le_of_ble_eq_true rfl) (Nat.le_of_ble_eq_true rfl) (Nat.le_of_ble_eq_true rfl) (Nat.le_of_ble_eq_true rfl) dX2_betweenOf_60 ?_
            refine au_if_ne (tgt := 71) dX2_betweenOf_63 (by decide) (fun c63 => ?_) (fun c63 => ?_)
            · have c63 := au_b1 c63
              refine au_aload_n dX2_betweenOf_71 rfl ?_
              refine au_bipush dX2_betweenOf_72 rfl rfl ?_
              refine au_bipush dX2_betweenOf_74 rfl rfl ?_
              refine au_bipush dX2_betweenOf_76 rfl rfl ?_
              refine au_callSp (n := 3) (kX2_w3 G 97 110 100 (by omega) (by omega) (by omega) _) (lw_S q1535 q1536 q134 q1537) (by decide +kernel) rfl rfl rfl (Nat.le_of_ble_eq_true rfl) (Nat.le_of_ble_eq_true rfl) (Nat.le_of_ble_eq_true rfl) (Nat.le_of_ble_eq_true rfl) (Nat.le_of_ble_eq_true rfl) dX2_betweenOf_78 ?_
              refine au_callVp (n := 1) (kX2_isWord G ((((97) * 256 + (110)) * 256 + (100))) mi si hi sl r nx hF) (lw_V q1541 q1543 qs63 q134 q1544) rfl (by decide +kernel) (by decide) (T := TX2) (N := 35) rfl rfl rfl rfl (Nat.le_of_ble_eq_true rfl) (Nat.le_of_ble_eq_true rfl) (Nat.le_of_ble_eq_true rfl) (Nat.le_of_ble_eq_true rfl) (Nat.le_of_ble_eq_true rfl) dX2_betweenOf_81 ?_
              refine au_if_eq (tgt := 92) dX2_betweenOf_84 (by decide) (fun c84 => ?_) (fun c84 => ?_)
              · have c84 := au_b0 c84
                refine au_aload_n dX2_betweenOf_92 rfl ?_
                refine au_bipush dX2_betweenOf_93 rfl rfl ?_
                refine au_bipush dX2_betweenOf_95 rfl rfl ?_
                refine au_callSp (n := 2) (kX2_w2 G 111 114 (by omega) (by omega) _) (lw_S q1538 q1539 q134 q1540) (by decide +kernel) rfl rfl rfl (Nat.le_of_ble_eq_true rfl) (Nat.le_of_ble_eq_true rfl) (Nat.le_of_ble_eq_true rfl) (Nat.le_of_ble_eq_true rfl) (Nat.le_of_ble_eq_true rfl) dX2_betweenOf_97 ?_
                refine au_callVp (n := 1) (kX2_isWord G (((111) * 256 + (114))) mi si hi sl r nx hF) (lw_V q1541 q1543 qs63 q134 q1544) rfl (by decide +kernel) (by decide) (T := TX2) (N := 35) rfl rfl rfl rfl (Nat.le_of_ble_eq_true rfl) (Nat.le_of_ble_eq_true rfl) (Nat.le_of_ble_eq_true rfl) (Nat.le_of_ble_eq_true rfl) (Nat.le_of_ble_eq_true rfl) dX2_betweenOf_100 ?_
                refine au_if_eq (tgt := 111) dX2_betweenOf_103 (by decide) (fun c103 => ?_) (fun c103 => ?_)
                · have c103 := au_b0 c103
                  refine au_iconst dX2_betweenOf_111 rfl rfl ?_
                  refine au_iret dX2_betweenOf_112 rfl rfl (Nat.le_of_ble_eq_true rfl) (Nat.le_of_ble_eq_true rfl) ?_
                  first
                  | exact au_pe (betM_op 43 ((hS.at 43 (by decide)).yes (by assumption)) (by decide)).symm rfl
                  | exact au_pe (betM_op 45 ((hS.at 45 (by decide)).yes (by assumption)) (by decide)).symm rfl
                  | exact au_pe (betM_op 42 ((hS.at 42 (by decide)).yes (by assumption)) (by decide)).symm rfl
                  | exact au_pe (betM_op 47 ((hS.at 47 (by decide)).yes (by assumption)) (by decide)).symm rfl
                  | exact au_pe (show -1 = betM so q W from ((betM_na ((hS.at 43 (by decide)).no (by assumption)) ((hS.at 45 (by decide)).no (by assumption)) ((hS.at 42 (by decide)).no (by assumption)) ((hS.at 47 (by decide)).no (by assumption))).trans (if_pos (by assumption))).symm) rfl
                  | exact au_pe (show cmO (so q) = betM so q W from ((betM_na ((hS.at 43 (by decide)).no (by assumption)) ((hS.at 45 (by decide)).no (by assumption)) ((hS.at 42 (by decide)).no (by assumption)) ((hS.at 47 (by decide)).no (by assumption))).trans ((if_neg (fun z => z (by assumption))).trans (if_pos (by simpa using c63)))).symm) rfl
                  | exact au_pe (show 21 = betM so q W from ((betM_na ((hS.at 43 (by decide)).no (by assumption)) ((hS.at 45 (by decide)).no (by assumption)) ((hS.at 42 (by decide)).no (by assumption)) ((hS.at 47 (by decide)).no (by assumption))).trans ((if_neg (fun z => z (by assumption))).trans ((if_neg (by simpa using c63)).trans (if_pos (w21.yes c84.1 c84.2))))).symm) rfl
                  | exact au_pe (show 22 = betM so q W from ((betM_na ((hS.at 43 (by decide)).no (by assumption)) ((hS.at 45 (by decide)).no (by assumption)) ((hS.at 42 (by decide)).no (by assumption)) ((hS.at 47 (by decide)).no (by assumption))).trans ((if_neg (fun z => z (by assumption))).trans ((if_neg (by simpa using c63)).trans ((if_neg (fun z => c84 (w21.no z))).trans (if_pos (w20.yes c103.1 c103.2)))))).symm) rfl
                  | exact au_pe (show -1 = betM so q W from ((betM_na ((hS.at 43 (by decide)).no (by assumption)) ((hS.at 45 (by decide)).no (by assumption)) ((hS.at 42 (by decide)).no (by assumption)) ((hS.at 47 (by decide)).no (by assumption))).trans ((if_neg (fun z => z (by assumption))).trans ((if_neg (by simpa using c63)).trans ((if_neg (fun z => c84 (w21.no z))).trans (if_neg (fun z => c103 (w20.no z))))))).symm) rfl
                · have c103 := au_b1 c103
                  refine au_bipush dX2_betweenOf_106 rfl rfl ?_
                  refine au_goto (tgt := 112) dX2_betweenOf_108 (by decide) ?_
                  refine au_iret dX2_betweenOf_112 rfl rfl (Nat.le_of_ble_eq_true rfl) (Nat.le_of_ble_eq_true rfl) ?_
                  first
                  | exact au_pe (betM_op 43 ((hS.at 43 (by decide)).yes (by assumption)) (by decide)).symm rfl
                  | exact au_pe (betM_op 45 ((hS.at 45 (by decide)).yes (by assumption)) (by decide)).symm rfl
                  | exact au_pe (betM_op 42 ((hS.at 42 (by decide)).yes (by assumption)) (by decide)).symm rfl
                  | exact au_pe (betM_op 47 ((hS.at 47 (by decide)).yes (by assumption)) (by decide)).symm rfl
                  | exact au_pe (show -1 = betM so q W from ((betM_na ((hS.at 43 (by decide)).no (by assumption)) ((hS.at 45 (by decide)).no (by assumption)) ((hS.at 42 (by decide)).no (by assumption)) ((hS.at 47 (by decide)).no (by assumption))).trans (if_pos (by assumption))).symm) rfl
                  | exact au_pe (show cmO (so q) = betM so q W from ((betM_na ((hS.at 43 (by decide)).no (by assumption)) ((hS.at 45 (by decide)).no (by assumption)) ((hS.at 42 (by decide)).no (by assumption)) ((hS.at 47 (by decide)).no (by assumption))).trans ((if_neg (fun z => z (by assumption))).trans (if_pos (by simpa using c63)))).symm) rfl
                  | exact au_pe (show 21 = betM so q W from ((betM_na ((hS.at 43 (by decide)).no (by assumption)) ((hS.at 45 (by decide)).no (by assumption)) ((hS.at 42 (by decide)).no (by assumption)) ((hS.at 47 (by decide)).no (by assumption))).trans ((if_neg (fun z => z (by assumption))).trans ((if_neg (by simpa using c63)).trans (if_pos (w21.yes c84.1 c84.2))))).symm) rfl
                  | exact au_pe (show 22 = betM so q W from ((betM_na ((hS.at 43 (by decide)).no (by assumption)) ((hS.at 45 (by decide)).no (by assumption)) ((hS.at 42 (by decide)).no (by assumption)) ((hS.at 47 (by decide)).no (by assumption))).trans ((if_neg (fun z => z (by assumption))).trans ((if_neg (by simpa using c63)).trans ((if_neg (fun z => c84 (w21.no z))).trans (if_pos (w20.yes c103.1 c103.2)))))).symm) rfl
                  | exact au_pe (show -1 = betM so q W from ((betM_na ((hS.at 43 (by decide)).no (by assumption)) ((hS.at 45 (by decide)).no (by assumption)) ((hS.at 42 (by decide)).no (by assumption)) ((hS.at 47 (by decide)).no (by assumption))).trans ((if_neg (fun z => z (by assumption))).trans ((if_neg (by simpa using c63)).trans ((if_neg (fun z => c84 (w21.no z))).trans (if_neg (fun z => c103 (w20.no z))))))).symm) rfl
              · have c84 := au_b1 c84
                refine au_bipush dX2_betweenOf_87 rfl rfl ?_
                refine au_goto (tgt := 112) dX2_betweenOf_89 (by decide) ?_
                refine au_iret dX2_betweenOf_112 rfl rfl (Nat.le_of_ble_eq_true rfl) (Nat.le_of_ble_eq_true rfl) ?_
                first
                | exact au_pe (betM_op 43 ((hS.at 43 (by decide)).yes (by assumption)) (by decide)).symm rfl
                | exact au_pe (betM_op 45 ((hS.at 45 (by decide)).yes (by assumption)) (by decide)).symm rfl
                | exact au_pe (betM_op 42 ((hS.at 42 (by decide)).yes (by assumption)) (by decide)).symm rfl
                | exact au_pe (betM_op 47 ((hS.at 47 (by decide)).yes (by assumption)) (by decide)).symm rfl
                | exact au_pe (show -1 = betM so q W from ((betM_na ((hS.at 43 (by decide)).no (by assumption)) ((hS.at 45 (by decide)).no (by assumption)) ((hS.at 42 (by decide)).no (by assumption)) ((hS.at 47 (by decide)).no (by assumption))).trans (if_pos (by assumption))).symm) rfl
                | exact au_pe (show cmO (so q) = betM so q W from ((betM_na ((hS.at 43 (by decide)).no (by assumption)) ((hS.at 45 (by decide)).no (by assumption)) ((hS.at 42 (by decide)).no (by assumption)) ((hS.at 47 (by decide)).no (by assumption))).trans ((if_neg (fun z => z (by assumption))).trans (if_pos (by simpa using c63)))).symm) rfl
                | exact au_pe (show 21 = betM so q W from ((betM_na ((hS.at 43 (by decide)).no (by assumption)) ((hS.at 45 (by decide)).no (by assumption)) ((hS.at 42 (by decide)).no (by assumption)) ((hS.at 47 (by decide)).no (by assumption))).trans ((if_neg (fun z => z (by assumption))).trans ((if_neg (by simpa using c63)).trans (if_pos (w21.yes c84.1 c84.2))))).symm) rfl
                | exact au_pe (show 22 = betM so q W from ((betM_na ((hS.at 43 (by decide)).no (by assumption)) ((hS.at 45 (by decide)).no (by assumption)) ((hS.at 42 (by decide)).no (by assumption)) ((hS.at 47 (by decide)).no (by assumption))).trans ((if_neg (fun z => z (by assumption))).trans ((if_neg (by simpa using c63)).trans ((if_neg (fun z => c84 (w21.no z))).trans (if_pos (w20.yes c103.1 c103.2)))))).symm) rfl
                | exact au_pe (show -1 = betM so q W from ((betM_na ((hS.at 43 (by decide)).no (by assumption)) ((hS.at 45 (by decide)).no (by assumption)) ((hS.at 42 (by decide)).no (by assumption)) ((hS.at 47 (by decide)).no (by assumption))).trans ((if_neg (fun z => z (by assumption))).trans ((if_neg (by simpa using c63)).trans ((if_neg (fun z => c84 (w21.no z))).trans (if_neg (fun z => c103 (w20.no z))))))).symm) rfl
            · have c63 := au_b0 c63
              refine au_aload_n dX2_betweenOf_66 rfl ?_
              refine au_callVp (n := 0) (kX2_compareOf G (so q) mi si hi sl r nx hF hS) (lw_V q1602 q1604 qs76 q134 q1605) rfl (by decide +kernel) (by decide) (T := TX2) (N := 35) rfl rfl rfl rfl (Nat.le_of_ble_eq_true rfl) (Nat.le_of_ble_eq_true rfl) (Nat.le_of_ble_eq_true rfl) (Nat.le_of_ble_eq_true rfl) (Nat.le_of_ble_eq_true rfl) dX2_betweenOf_67 ?_
              refine au_iret dX2_betweenOf_70 rfl rfl (Nat.le_of_ble_eq_true rfl) (Nat.le_of_ble_eq_true rfl) ?_
              first
              | exact au_pe (betM_op 43 ((hS.at 43 (by decide)).yes (by assumption)) (by decide)).symm rfl
              | exact au_pe (betM_op 45 ((hS.at 45 (by decide)).yes (by assumption)) (by decide)).symm rfl
              | exact au_pe (betM_op 42 ((hS.at 42 (by decide)).yes (by assumption)) (by decide)).symm rfl
              | exact au_pe (betM_op 47 ((hS.at 47 (by decide)).yes (by assumption)) (by decide)).symm rfl
              | exact au_pe (show -1 = betM so q W from ((betM_na ((hS.at 43 (by decide)).no (by assumption)) ((hS.at 45 (by decide)).no (by assumption)) ((hS.at 42 (by decide)).no (by assumption)) ((hS.at 47 (by decide)).no (by assumption))).trans (if_pos (by assumption))).symm) rfl
              | exact au_pe (show cmO (so q) = betM so q W from ((betM_na ((hS.at 43 (by decide)).no (by assumption)) ((hS.at 45 (by decide)).no (by assumption)) ((hS.at 42 (by decide)).no (by assumption)) ((hS.at 47 (by decide)).no (by assumption))).trans ((if_neg (fun z => z (by assumption))).trans (if_pos (by simpa using c63)))).symm) rfl
              | exact au_pe (show 21 = betM so q W from ((betM_na ((hS.at 43 (by decide)).no (by assumption)) ((hS.at 45 (by decide)).no (by assumption)) ((hS.at 42 (by decide)).no (by assumption)) ((hS.at 47 (by decide)).no (by assumption))).trans ((if_neg (fun z => z (by assumption))).trans ((if_neg (by simpa using c63)).trans (if_pos (w21.yes c84.1 c84.2))))).symm) rfl
              | exact au_pe (show 22 = betM so q W from ((betM_na ((hS.at 43 (by decide)).no (by assumption)) ((hS.at 45 (by decide)).no (by assumption)) ((hS.at 42 (by decide)).no (by assumption)) ((hS.at 47 (by decide)).no (by assumption))).trans ((if_neg (fun z => z (by assumption))).trans ((if_neg (by simpa using c63)).trans ((if_neg (fun z => c84 (w21.no z))).trans (if_pos (w20.yes c103.1 c103.2)))))).symm) rfl
              | exact au_pe (show -1 = betM so q W from ((betM_na ((hS.at 43 (by decide)).no (by assumption)) ((hS.at 45 (by decide)).no (by assumption)) ((hS.at 42 (by decide)).no (by assumption)) ((hS.at 47 (by decide)).no (by assumption))).trans ((if_neg (fun z => z (by assumption))).trans ((if_neg (by simpa using c63)).trans ((if_neg (fun z => c84 (w21.no z))).trans (if_neg (fun z => c103 (w20.no z))))))).symm) rfl
          · refine au_iconst dX2_betweenOf_57 rfl rfl ?_
            refine au_iret dX2_betweenOf_58 rfl rfl (Nat.le_of_ble_eq_true rfl) (Nat.le_of_ble_eq_true rfl) ?_
            first
            | exact au_pe (betM_op 43 ((hS.at 43 (by decide)).yes (by assumption)) (by decide)).symm rfl
            | exact au_pe (betM_op 45 ((hS.at 45 (by decide)).yes (by assumption)) (by decide)).symm rfl
            | exact au_pe (betM_op 42 ((hS.at 42 (by decide)).yes (by assumption)) (by decide)).symm rfl
            | exact au_pe (betM_op 47 ((hS.at 47 (by decide)).yes (by assumption)) (by decide)).symm rfl
            | exact au_pe (show -1 = betM so q W from ((betM_na ((hS.at 43 (by decide)).no (by assumption)) ((hS.at 45 (by decide)).no (by assumption)) ((hS.at 42 (by decide)).no (by assumption)) ((hS.at 47 (by decide)).no (by assumption))).trans (if_pos (by assumption))).symm) rfl
            | exact au_pe (show cmO (so q) = betM so q W from ((betM_na ((hS.at 43 (by decide)).no (by assumption)) ((hS.at 45 (by decide)).no (by assumption)) ((hS.at 42 (by decide)).no (by assumption)) ((hS.at 47 (by decide)).no (by assumption))).trans ((if_neg (fun z => z (by assumption))).trans (if_pos (by simpa using c63)))).symm) rfl
            | exact au_pe (show 21 = betM so q W from ((betM_na ((hS.at 43 (by decide)).no (by assumption)) ((hS.at 45 (by decide)).no (by assumption)) ((hS.at 42 (by decide)).no (by assumption)) ((hS.at 47 (by decide)).no (by assumption))).trans ((if_neg (fun z => z (by assumption))).trans ((if_neg (by simpa using c63)).trans (if_pos (w21.yes c84.1 c84.2))))).symm) rfl
            | exact au_pe (show 22 = betM so q W from ((betM_na ((hS.at 43 (by decide)).no (by assumption)) ((hS.at 45 (by decide)).no (by assumption)) ((hS.at 42 (by decide)).no (by assumption)) ((hS.at 47 (by decide)).no (by assumption))).trans ((if_neg (fun z => z (by assumption))).trans ((if_neg (by simpa using c63)).trans ((if_neg (fun z => c84 (w21.no z))).trans (if_pos (w20.yes c103.1 c103.2)))))).symm) rfl
            | exact au_pe (show -1 = betM so q W from ((betM_na ((hS.at 43 (by decide)).no (by assumption)) ((hS.at 45 (by decide)).no (by assumption)) ((hS.at 42 (by decide)).no (by assumption)) ((hS.at 47 (by decide)).no (by assumption))).trans ((if_neg (fun z => z (by assumption))).trans ((if_neg (by simpa using c63)).trans ((if_neg (fun z => c84 (w21.no z))).trans (if_neg (fun z => c103 (w20.no z))))))).symm) rfl
        · refine au_bipush dX2_betweenOf_45 rfl rfl ?_
          refine au_iret dX2_betweenOf_47 rfl rfl (Nat.le_of_ble_eq_true rfl) (Nat.le_of_ble_eq_true rfl) ?_
          first
          | exact au_pe (betM_op 43 ((hS.at 43 (by decide)).yes (by assumption)) (by decide)).symm rfl
          | exact au_pe (betM_op 45 ((hS.at 45 (by decide)).yes (by assumption)) (by decide)).symm rfl
          | exact au_pe (betM_op 42 ((hS.at 42 (by decide)).yes (by assumption)) (by decide)).symm rfl
          | exact au_pe (betM_op 47 ((hS.at 47 (by decide)).yes (by assumption)) (by decide)).symm rfl
          | exact au_pe (show -1 = betM so q W from ((betM_na ((hS.at 43 (by decide)).no (by assumption)) ((hS.at 45 (by decide)).no (by assumption)) ((hS.at 42 (by decide)).no (by assumption)) ((hS.at 47 (by decide)).no (by assumption))).trans (if_pos (by assumption))).symm) rfl
          | exact au_pe (show cmO (so q) = betM so q W from ((betM_na ((hS.at 43 (by decide)).no (by assumption)) ((hS.at 45 (by decide)).no (by assumption)) ((hS.at 42 (by decide)).no (by assumption)) ((hS.at 47 (by decide)).no (by assumption))).trans ((if_neg (fun z => z (by assumption))).trans (if_pos (by simpa using c63)))).symm) rfl
          | exact au_pe (show 21 = betM so q W from ((betM_na ((hS.at 43 (by decide)).no (by assumption)) ((hS.at 45 (by decide)).no (by assumption)) ((hS.at 42 (by decide)).no (by assumption)) ((hS.at 47 (by decide)).no (by assumption))).trans ((if_neg (fun z => z (by assumption))).trans ((if_neg (by simpa using c63)).trans (if_pos (w21.yes c84.1 c84.2))))).symm) rfl
          | exact au_pe (show 22 = betM so q W from ((betM_na ((hS.at 43 (by decide)).no (by assumption)) ((hS.at 45 (by decide)).no (by assumption)) ((hS.at 42 (by decide)).no (by assumption)) ((hS.at 47 (by decide)).no (by assumption))).trans ((if_neg (fun z => z (by assumption))).trans ((if_neg (by simpa using c63)).trans ((if_neg (fun z => c84 (w21.no z))).trans (if_pos (w20.yes c103.1 c103.2)))))).symm) rfl
          | exact au_pe (show -1 = betM so q W from ((betM_na ((hS.at 43 (by decide)).no (by assumption)) ((hS.at 45 (by decide)).no (by assumption)) ((hS.at 42 (by decide)).no (by assumption)) ((hS.at 47 (by decide)).no (by assumption))).trans ((if_neg (fun z => z (by assumption))).trans ((if_neg (by simpa using c63)).trans ((if_neg (fun z => c84 (w21.no z))).trans (if_neg (fun z => c103 (w20.no z))))))).symm) rfl
      · refine au_bipush dX2_betweenOf_33 rfl rfl ?_
        refine au_iret dX2_betweenOf_35 rfl rfl (Nat.le_of_ble_eq_true rfl) (Nat.le_of_ble_eq_true rfl) ?_
        first
        | exact au_pe (betM_op 43 ((hS.at 43 (by decide)).yes (by assumption)) (by decide)).symm rfl
        | exact au_pe (betM_op 45 ((hS.at 45 (by decide)).yes (by assumption)) (by decide)).symm rfl
        | exact au_pe (betM_op 42 ((hS.at 42 (by decide)).yes (by assumption)) (by decide)).symm rfl
        | exact au_pe (betM_op 47 ((hS.at 47 (by decide)).yes (by assumption)) (by decide)).symm rfl
        | exact au_pe (show -1 = betM so q W from ((betM_na ((hS.at 43 (by decide)).no (by assumption)) ((hS.at 45 (by decide)).no (by assumption)) ((hS.at 42 (by decide)).no (by assumption)) ((hS.at 47 (by decide)).no (by assumption))).trans (if_pos (by assumption))).symm) rfl
        | exact au_pe (show cmO (so q) = betM so q W from ((betM_na ((hS.at 43 (by decide)).no (by assumption)) ((hS.at 45 (by decide)).no (by assumption)) ((hS.at 42 (by decide)).no (by assumption)) ((hS.at 47 (by decide)).no (by assumption))).trans ((if_neg (fun z => z (by assumption))).trans (if_pos (by simpa using c63)))).symm) rfl
        | exact au_pe (show 21 = betM so q W from ((betM_na ((hS.at 43 (by decide)).no (by assumption)) ((hS.at 45 (by decide)).no (by assumption)) ((hS.at 42 (by decide)).no (by assumption)) ((hS.at 47 (by decide)).no (by assumption))).trans ((if_neg (fun z => z (by assumption))).trans ((if_neg (by simpa using c63)).trans (if_pos (w21.yes c84.1 c84.2))))).symm) rfl
        | exact au_pe (show 22 = betM so q W from ((betM_na ((hS.at 43 (by decide)).no (by assumption)) ((hS.at 45 (by decide)).no (by assumption)) ((hS.at 42 (by decide)).no (by assumption)) ((hS.at 47 (by decide)).no (by assumption))).trans ((if_neg (fun z => z (by assumption))).trans ((if_neg (by simpa using c63)).trans ((if_neg (fun z => c84 (w21.no z))).trans (if_pos (w20.yes c103.1 c103.2)))))).symm) rfl
        | exact au_pe (show -1 = betM so q W from ((betM_na ((hS.at 43 (by decide)).no (by assumption)) ((hS.at 45 (by decide)).no (by assumption)) ((hS.at 42 (by decide)).no (by assumption)) ((hS.at 47 (by decide)).no (by assumption))).trans ((if_neg (fun z => z (by assumption))).trans ((if_neg (by simpa using c63)).trans ((if_neg (fun z => c84 (w21.no z))).trans (if_neg (fun z => c103 (w20.no z))))))).symm) rfl
    · refine au_bipush dX2_betweenOf_21 rfl rfl ?_
      refine au_iret dX2_betweenOf_23 rfl rfl (Nat.le_of_ble_eq_true rfl) (Nat.le_of_ble_eq_true rfl) ?_
      first
      | exact au_pe (betM_op 43 ((hS.at 43 (by decide)).yes (by assumption)) (by decide)).symm rfl
      | exact au_pe (betM_op 45 ((hS.at 45 (by decide)).yes (by assumption)) (by decide)).symm rfl
      | exact au_pe (betM_op 42 ((hS.at 42 (by decide)).yes (by assumption)) (by decide)).symm rfl
      | exact au_pe (betM_op 47 ((hS.at 47 (by decide)).yes (by assumption)) (by decide)).symm rfl
      | exact au_pe (show -1 = betM so q W from ((betM_na ((hS.at 43 (by decide)).no (by assumption)) ((hS.at 45 (by decide)).no (by assumption)) ((hS.at 42 (by decide)).no (by assumption)) ((hS.at 47 (by decide)).no (by assumption))).trans (if_pos (by assumption))).symm) rfl
      | exact au_pe (show cmO (so q) = betM so q W from ((betM_na ((hS.at 43 (by decide)).no (by assumption)) ((hS.at 45 (by decide)).no (by assumption)) ((hS.at 42 (by decide)).no (by assumption)) ((hS.at 47 (by decide)).no (by assumption))).trans ((if_neg (fun z => z (by assumption))).trans (if_pos (by simpa using c63)))).symm) rfl
      | exact au_pe (show 21 = betM so q W from ((betM_na ((hS.at 43 (by decide)).no (by assumption)) ((hS.at 45 (by decide)).no (by assumption)) ((hS.at 42 (by decide)).no (by assumption)) ((hS.at 47 (by decide)).no (by assumption))).trans ((if_neg (fun z => z (by assumption))).trans ((if_neg (by simpa using c63)).trans (if_pos (w21.yes c84.1 c84.2))))).symm) rfl
      | exact au_pe (show 22 = betM so q W from ((betM_na ((hS.at 43 (by decide)).no (by assumption)) ((hS.at 45 (by decide)).no (by assumption)) ((hS.at 42 (by decide)).no (by assumption)) ((hS.at 47 (by decide)).no (by assumption))).trans ((if_neg (fun z => z (by assumption))).trans ((if_neg (by simpa using c63)).trans ((if_neg (fun z => c84 (w21.no z))).trans (if_pos (w20.yes c103.1 c103.2)))))).symm) rfl
      | exact au_pe (show -1 = betM so q W from ((betM_na ((hS.at 43 (by decide)).no (by assumption)) ((hS.at 45 (by decide)).no (by assumption)) ((hS.at 42 (by decide)).no (by assumption)) ((hS.at 47 (by decide)).no (by assumption))).trans ((if_neg (fun z => z (by assumption))).trans ((if_neg (by simpa using c63)).trans ((if_neg (fun z => c84 (w21.no z))).trans (if_neg (fun z => c103 (w20.no z))))))).symm) rfl
  · refine au_bipush dX2_betweenOf_9 rfl rfl ?_
    refine au_iret dX2_betweenOf_11 rfl rfl (Nat.le_of_ble_eq_true rfl) (Nat.le_of_ble_eq_true rfl) ?_
    first
    | exact au_pe (betM_op 43 ((hS.at 43 (by decide)).yes (by assumption)) (by decide)).symm rfl
    | exact au_pe (betM_op 45 ((hS.at 45 (by decide)).yes (by assumption)) (by decide)).symm rfl
    | exact au_pe (betM_op 42 ((hS.at 42 (by decide)).yes (by assumption)) (by decide)).symm rfl
    | exact au_pe (betM_op 47 ((hS.at 47 (by decide)).yes (by assumption)) (by decide)).symm rfl
    | exact au_pe (show -1 = betM so q W from ((betM_na ((hS.at 43 (by decide)).no (by assumption)) ((hS.at 45 (by decide)).no (by assumption)) ((hS.at 42 (by decide)).no (by assumption)) ((hS.at 47 (by decide)).no (by assumption))).trans (if_pos (by assumption))).symm) rfl
    | exact au_pe (show cmO (so q) = betM so q W from ((betM_na ((hS.at 43 (by decide)).no (by assumption)) ((hS.at 45 (by decide)).no (by assumption)) ((hS.at 42 (by decide)).no (by assumption)) ((hS.at 47 (by decide)).no (by assumption))).trans ((if_neg (fun z => z (by assumption))).trans (if_pos (by simpa using c63)))).symm) rfl
    | exact au_pe (show 21 = betM so q W from ((betM_na ((hS.at 43 (by decide)).no (by assumption)) ((hS.at 45 (by decide)).no (by assumption)) ((hS.at 42 (by decide)).no (by assumption)) ((hS.at 47 (by decide)).no (by assumption))).trans ((if_neg (fun z => z (by assumption))).trans ((if_neg (by simpa using c63)).trans (if_pos (w21.yes c84.1 c84.2))))).symm) rfl
    | exact au_pe (show 22 = betM so q W from ((betM_na ((hS.at 43 (by decide)).no (by assumption)) ((hS.at 45 (by decide)).no (by assumption)) ((hS.at 42 (by decide)).no (by assumption)) ((hS.at 47 (by decide)).no (by assumption))).trans ((if_neg (fun z => z (by assumption))).trans ((if_neg (by simpa using c63)).trans ((if_neg (fun z => c84 (w21.no z))).trans (if_pos (w20.yes c103.1 c103.2)))))).symm) rfl
    | exact au_pe (show -1 = betM so q W from ((betM_na ((hS.at 43 (by decide)).no (by assumption)) ((hS.at 45 (by decide)).no (by assumption)) ((hS.at 42 (by decide)).no (by assumption)) ((hS.at 47 (by decide)).no (by assumption))).trans ((if_neg (fun z => z (by assumption))).trans ((if_neg (by simpa using c63)).trans ((if_neg (fun z => c84 (w21.no z))).trans (if_neg (fun z => c103 (w20.no z))))))).symm) rfl
