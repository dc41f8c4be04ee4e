/-! THE MODEL: the sign between two (printed by tools/m92.py) -/
set_option maxRecDepth 100000
set_option maxHeartbeats 4000000

/-- one sign's fact, kept shut -/
def SgE (t s : Int) (si : au_A → Int → Int) : Prop := si MO 9 = t ↔ s = t
theorem SgE.yes {t s : Int} {si : au_A → Int → Int} (h : SgE t s si) (h1 : si MO 9 = t) : s = t := h.mp h1
theorem SgE.no {t s : Int} {si : au_A → Int → Int} (h : SgE t s si) (h1 : ¬ si MO 9 = t) : ¬ s = t := fun z => h1 (h.mpr z)
theorem SgAt.at {s : Int} {si : au_A → Int → Int} (h : SgAt s si) (t : Int) (ht : t = 60 ∨ t = 62 ∨ t = 61 ∨ t = 35 ∨ t = 43 ∨ t = 45 ∨ t = 42 ∨ t = 47 ∨ t = 40 ∨ t = 41 ∨ t = 59) : SgE t s si := h.2.2.2.2 t ht
theorem SgAt.le {s : Int} {si : au_A → Int → Int} (h : SgAt s si) : (si MO 9 = 4 → s = 303) ∧ (¬ si MO 9 = 4 → ¬ s = 303) := ⟨h.2.2.1.mp, fun z y => z (h.2.2.1.mpr y)⟩
theorem SgAt.ge {s : Int} {si : au_A → Int → Int} (h : SgAt s si) : (si MO 9 = 5 → s = 304) ∧ (¬ si MO 9 = 5 → ¬ s = 304) := ⟨h.2.2.2.1.mp, fun z y => z (h.2.2.2.1.mpr y)⟩
theorem cmO_none {s : Int} (a : ¬ s = 60) (b : ¬ s = 303) (c : ¬ s = 62) (d : ¬ s = 304) (e : ¬ s = 61) (f : ¬ s = 35) : cmO s = -1 := by
  unfold cmO
  rw [if_neg a, if_neg b, if_neg c, if_neg d, if_neg e, if_neg f]

theorem kX2_compareOf (G : au_G) (s : Int) (mi si hi sl : au_A → Int → Int) (r : au_A → Int → Option au_A) (nx : Nat) (hF : Fix r) (hS : SgAt s si) : au_Ctr G yX2_compareOf cX2_compareOf 1 (some .int) 0 0 0 [au_r MO] (mi, si, hi, sl, r, nx) (au_pure (au_i (cmO s)) (mi, si, hi, sl, r, nx)) := by
  refine au_of (by decide) (Nat.le_of_ble_eq_true rfl) ?_
  show au_Go G _ _ 0 [some (au_r MO)] [] (mi, si, hi, sl, r, nx) 0 0
  refine au_aload_n dX2_compareOf_0 rfl ?_
  refine au_getf (C := RX2) (T := TX2) (N := 35) in_X2 (by decide) rfl 9 (by decide) rfl rfl q1368 rfl dX2_compareOf_1 (v := au_i (si MO 9)) (by rfl) ?_
  refine au_bipush dX2_compareOf_4 rfl rfl ?_
  refine au_icmp_ne (tgt := 14) dX2_compareOf_6 (by decide) (fun c6 => ?_) (fun c6 => ?_)
  · refine au_aload_n dX2_compareOf_14 rfl ?_
    refine au_getf (C := RX2) (T := TX2) (N := 35) in_X2 (by decide) rfl 9 (by decide) rfl rfl q1368 rfl dX2_compareOf_15 (v := au_i (si MO 9)) (by rfl) ?_
    refine au_iconst dX2_compareOf_18 rfl rfl ?_
    refine au_icmp_ne (tgt := 27) dX2_compareOf_19 (by decide) (fun c19 => ?_) (fun c19 => ?_)
    · refine au_aload_n dX2_compareOf_27 rfl ?_
      refine au_getf (C := RX2) (T := TX2) (N := 35) in_X2 (by decide) rfl 9 (by decide) rfl rfl q1368 rfl dX2_compareOf_28 (v := au_i (si MO 9)) (by rfl) ?_
      refine au_bipush dX2_compareOf_31 rfl rfl ?_
      refine au_icmp_ne (tgt := 41) dX2_compareOf_33 (by decide) (fun c33 => ?_) (fun c33 => ?_)
      · refine au_aload_n dX2_compareOf_41 rfl ?_
        refine au_getf (C := RX2) (T := TX2) (N := 35) in_X2 (by decide) rfl 9 (by decide) rfl rfl q1368 rfl dX2_compareOf_42 (v := au_i (si MO 9)) (by rfl) ?_
        refine au_iconst dX2_compareOf_45 rfl rfl ?_
        refine au_icmp_ne (tgt := 54) dX2_compareOf_46 (by decide) (fun c46 => ?_) (fun c46 => ?_)
        · refine au_aload_n dX2_compareOf_54 rfl ?_
          refine au_getf (C := RX2) (T := TX2) (N := 35) in_X2 (by decide) rfl 9 (by decide) rfl rfl q1368 rfl dX2_compareOf_55 (v := au_i (si MO 9)) (by rfl) ?_
          refine au_bipush dX2_compareOf_58 rfl rfl ?_
          refine au_icmp_ne (tgt := 68) dX2_compareOf_60 (by decide) (fun c60 => ?_) (fun c60 => ?_)
          · refine au_aload_n dX2_compareOf_68 rfl ?_
            refine au_getf (C := RX2) (T := TX2) (N := 35) in_X2 (by decide) rfl 9 (by decide) rfl rfl q1368 rfl dX2_compareOf_69 (v := au_i (si MO 9)) (by rfl) ?_
            refine au_bipush dX2_compareOf_72 rfl rfl ?_
            refine au_icmp_ne (tgt := 82) dX2_compareOf_74 (by decide) (fun c74 => ?_) (fun c74 => ?_)
            · refine au_iconst dX2_compareOf_82 rfl rfl ?_
              refine au_iret dX2_compareOf_83 rfl rfl (Nat.le_of_ble_eq_true rfl) (Nat.le_of_ble_eq_true rfl) ?_
              first
              | exact au_pe (show 10 = cmO s by rw [(hS.at 60 (by decide)).yes (by assumption)]; rfl) rfl
              | exact au_pe (show 11 = cmO s by rw [hS.le.1 (by assumption)]; rfl) rfl
              | exact au_pe (show 12 = cmO s by rw [(hS.at 62 (by decide)).yes (by assumption)]; rfl) rfl
              | exact au_pe (show 13 = cmO s by rw [hS.ge.1 (by assumption)]; rfl) rfl
              | exact au_pe (show 14 = cmO s by rw [(hS.at 61 (by decide)).yes (by assumption)]; rfl) rfl
              | exact au_pe (show 15 = cmO s by rw [(hS.at 35 (by decide)).yes (by assumption)]; rfl) rfl
              | exact au_pe (cmO_none ((hS.at 60 (by decide)).no (by assumption)) (hS.le.2 (by assumption)) ((hS.at 62 (by decide)).no (by assumption)) (hS.ge.2 (by assumption)) ((hS.at 61 (by decide)).no (by assumption)) ((hS.at 35 (by decide)).no (by assumption))).symm rfl
            · refine au_bipush dX2_compareOf_77 rfl rfl ?_
              refine au_goto (tgt := 83) dX2_compareOf_79 (by decide) ?_
              refine au_iret dX2_compareOf_83 rfl rfl (Nat.le_of_ble_eq_true rfl) (Nat.le_of_ble_eq_true rfl) ?_
              first
              | exact au_pe (show 10 = cmO s by rw [(hS.at 60 (by decide)).yes (by assumption)]; rfl) rfl
              | exact au_pe (show 11 = cmO s by rw [hS.le.1 (by assumption)]; rfl) rfl
              | exact au_pe (show 12 = cmO s by rw [(hS.at 62 (by decide)).yes (by assumption)]; rfl) rfl
              | exact au_pe (show 13 = cmO s by rw [hS.ge.1 (by assumption)]; rfl) rfl
              | exact au_pe (show 14 = cmO s by rw [(hS.at 61 (by decide)).yes (by assumption)]; rfl) rfl
              | exact au_pe (show 15 = cmO s by rw [(hS.at 35 (by decide)).yes (by assumption)]; rfl) rfl
              | exact au_pe (cmO_none ((hS.at 60 (by decide)).no (by assumption)) (hS.le.2 (by assumption)) ((hS.at 62 (by decide)).no (by assumption)) (hS.ge.2 (by assumption)) ((hS.at 61 (by decide)).no (by assumption)) ((hS.at 35 (by decide)).no (by assumption))).symm rfl
          · refine au_bipush dX2_compareOf_63 rfl rfl ?_
            refine au_goto (tgt := 83) dX2_compareOf_65 (by decide) ?_
            refine au_iret dX2_compareOf_83 rfl rfl (Nat.le_of_ble_eq_true rfl) (Nat.le_of_ble_eq_true rfl) ?_
            first
            | exact au_pe (show 10 = cmO s by rw [(hS.at 60 (by decide)).yes (by assumption)]; rfl) rfl
            | exact au_pe (show 11 = cmO s by rw [hS.le.1 (by assumption)]; rfl) rfl
            | exact au_pe (show 12 = cmO s by rw [(hS.at 62 (by decide)).yes (by assumption)]; rfl) rfl
            | exact au_pe (show 13 = cmO s by rw [hS.ge.1 (by assumption)]; rfl) rfl
            | exact au_pe (show 14 = cmO s by rw [(hS.at 61 (by decide)).yes (by assumption)]; rfl) rfl
            | exact au_pe (show 15 = cmO s by rw [(hS.at 35 (by decide)).yes (by assumption)]; rfl) rfl
            | exact au_pe (cmO_none ((hS.at 60 (by decide)).no (by assumption)) (hS.le.2 (by assumption)) ((hS.at 62 (by decide)).no (by assumption)) (hS.ge.2 (by assumption)) ((hS.at 61 (by decide)).no (by assumption)) ((hS.at 35 (by decide)).no (by assumption))).symm rfl
        · refine au_bipush dX2_compareOf_49 rfl rfl ?_
          refine au_goto (tgt := 83) dX2_compareOf_51 (by decide) ?_
          refine au_iret dX2_compareOf_83 rfl rfl (Nat.le_of_ble_eq_true rfl) (Nat.le_of_ble_eq_true rfl) ?_
          first
          | exact au_pe (show 10 = cmO s by rw [(hS.at 60 (by decide)).yes (by assumption)]; rfl) rfl
          | exact au_pe (show 11 = cmO s by rw [hS.le.1 (by assumption)]; rfl) rfl
          | exact au_pe (show 12 = cmO s by rw [(hS.at 62 (by decide)).yes (by assumption)]; rfl) rfl
          | exact au_pe (show 13 = cmO s by rw [hS.ge.1 (by assumption)]; rfl) rfl
          | exact au_pe (show 14 = cmO s by rw [(hS.at 61 (by decide)).yes (by assumption)]; rfl) rfl
          | exact au_pe (show 15 = cmO s by rw [(hS.at 35 (by decide)).yes (by assumption)]; rfl) rfl
          | exact au_pe (cmO_none ((hS.at 60 (by decide)).no (by assumption)) (hS.le.2 (by assumption)) ((hS.at 62 (by decide)).no (by assumption)) (hS.ge.2 (by assumption)) ((hS.at 61 (by decide)).no (by assumption)) ((hS.at 35 (by decide)).no (by assumption))).symm rfl
      · refine au_bipush dX2_compareOf_36 rfl rfl ?_
        refine au_goto (tgt := 83) dX2_compareOf_38 (by decide) ?_
        refine au_iret dX2_compareOf_83 rfl rfl (Nat.le_of_ble_eq_true rfl) (Nat.le_of_ble_eq_true rfl) ?_
        first
        | exact au_pe (show 10 = cmO s by rw [(hS.at 60 (by decide)).yes (by assumption)]; rfl) rfl
        | exact au_pe (show 11 = cmO s by rw [hS.le.1 (by assumption)]; rfl) rfl
        | exact au_pe (show 12 = cmO s by rw [(hS.at 62 (by decide)).yes (by assumption)]; rfl) rfl
        | exact au_pe (show 13 = cmO s by rw [hS.ge.1 (by assumption)]; rfl) rfl
        | exact au_pe (show 14 = cmO s by rw [(hS.at 61 (by decide)).yes (by assumption)]; rfl) rfl
        | exact au_pe (show 15 = cmO s by rw [(hS.at 35 (by decide)).yes (by assumption)]; rfl) rfl
        | exact au_pe (cmO_none ((hS.at 60 (by decide)).no (by assumption)) (hS.le.2 (by assumption)) ((hS.at 62 (by decide)).no (by assumption)) (hS.ge.2 (by assumption)) ((hS.at 61 (by decide)).no (by assumption)) ((hS.at 35 (by decide)).no (by assumption))).symm rfl
    · refine au_bipush dX2_compareOf_22 rfl rfl ?_
      refine au_goto (tgt := 83) dX2_compareOf_24 (by decide) ?_
      refine au_iret dX2_compareOf_83 rfl rfl (Nat.le_of_ble_eq_true rfl) (Nat.le_of_ble_eq_true rfl) ?_
      first
      | exact au_pe (show 10 = cmO s by rw [(hS.at 60 (by decide)).yes (by assumption)]; rfl) rfl
      | exact au_pe (show 11 = cmO s by rw [hS.le.1 (by assumption)]; rfl) rfl
      | exact au_pe (show 12 = cmO s by rw [(hS.at 62 (by decide)).yes (by assumption)]; rfl) rfl
      | exact au_pe (show 13 = cmO s by rw [hS.ge.1 (by assumption)]; rfl) rfl
      | exact au_pe (show 14 = cmO s by rw [(hS.at 61 (by decide)).yes (by assumption)]; rfl) rfl
      | exact au_pe (show 15 = cmO s by rw [(hS.at 35 (by decide)).yes (by assumption)]; rfl) rfl
      | exact au_pe (cmO_none ((hS.at 60 (by decide)).no (by assumption)) (hS.le.2 (by assumption)) ((hS.at 62 (by decide)).no (by assumption)) (hS.ge.2 (by assumption)) ((hS.at 61 (by decide)).no (by assumption)) ((hS.at 35 (by decide)).no (by assumption))).symm rfl
  · refine au_bipush dX2_compareOf_9 rfl rfl ?_
    refine au_goto (tgt := 83) dX2_compareOf_11 (by decide) ?_
    refine au_iret dX2_compareOf_83 rfl rfl (Nat.le_of_ble_eq_true rfl) (Nat.le_of_ble_eq_true rfl) ?_
    first
    | exact au_pe (show 10 = cmO s by rw [(hS.at 60 (by decide)).yes (by assumption)]; rfl) rfl
    | exact au_pe (show 11 = cmO s by rw [hS.le.1 (by assumption)]; rfl) rfl
    | exact au_pe (show 12 = cmO s by rw [(hS.at 62 (by decide)).yes (by assumption)]; rfl) rfl
    | exact au_pe (show 13 = cmO s by rw [hS.ge.1 (by assumption)]; rfl) rfl
    | exact au_pe (show 14 = cmO s by rw [(hS.at 61 (by decide)).yes (by assumption)]; rfl) rfl
    | exact au_pe (show 15 = cmO s by rw [(hS.at 35 (by decide)).yes (by assumption)]; rfl) rfl
    | exact au_pe (cmO_none ((hS.at 60 (by decide)).no (by assumption)) (hS.le.2 (by assumption)) ((hS.at 62 (by decide)).no (by assumption)) (hS.ge.2 (by assumption)) ((hS.at 61 (by decide)).no (by assumption)) ((hS.at 35 (by decide)).no (by assumption))).symm rfl
