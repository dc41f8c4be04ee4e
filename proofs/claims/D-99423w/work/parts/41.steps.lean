/-! THE MODEL: the small steps of its sums (printed by tools/m41.py) -/
set_option maxRecDepth 100000
set_option maxHeartbeats 4000000

/-- the model's step numbers and the signs that they stand for -/
def sgO (o : Int) : Int := if o = 6 then 43 else if o = 7 then 45 else if o = 8 then 42 else 47
def sgC (o : Int) : Int := if o = 10 then 60 else if o = 11 then 303 else if o = 12 then 62 else if o = 13 then 304 else if o = 14 then 61 else 35
def rkV (B : Int → Int) (n o : Int) : Int := if o < 0 ∨ n ≤ o then 0 else rank B o

theorem kX2_clip (G : au_G) (v : Int) (M : au_M) : au_Ctr G yX2_clip cX2_clip 2 (some .long) 0 0 0 [au_l v] M (au_pure (au_l (max (-1000000) (min 1000000 v))) M) := by
  refine au_of (by decide) (Nat.le_of_ble_eq_true rfl) ?_
  show au_Go G _ _ 0 [some (au_l v), none] [] M 0 0
  refine au_lload_n dX2_clip_0 rfl ?_
  refine au_ldc2 q1756 rfl dX2_clip_1 ?_
  show au_Go G _ _ 4 [some (au_l v), none] [au_l 1000000, au_l v] M 0 0
  refine au_lcmp dX2_clip_4 ?_
  refine au_if_le (tgt := 14) dX2_clip_5 (by decide) (fun c5 => ?_) (fun c5 => ?_)
  · have c5 := au_cmp_let c5
    refine au_lload_n dX2_clip_14 rfl ?_
    refine au_ldc2 q1757 rfl dX2_clip_15 ?_
    show au_Go G _ _ 18 [some (au_l v), none] [au_l (-1000000), au_l v] M 0 0
    refine au_lcmp dX2_clip_18 ?_
    refine au_if_ge (tgt := 28) dX2_clip_19 (by decide) (fun c19 => ?_) (fun c19 => ?_)
    · have c19 := au_cmp_get c19
      refine au_lload_n dX2_clip_28 rfl ?_
      exact au_lret dX2_clip_29 rfl rfl (Nat.le_of_ble_eq_true rfl) (Nat.le_of_ble_eq_true rfl) (by exact au_ple (by omega) rfl)
    · have c19 := au_cmp_gef c19
      refine au_ldc2 q1757 rfl dX2_clip_22 ?_
      show au_Go G _ _ 25 [some (au_l v), none] [au_l (-1000000)] M 0 0
      refine au_goto (tgt := 29) dX2_clip_25 (by decide) ?_
      exact au_lret dX2_clip_29 rfl rfl (Nat.le_of_ble_eq_true rfl) (Nat.le_of_ble_eq_true rfl) (by exact au_ple (by omega) rfl)
  · have c5 := au_cmp_lef c5
    refine au_ldc2 q1756 rfl dX2_clip_8 ?_
    show au_Go G _ _ 11 [some (au_l v), none] [au_l 1000000] M 0 0
    refine au_goto (tgt := 29) dX2_clip_11 (by decide) ?_
    exact au_lret dX2_clip_29 rfl rfl (Nat.le_of_ble_eq_true rfl) (Nat.le_of_ble_eq_true rfl) (by exact au_ple (by omega) rfl)
theorem kX2_two (G : au_G) (o x y : Int) (ho : 6 ≤ o ∧ o ≤ 9) (hx : I33 x) (hy : I33 y) (M : au_M) : au_Ctr G yX2_two cX2_two 5 (some .long) 1 0 0 [au_i o, au_l x, au_l y] M (au_pure (au_l (twoF (sgO o) x y)) M) := by
  refine au_of (by decide) (Nat.le_of_ble_eq_true rfl) ?_
  have hm := mul_bd hx hy
  have ht := tdiv_bd (b := y) hx
  unfold I33 at hx hy ht
  show au_Go G _ _ 0 [some (au_i o), some (au_l x), none, some (au_l y), none] [] M 0 0
  refine au_iload_n dX2_two_0 rfl ?_
  by_cases c1 : o < 6 ∨ 8 < o
  · refine au_tableOut (tgt := 49) dX2_two_1 c1 (by decide) ?_
    refine au_lload_n dX2_two_49 rfl ?_
    refine au_lconst dX2_two_50 rfl ?_
    refine au_lcmp dX2_two_51 ?_
    refine au_if_ne (tgt := 59) dX2_two_52 (by decide) (fun c52 => ?_) (fun c52 => ?_)
    · have c52 := au_cmp_net c52
      refine au_lload_n dX2_two_59 rfl ?_
      refine au_lload_n dX2_two_60 rfl ?_
      refine au_ldiv dX2_two_61 (by omega) (by omega) (by omega) ?_
      refine au_callSp (n := 1) (kX2_clip G (Int.tdiv x y) _) (lw_S q1753 q1754 q134 q1755) (by decide +kernel) rfl rfl rfl (Nat.le_of_ble_eq_true rfl) (Nat.le_of_ble_eq_true rfl) (Nat.le_of_ble_eq_true rfl) (Nat.le_of_ble_eq_true rfl) (Nat.le_of_ble_eq_true rfl) dX2_two_62 ?_
      refine au_lret dX2_two_65 rfl rfl (Nat.le_of_ble_eq_true rfl) (Nat.le_of_ble_eq_true rfl) ?_
      refine au_ple ?_ rfl
      unfold twoF sgO
      first
      | (rw [e1]; rfl)
      | (rw [if_neg (show ¬ o = 6 by omega), if_neg (show ¬ o = 7 by omega), if_neg (show ¬ o = 8 by omega), if_neg (by decide), if_neg (by decide), if_neg (by decide)]
         first
         | (rw [if_pos (by omega)]; rfl)
         | rw [if_neg (by omega)])
    · have c52 := au_cmp_nef c52
      refine au_lconst dX2_two_55 rfl ?_
      refine au_goto (tgt := 65) dX2_two_56 (by decide) ?_
      refine au_lret dX2_two_65 rfl rfl (Nat.le_of_ble_eq_true rfl) (Nat.le_of_ble_eq_true rfl) ?_
      refine au_ple ?_ rfl
      unfold twoF sgO
      first
      | (rw [e1]; rfl)
      | (rw [if_neg (show ¬ o = 6 by omega), if_neg (show ¬ o = 7 by omega), if_neg (show ¬ o = 8 by omega), if_neg (by decide), if_neg (by decide), if_neg (by decide)]
         first
         | (rw [if_pos (by omega)]; rfl)
         | rw [if_neg (by omega)])
  · have c1 : o = 6 ∨ o = 7 ∨ o = 8 := by omega
    rcases c1 with e1 | e1 | e1
    · refine au_tableIn (off := 27) (tgt := 28) dX2_two_1 (by omega) (by omega) (by rw [e1]; rfl) (by decide) ?_
      refine au_lload_n dX2_two_28 rfl ?_
      refine au_lload_n dX2_two_29 rfl ?_
      refine au_ladd dX2_two_30 (by omega) (by omega) ?_
      refine au_callSp (n := 1) (kX2_clip G (x + y) _) (lw_S q1753 q1754 q134 q1755) (by decide +kernel) rfl rfl rfl (Nat.le_of_ble_eq_true rfl) (Nat.le_of_ble_eq_true rfl) (Nat.le_of_ble_eq_true rfl) (Nat.le_of_ble_eq_true rfl) (Nat.le_of_ble_eq_true rfl) dX2_two_31 ?_
      refine au_lret dX2_two_34 rfl rfl (Nat.le_of_ble_eq_true rfl) (Nat.le_of_ble_eq_true rfl) ?_
      refine au_ple ?_ rfl
      unfold twoF sgO
      first
      | (rw [e1]; rfl)
      | (rw [if_neg (show ¬ o = 6 by omega), if_neg (show ¬ o = 7 by omega), if_neg (show ¬ o = 8 by omega), if_neg (by decide), if_neg (by decide), if_neg (by decide)]
         first
         | (rw [if_pos (by omega)]; rfl)
         | rw [if_neg (by omega)])
    · refine au_tableIn (off := 34) (tgt := 35) dX2_two_1 (by omega) (by omega) (by rw [e1]; rfl) (by decide) ?_
      refine au_lload_n dX2_two_35 rfl ?_
      refine au_lload_n dX2_two_36 rfl ?_
      refine au_lsub dX2_two_37 (by omega) (by omega) ?_
      refine au_callSp (n := 1) (kX2_clip G (x - y) _) (lw_S q1753 q1754 q134 q1755) (by decide +kernel) rfl rfl rfl (Nat.le_of_ble_eq_true rfl) (Nat.le_of_ble_eq_true rfl) (Nat.le_of_ble_eq_true rfl) (Nat.le_of_ble_eq_true rfl) (Nat.le_of_ble_eq_true rfl) dX2_two_38 ?_
      refine au_lret dX2_two_41 rfl rfl (Nat.le_of_ble_eq_true rfl) (Nat.le_of_ble_eq_true rfl) ?_
      refine au_ple ?_ rfl
      unfold twoF sgO
      first
      | (rw [e1]; rfl)
      | (rw [if_neg (show ¬ o = 6 by omega), if_neg (show ¬ o = 7 by omega), if_neg (show ¬ o = 8 by omega), if_neg (by decide), if_neg (by decide), if_neg (by decide)]
         first
         | (rw [if_pos (by omega)]; rfl)
         | rw [if_neg (by omega)])
    · refine au_tableIn (off := 41) (tgt := 42) dX2_two_1 (by omega) (by omega) (by rw [e1]; rfl) (by decide) ?_
      refine au_lload_n dX2_two_42 rfl ?_
      refine au_lload_n dX2_two_43 rfl ?_
      refine au_lmul dX2_two_44 (by omega) (by omega) ?_
      refine au_callSp (n := 1) (kX2_clip G (x * y) _) (lw_S q1753 q1754 q134 q1755) (by decide +kernel) rfl rfl rfl (Nat.le_of_ble_eq_true rfl) (Nat.le_of_ble_eq_true rfl) (Nat.le_of_ble_eq_true rfl) (Nat.le_of_ble_eq_true rfl) (Nat.le_of_ble_eq_true rfl) dX2_two_45 ?_
      refine au_lret dX2_two_48 rfl rfl (Nat.le_of_ble_eq_true rfl) (Nat.le_of_ble_eq_true rfl) ?_
      refine au_ple ?_ rfl
      unfold twoF sgO
      first
      | (rw [e1]; rfl)
      | (rw [if_neg (show ¬ o = 6 by omega), if_neg (show ¬ o = 7 by omega), if_neg (show ¬ o = 8 by omega), if_neg (by decide), if_neg (by decide), if_neg (by decide)]
         first
         | (rw [if_pos (by omega)]; rfl)
         | rw [if_neg (by omega)])
theorem kX2_isAsked (G : au_G) (o x y : Int) (ho : 10 ≤ o ∧ o ≤ 15) (M : au_M) : au_Ctr G yX2_isAsked cX2_isAsked 5 (some .boolean) 0 0 0 [au_i o, au_l x, au_l y] M (au_pure (au_i (cmpF (sgC o) (x - y))) M) := by
  refine au_of (by decide) (Nat.le_of_ble_eq_true rfl) ?_
  show au_Go G _ _ 0 [some (au_i o), some (au_l x), none, some (au_l y), none] [] M 0 0
  refine au_iload_n dX2_isAsked_0 rfl ?_
  refine au_bipush dX2_isAsked_1 rfl rfl ?_
  refine au_icmp_ne (tgt := 20) dX2_isAsked_3 (by decide) (fun c3 => ?_) (fun c3 => ?_)
  · refine au_iload_n dX2_isAsked_20 rfl ?_
    refine au_bipush dX2_isAsked_21 rfl rfl ?_
    refine au_icmp_ne (tgt := 40) dX2_isAsked_23 (by decide) (fun c23 => ?_) (fun c23 => ?_)
    · refine au_iload_n dX2_isAsked_40 rfl ?_
      refine au_bipush dX2_isAsked_41 rfl rfl ?_
      refine au_icmp_ne (tgt := 60) dX2_isAsked_43 (by decide) (fun c43 => ?_) (fun c43 => ?_)
      · refine au_iload_n dX2_isAsked_60 rfl ?_
        refine au_bipush dX2_isAsked_61 rfl rfl ?_
        refine au_icmp_ne (tgt := 80) dX2_isAsked_63 (by decide) (fun c63 => ?_) (fun c63 => ?_)
        · refine au_iload_n dX2_isAsked_80 rfl ?_
          refine au_bipush dX2_isAsked_81 rfl rfl ?_
          refine au_icmp_ne (tgt := 100) dX2_isAsked_83 (by decide) (fun c83 => ?_) (fun c83 => ?_)
          · refine au_lload_n dX2_isAsked_100 rfl ?_
            refine au_lload_n dX2_isAsked_101 rfl ?_
            refine au_lcmp dX2_isAsked_102 ?_
            refine au_if_eq (tgt := 110) dX2_isAsked_103 (by decide) (fun c103 => ?_) (fun c103 => ?_)
            · have c103 := au_cmp_eqt c103
              refine au_iconst dX2_isAsked_110 rfl rfl ?_
              refine au_zret dX2_isAsked_111 rfl (Or.inl rfl) rfl (Nat.le_of_ble_eq_true rfl) (Nat.le_of_ble_eq_true rfl) ?_
              refine au_pe ?_ rfl
              have hs : (o = 10 ∧ sgC o = 60) ∨ (o = 11 ∧ sgC o = 303) ∨ (o = 12 ∧ sgC o = 62) ∨ (o = 13 ∧ sgC o = 304) ∨ (o = 14 ∧ sgC o = 61) ∨ (o = 15 ∧ sgC o = 35) := by
                unfold sgC
                repeat' split
                all_goals omega
              generalize sgC o = sg at hs
              unfold cmpF
              repeat' split
              all_goals omega
            · have c103 := au_cmp_eqf c103
              refine au_iconst dX2_isAsked_106 rfl rfl ?_
              refine au_goto (tgt := 111) dX2_isAsked_107 (by decide) ?_
              refine au_zret dX2_isAsked_111 rfl (Or.inr rfl) rfl (Nat.le_of_ble_eq_true rfl) (Nat.le_of_ble_eq_true rfl) ?_
              refine au_pe ?_ rfl
              have hs : (o = 10 ∧ sgC o = 60) ∨ (o = 11 ∧ sgC o = 303) ∨ (o = 12 ∧ sgC o = 62) ∨ (o = 13 ∧ sgC o = 304) ∨ (o = 14 ∧ sgC o = 61) ∨ (o = 15 ∧ sgC o = 35) := by
                unfold sgC
                repeat' split
                all_goals omega
              generalize sgC o = sg at hs
              unfold cmpF
              repeat' split
              all_goals omega
          · refine au_lload_n dX2_isAsked_86 rfl ?_
            refine au_lload_n dX2_isAsked_87 rfl ?_
            refine au_lcmp dX2_isAsked_88 ?_
            refine au_if_ne (tgt := 96) dX2_isAsked_89 (by decide) (fun c89 => ?_) (fun c89 => ?_)
            · have c89 := au_cmp_net c89
              refine au_iconst dX2_isAsked_96 rfl rfl ?_
              refine au_goto (tgt := 111) dX2_isAsked_97 (by decide) ?_
              refine au_zret dX2_isAsked_111 rfl (Or.inl rfl) rfl (Nat.le_of_ble_eq_true rfl) (Nat.le_of_ble_eq_true rfl) ?_
              refine au_pe ?_ rfl
              have hs : (o = 10 ∧ sgC o = 60) ∨ (o = 11 ∧ sgC o = 303) ∨ (o = 12 ∧ sgC o = 62) ∨ (o = 13 ∧ sgC o = 304) ∨ (o = 14 ∧ sgC o = 61) ∨ (o = 15 ∧ sgC o = 35) := by
                unfold sgC
                repeat' split
                all_goals omega
              generalize sgC o = sg at hs
              unfold cmpF
              repeat' split
              all_goals omega
            · have c89 := au_cmp_nef c89
              refine au_iconst dX2_isAsked_92 rfl rfl ?_
              refine au_goto (tgt := 111) dX2_isAsked_93 (by decide) ?_
              refine au_zret dX2_isAsked_111 rfl (Or.inr rfl) rfl (Nat.le_of_ble_eq_true rfl) (Nat.le_of_ble_eq_true rfl) ?_
              refine au_pe ?_ rfl
              have hs : (o = 10 ∧ sgC o = 60) ∨ (o = 11 ∧ sgC o = 303) ∨ (o = 12 ∧ sgC o = 62) ∨ (o = 13 ∧ sgC o = 304) ∨ (o = 14 ∧ sgC o = 61) ∨ (o = 15 ∧ sgC o = 35) := by
                unfold sgC
                repeat' split
                all_goals omega
              generalize sgC o = sg at hs
              unfold cmpF
              repeat' split
              all_goals omega
        · refine au_lload_n dX2_isAsked_66 rfl ?_
          refine au_lload_n dX2_isAsked_67 rfl ?_
          refine au_lcmp dX2_isAsked_68 ?_
          refine au_if_lt (tgt := 76) dX2_isAsked_69 (by decide) (fun c69 => ?_) (fun c69 => ?_)
          · have c69 := au_cmp_ltt c69
            refine au_iconst dX2_isAsked_76 rfl rfl ?_
            refine au_goto (tgt := 111) dX2_isAsked_77 (by decide) ?_
            refine au_zret dX2_isAsked_111 rfl (Or.inl rfl) rfl (Nat.le_of_ble_eq_true rfl) (Nat.le_of_ble_eq_true rfl) ?_
            refine au_pe ?_ rfl
            have hs : (o = 10 ∧ sgC o = 60) ∨ (o = 11 ∧ sgC o = 303) ∨ (o = 12 ∧ sgC o = 62) ∨ (o = 13 ∧ sgC o = 304) ∨ (o = 14 ∧ sgC o = 61) ∨ (o = 15 ∧ sgC o = 35) := by
              unfold sgC
              repeat' split
              all_goals omega
            generalize sgC o = sg at hs
            unfold cmpF
            repeat' split
            all_goals omega
          · have c69 := au_cmp_ltf c69
            refine au_iconst dX2_isAsked_72 rfl rfl ?_
            refine au_goto (tgt := 111) dX2_isAsked_73 (by decide) ?_
            refine au_zret dX2_isAsked_111 rfl (Or.inr rfl) rfl (Nat.le_of_ble_eq_true rfl) (Nat.le_of_ble_eq_true rfl) ?_
            refine au_pe ?_ rfl
            have hs : (o = 10 ∧ sgC o = 60) ∨ (o = 11 ∧ sgC o = 303) ∨ (o = 12 ∧ sgC o = 62) ∨ (o = 13 ∧ sgC o = 304) ∨ (o = 14 ∧ sgC o = 61) ∨ (o = 15 ∧ sgC o = 35) := by
              unfold sgC
              repeat' split
              all_goals omega
            generalize sgC o = sg at hs
            unfold cmpF
            repeat' split
            all_goals omega
      · refine au_lload_n dX2_isAsked_46 rfl ?_
        refine au_lload_n dX2_isAsked_47 rfl ?_
        refine au_lcmp dX2_isAsked_48 ?_
        refine au_if_le (tgt := 56) dX2_isAsked_49 (by decide) (fun c49 => ?_) (fun c49 => ?_)
        · have c49 := au_cmp_let c49
          refine au_iconst dX2_isAsked_56 rfl rfl ?_
          refine au_goto (tgt := 111) dX2_isAsked_57 (by decide) ?_
          refine au_zret dX2_isAsked_111 rfl (Or.inl rfl) rfl (Nat.le_of_ble_eq_true rfl) (Nat.le_of_ble_eq_true rfl) ?_
          refine au_pe ?_ rfl
          have hs : (o = 10 ∧ sgC o = 60) ∨ (o = 11 ∧ sgC o = 303) ∨ (o = 12 ∧ sgC o = 62) ∨ (o = 13 ∧ sgC o = 304) ∨ (o = 14 ∧ sgC o = 61) ∨ (o = 15 ∧ sgC o = 35) := by
            unfold sgC
            repeat' split
            all_goals omega
          generalize sgC o = sg at hs
          unfold cmpF
          repeat' split
          all_goals omega
        · have c49 := au_cmp_lef c49
          refine au_iconst dX2_isAsked_52 rfl rfl ?_
          refine au_goto (tgt := 111) dX2_isAsked_53 (by decide) ?_
          refine au_zret dX2_isAsked_111 rfl (Or.inr rfl) rfl (Nat.le_of_ble_eq_true rfl) (Nat.le_of_ble_eq_true rfl) ?_
          refine au_pe ?_ rfl
          have hs : (o = 10 ∧ sgC o = 60) ∨ (o = 11 ∧ sgC o = 303) ∨ (o = 12 ∧ sgC o = 62) ∨ (o = 13 ∧ sgC o = 304) ∨ (o = 14 ∧ sgC o = 61) ∨ (o = 15 ∧ sgC o = 35) := by
            unfold sgC
            repeat' split
            all_goals omega
          generalize sgC o = sg at hs
          unfold cmpF
          repeat' split
          all_goals omega
    · refine au_lload_n dX2_isAsked_26 rfl ?_
      refine au_lload_n dX2_isAsked_27 rfl ?_
      refine au_lcmp dX2_isAsked_28 ?_
      refine au_if_gt (tgt := 36) dX2_isAsked_29 (by decide) (fun c29 => ?_) (fun c29 => ?_)
      · have c29 := au_cmp_gtt c29
        refine au_iconst dX2_isAsked_36 rfl rfl ?_
        refine au_goto (tgt := 111) dX2_isAsked_37 (by decide) ?_
        refine au_zret dX2_isAsked_111 rfl (Or.inl rfl) rfl (Nat.le_of_ble_eq_true rfl) (Nat.le_of_ble_eq_true rfl) ?_
        refine au_pe ?_ rfl
        have hs : (o = 10 ∧ sgC o = 60) ∨ (o = 11 ∧ sgC o = 303) ∨ (o = 12 ∧ sgC o = 62) ∨ (o = 13 ∧ sgC o = 304) ∨ (o = 14 ∧ sgC o = 61) ∨ (o = 15 ∧ sgC o = 35) := by
          unfold sgC
          repeat' split
          all_goals omega
        generalize sgC o = sg at hs
        unfold cmpF
        repeat' split
        all_goals omega
      · have c29 := au_cmp_gtf c29
        refine au_iconst dX2_isAsked_32 rfl rfl ?_
        refine au_goto (tgt := 111) dX2_isAsked_33 (by decide) ?_
        refine au_zret dX2_isAsked_111 rfl (Or.inr rfl) rfl (Nat.le_of_ble_eq_true rfl) (Nat.le_of_ble_eq_true rfl) ?_
        refine au_pe ?_ rfl
        have hs : (o = 10 ∧ sgC o = 60) ∨ (o = 11 ∧ sgC o = 303) ∨ (o = 12 ∧ sgC o = 62) ∨ (o = 13 ∧ sgC o = 304) ∨ (o = 14 ∧ sgC o = 61) ∨ (o = 15 ∧ sgC o = 35) := by
          unfold sgC
          repeat' split
          all_goals omega
        generalize sgC o = sg at hs
        unfold cmpF
        repeat' split
        all_goals omega
  · refine au_lload_n dX2_isAsked_6 rfl ?_
    refine au_lload_n dX2_isAsked_7 rfl ?_
    refine au_lcmp dX2_isAsked_8 ?_
    refine au_if_ge (tgt := 16) dX2_isAsked_9 (by decide) (fun c9 => ?_) (fun c9 => ?_)
    · have c9 := au_cmp_get c9
      refine au_iconst dX2_isAsked_16 rfl rfl ?_
      refine au_goto (tgt := 111) dX2_isAsked_17 (by decide) ?_
      refine au_zret dX2_isAsked_111 rfl (Or.inl rfl) rfl (Nat.le_of_ble_eq_true rfl) (Nat.le_of_ble_eq_true rfl) ?_
      refine au_pe ?_ rfl
      have hs : (o = 10 ∧ sgC o = 60) ∨ (o = 11 ∧ sgC o = 303) ∨ (o = 12 ∧ sgC o = 62) ∨ (o = 13 ∧ sgC o = 304) ∨ (o = 14 ∧ sgC o = 61) ∨ (o = 15 ∧ sgC o = 35) := by
        unfold sgC
        repeat' split
        all_goals omega
      generalize sgC o = sg at hs
      unfold cmpF
      repeat' split
      all_goals omega
    · have c9 := au_cmp_gef c9
      refine au_iconst dX2_isAsked_12 rfl rfl ?_
      refine au_goto (tgt := 111) dX2_isAsked_13 (by decide) ?_
      refine au_zret dX2_isAsked_111 rfl (Or.inr rfl) rfl (Nat.le_of_ble_eq_true rfl) (Nat.le_of_ble_eq_true rfl) ?_
      refine au_pe ?_ rfl
      have hs : (o = 10 ∧ sgC o = 60) ∨ (o = 11 ∧ sgC o = 303) ∨ (o = 12 ∧ sgC o = 62) ∨ (o = 13 ∧ sgC o = 304) ∨ (o = 14 ∧ sgC o = 61) ∨ (o = 15 ∧ sgC o = 35) := by
        unfold sgC
        repeat' split
        all_goals omega
      generalize sgC o = sg at hs
      unfold cmpF
      repeat' split
      all_goals omega
theorem kX2_joined (G : au_G) (o x y : Int) (ho : o = 21 ∨ o = 22) (hx : x = 0 ∨ x = 1) (hy : y = 0 ∨ y = 1) (M : au_M) : au_Ctr G yX2_joined cX2_joined 3 (some .boolean) 0 0 0 [au_i o, au_i x, au_i y] M (au_pure (au_i (if o = 21 then (if x = 0 then 0 else y) else (if x = 0 then y else 1))) M) := by
  refine au_of (by decide) (Nat.le_of_ble_eq_true rfl) ?_
  show au_Go G _ _ 0 [some (au_i o), some (au_i x), some (au_i y)] [] M 0 0
  refine au_iload_n dX2_joined_0 rfl ?_
  refine au_bipush dX2_joined_1 rfl rfl ?_
  refine au_icmp_ne (tgt := 22) dX2_joined_3 (by decide) (fun c3 => ?_) (fun c3 => ?_)
  · refine au_iload_n dX2_joined_22 rfl ?_
    refine au_if_ne (tgt := 30) dX2_joined_23 (by decide) (fun c23 => ?_) (fun c23 => ?_)
    · refine au_iconst dX2_joined_30 rfl rfl ?_
      refine au_goto (tgt := 35) dX2_joined_31 (by decide) ?_
      refine au_zret dX2_joined_35 rfl (Or.inr rfl) rfl (Nat.le_of_ble_eq_true rfl) (Nat.le_of_ble_eq_true rfl) ?_
      refine au_pe ?_ rfl
      repeat' split
      all_goals omega
    · refine au_iload_n dX2_joined_26 rfl ?_
      refine au_if_eq (tgt := 34) dX2_joined_27 (by decide) (fun c27 => ?_) (fun c27 => ?_)
      · refine au_iconst dX2_joined_34 rfl rfl ?_
        refine au_zret dX2_joined_35 rfl (Or.inl rfl) rfl (Nat.le_of_ble_eq_true rfl) (Nat.le_of_ble_eq_true rfl) ?_
        refine au_pe ?_ rfl
        repeat' split
        all_goals omega
      · refine au_iconst dX2_joined_30 rfl rfl ?_
        refine au_goto (tgt := 35) dX2_joined_31 (by decide) ?_
        refine au_zret dX2_joined_35 rfl (Or.inr rfl) rfl (Nat.le_of_ble_eq_true rfl) (Nat.le_of_ble_eq_true rfl) ?_
        refine au_pe ?_ rfl
        repeat' split
        all_goals omega
  · refine au_iload_n dX2_joined_6 rfl ?_
    refine au_if_eq (tgt := 18) dX2_joined_7 (by decide) (fun c7 => ?_) (fun c7 => ?_)
    · refine au_iconst dX2_joined_18 rfl rfl ?_
      refine au_goto (tgt := 35) dX2_joined_19 (by decide) ?_
      refine au_zret dX2_joined_35 rfl (Or.inl rfl) rfl (Nat.le_of_ble_eq_true rfl) (Nat.le_of_ble_eq_true rfl) ?_
      refine au_pe ?_ rfl
      repeat' split
      all_goals omega
    · refine au_iload_n dX2_joined_10 rfl ?_
      refine au_if_eq (tgt := 18) dX2_joined_11 (by decide) (fun c11 => ?_) (fun c11 => ?_)
      · refine au_iconst dX2_joined_18 rfl rfl ?_
        refine au_goto (tgt := 35) dX2_joined_19 (by decide) ?_
        refine au_zret dX2_joined_35 rfl (Or.inl rfl) rfl (Nat.le_of_ble_eq_true rfl) (Nat.le_of_ble_eq_true rfl) ?_
        refine au_pe ?_ rfl
        repeat' split
        all_goals omega
      · refine au_iconst dX2_joined_14 rfl rfl ?_
        refine au_goto (tgt := 35) dX2_joined_15 (by decide) ?_
        refine au_zret dX2_joined_35 rfl (Or.inr rfl) rfl (Nat.le_of_ble_eq_true rfl) (Nat.le_of_ble_eq_true rfl) ?_
        refine au_pe ?_ rfl
        repeat' split
        all_goals omega
theorem kX2_cut (G : au_G) (v lo hh : Int) (h0 : -2147483648 ≤ lo) (h1 : lo ≤ hh) (h2 : hh ≤ 2147483647) (M : au_M) : au_Ctr G yX2_cut cX2_cut 4 (some .int) 0 0 0 [au_l v, au_i lo, au_i hh] M (au_pure (au_i (max lo (min hh v))) M) := by
  refine au_of (by decide) (Nat.le_of_ble_eq_true rfl) ?_
  show au_Go G _ _ 0 [some (au_l v), none, some (au_i lo), some (au_i hh)] [] M 0 0
  refine au_lload_n dX2_cut_0 rfl ?_
  refine au_iload_n dX2_cut_1 rfl ?_
  refine au_i2l dX2_cut_2 ?_
  refine au_lcmp dX2_cut_3 ?_
  refine au_if_ge (tgt := 11) dX2_cut_4 (by decide) (fun c4 => ?_) (fun c4 => ?_)
  · have c4 := au_cmp_get c4
    refine au_lload_n dX2_cut_11 rfl ?_
    refine au_iload_n dX2_cut_12 rfl ?_
    refine au_i2l dX2_cut_13 ?_
    refine au_lcmp dX2_cut_14 ?_
    refine au_if_le (tgt := 22) dX2_cut_15 (by decide) (fun c15 => ?_) (fun c15 => ?_)
    · have c15 := au_cmp_let c15
      refine au_lload_n dX2_cut_22 rfl ?_
      refine au_l2i dX2_cut_23 (by omega) (by omega) ?_
      exact au_iret dX2_cut_24 rfl rfl (Nat.le_of_ble_eq_true rfl) (Nat.le_of_ble_eq_true rfl) (by exact au_pe (by omega) rfl)
    · have c15 := au_cmp_lef c15
      refine au_iload_n dX2_cut_18 rfl ?_
      refine au_goto (tgt := 24) dX2_cut_19 (by decide) ?_
      exact au_iret dX2_cut_24 rfl rfl (Nat.le_of_ble_eq_true rfl) (Nat.le_of_ble_eq_true rfl) (by exact au_pe (by omega) rfl)
  · have c4 := au_cmp_gef c4
    refine au_iload_n dX2_cut_7 rfl ?_
    refine au_goto (tgt := 24) dX2_cut_8 (by decide) ?_
    exact au_iret dX2_cut_24 rfl rfl (Nat.le_of_ble_eq_true rfl) (Nat.le_of_ble_eq_true rfl) (by exact au_pe (by omega) rfl)
theorem kX2_halved (G : au_G) (v b : Int) (M : au_M) (hv : I33 v) (hb : I33 b) : au_Ctr G yX2_halved cX2_halved 8 (some .long) 0 0 0 [au_l v, au_l b] M (au_pure (au_l (hlvF v b.toNat)) M) := by
  refine au_of (by decide) (Nat.le_of_ble_eq_true rfl) ?_
  unfold I33 at hb
  show au_Go G _ _ 0 [some (au_l v), none, some (au_l b), none, none, none, none, none] [] M 0 0
  refine au_lload_n dX2_halved_0 rfl ?_
  refine au_lstore dX2_halved_1 (show 4 + 1 < 8 by decide) ?_
  show au_Go G _ _ 3 [some (au_l v), none, some (au_l b), none, some (au_l v), none, none, none] [] M 0 0
  refine au_lconst dX2_halved_3 rfl ?_
  refine au_lstore dX2_halved_4 (show 6 + 1 < 8 by decide) ?_
  show au_Go G _ _ 6 [some (au_l v), none, some (au_l b), none, some (au_l v), none, some (au_l 0), none] [] M 0 0
  have hl : ∀ (f : Nat) (x : Int) (c : Int), (I33 x) → (0 ≤ c) → (hlvF x (b - c).toNat = hlvF v b.toNat) → (max (b - c) 0) < (f : Int) → au_Go G (yX2_halved.cls, cX2_halved, 8, (some .long), au_rm 0 0 0, yX2_halved.name) (au_QM G (au_rm 0 0 0) (au_pure (au_l (hlvF v b.toNat)) M)) 6 [some (au_l v), none, some (au_l b), none, some (au_l x), none, some (au_l c), none] [] M 0 0 := by
    intro f
    induction f with
    | zero => intro x c hx hc he hf; exfalso; omega
    | succ f ih =>
      intro x c hx hc he hf
      have hx2 := tdiv2 x
      have hx3 : I33 (Int.tdiv x 2) := tdiv_bd hx
      have hx4 := hx3
      unfold I33 at hx hx4
      refine au_lload dX2_halved_6 rfl ?_
      refine au_lload_n dX2_halved_8 rfl ?_
      refine au_lcmp dX2_halved_9 ?_
      refine au_if_ge (tgt := 37) dX2_halved_10 (by decide) (fun c10 => ?_) (fun c10 => ?_)
      · have c10 := au_cmp_get c10
        refine au_lload dX2_halved_37 rfl ?_
        exact au_lret dX2_halved_39 rfl rfl (Nat.le_of_ble_eq_true rfl) (Nat.le_of_ble_eq_true rfl) (by first | exact au_ple (by rw [← he, show (b - c).toNat = 0 by omega]; rfl) rfl | exact au_ple (by rw [← he, show x = 0 by omega, hlvF_0]) rfl)
      · have c10 := au_cmp_gef c10
        refine au_lload dX2_halved_13 rfl ?_
        refine au_lconst dX2_halved_15 rfl ?_
        refine au_lcmp dX2_halved_16 ?_
        refine au_if_eq (tgt := 37) dX2_halved_17 (by decide) (fun c17 => ?_) (fun c17 => ?_)
        · have c17 := au_cmp_eqt c17
          refine au_lload dX2_halved_37 rfl ?_
          exact au_lret dX2_halved_39 rfl rfl (Nat.le_of_ble_eq_true rfl) (Nat.le_of_ble_eq_true rfl) (by first | exact au_ple (by rw [← he, show (b - c).toNat = 0 by omega]; rfl) rfl | exact au_ple (by rw [← he, show x = 0 by omega, hlvF_0]) rfl)
        · have c17 := au_cmp_eqf c17
          refine au_lload dX2_halved_20 rfl ?_
          refine au_ldc2 q1749 rfl dX2_halved_22 ?_
          show au_Go G _ _ 25 [some (au_l v), none, some (au_l b), none, some (au_l x), none, some (au_l c), none] [au_l 2, au_l x] M 0 0
          refine au_ldiv dX2_halved_25 (by omega) (by omega) (by omega) ?_
          refine au_lstore dX2_halved_26 (show 4 + 1 < 8 by decide) ?_
          show au_Go G _ _ 28 [some (au_l v), none, some (au_l b), none, some (au_l (Int.tdiv x 2)), none, some (au_l c), none] [] M 0 0
          refine au_lload dX2_halved_28 rfl ?_
          refine au_lconst dX2_halved_30 rfl ?_
          refine au_ladd dX2_halved_31 (by omega) (by omega) ?_
          refine au_lstore dX2_halved_32 (show 6 + 1 < 8 by decide) ?_
          show au_Go G _ _ 34 [some (au_l v), none, some (au_l b), none, some (au_l (Int.tdiv x 2)), none, some (au_l (c + 1)), none] [] M 0 0
          refine au_goto (tgt := 6) dX2_halved_34 (by decide) ?_
          have e5 : hlvF (Int.tdiv x 2) (b - (c + 1)).toNat = hlvF v b.toNat := by
            rw [← he, show (b - c).toNat = (b - (c + 1)).toNat + 1 by omega]
            simp only [hlvF]
            rw [if_neg (by omega)]
          exact ih _ _ hx3 (by omega) e5 (by omega)
  exact hl 2147483650 v 0 hv (by omega) (by rw [Int.sub_zero]) (by omega)
theorem kX2_ranksOf (G : au_G) (o : Int) (mi si hi sl : au_A → Int → Int) (r : au_A → Int → Option au_A) (nx : Nat) (hF : Fix r) (n : Int) (hN : mi MA 0 = n) (B : Int → Int) (hE : ∀ o, 0 ≤ o → o < 10 → mi MA (90 + o) = B o) (hB : Bs B n) : au_Ctr G yX2_ranksOf cX2_ranksOf 3 (some .long) 1 0 0 [au_r MO, au_l o] (mi, si, hi, sl, r, nx) (au_pure (au_l (rkV B n o)) (mi, si, hi, sl, r, nx)) := by
  refine au_of (by decide) (Nat.le_of_ble_eq_true rfl) ?_
  have hb0 := hB.2.1
  have hb1 := hB.1
  show au_Go G _ _ 0 [some (au_r MO), some (au_l o), none] [] (mi, si, hi, sl, r, nx) 0 0
  refine au_lload_n dX2_ranksOf_0 rfl ?_
  refine au_lconst dX2_ranksOf_1 rfl ?_
  refine au_lcmp dX2_ranksOf_2 ?_
  refine au_if_lt (tgt := 28) dX2_ranksOf_3 (by decide) (fun c3 => ?_) (fun c3 => ?_)
  · have c3 := au_cmp_ltt c3
    refine au_lconst dX2_ranksOf_28 rfl ?_
    exact au_lret dX2_ranksOf_29 rfl rfl (Nat.le_of_ble_eq_true rfl) (Nat.le_of_ble_eq_true rfl) (by first | exact au_ple (show _ = rkV B n o from (if_pos (by omega)).symm) rfl | exact au_ple (show _ = rkV B n o from (if_neg (by omega)).symm) rfl)
  · have c3 := au_cmp_ltf c3
    refine au_lload_n dX2_ranksOf_6 rfl ?_
    refine au_aload_n dX2_ranksOf_7 rfl ?_
    refine au_getf (C := RX2) (T := TX2) (N := 35) in_X2 (by decide) rfl 0 (by decide) rfl rfl q1359 rfl dX2_ranksOf_8 (v := au_r MA) (congrArg au_q (fx_MO_0 hF)) ?_
    refine au_iconst dX2_ranksOf_11 rfl rfl ?_
    refine au_iald dX2_ranksOf_12 rfl (by omega) (by show _ < ((4544 : Nat) : Int); omega) (v := au_i (n)) (congrArg au_i (hN)) ?_
    refine au_i2l dX2_ranksOf_13 ?_
    refine au_lcmp dX2_ranksOf_14 ?_
    refine au_if_ge (tgt := 28) dX2_ranksOf_15 (by decide) (fun c15 => ?_) (fun c15 => ?_)
    · have c15 := au_cmp_get c15
      refine au_lconst dX2_ranksOf_28 rfl ?_
      exact au_lret dX2_ranksOf_29 rfl rfl (Nat.le_of_ble_eq_true rfl) (Nat.le_of_ble_eq_true rfl) (by first | exact au_ple (show _ = rkV B n o from (if_pos (by omega)).symm) rfl | exact au_ple (show _ = rkV B n o from (if_neg (by omega)).symm) rfl)
    · have c15 := au_cmp_gef c15
      refine au_aload_n dX2_ranksOf_18 rfl ?_
      refine au_lload_n dX2_ranksOf_19 rfl ?_
      refine au_l2i dX2_ranksOf_20 (by omega) (by omega) ?_
      refine au_callVp (n := 1) (kX2_rankOf G o mi si hi sl r nx hF n hN B hE hB (by omega) (by omega)) (lw_V q1722 q1724 qs99 q134 q1725) rfl (by decide +kernel) (by decide) (T := TX2) (N := 35) rfl rfl rfl rfl (Nat.le_of_ble_eq_true rfl) (Nat.le_of_ble_eq_true rfl) (Nat.le_of_ble_eq_true rfl) (Nat.le_of_ble_eq_true rfl) (Nat.le_of_ble_eq_true rfl) dX2_ranksOf_21 ?_
      refine au_i2l dX2_ranksOf_24 ?_
      refine au_goto (tgt := 29) dX2_ranksOf_25 (by decide) ?_
      exact au_lret dX2_ranksOf_29 rfl rfl (Nat.le_of_ble_eq_true rfl) (Nat.le_of_ble_eq_true rfl) (by first | exact au_ple (show _ = rkV B n o from (if_pos (by omega)).symm) rfl | exact au_ple (show _ = rkV B n o from (if_neg (by omega)).symm) rfl)
