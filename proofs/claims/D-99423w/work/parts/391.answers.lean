/-! CHAINS AND LISTS OF ASKINGS ANSWER; all of it together (printed by tools/m391.py) -/
set_option maxRecDepth 100000
set_option maxHeartbeats 4000000
theorem kX6_of (G : au_G) (d p n : Nat) (F : Nat → au_F) (mi si hi sl : au_A → Int → Int) (r : au_A → Int → Option au_A) (nx : Nat) (hp : 1126 ≤ p) (hIC : ICm mi) (nm : Int → Int) (hn : ∀ k, 0 ≤ k → k < 19 → I32 (nm k)) (hSC : ∀ s g, au_X r hi d s g → sk s → au_SC G s (d + 3) (mi, si, hi, sl, r, nx) (g nm)) (hAC : ∀ s g, au_X r hi d s g → ak s → au_AC G s (d + 3) (mi, si, hi, sl, r, nx) (g nm)) (hC : ChAt r hi (au_X r hi d) p n F) : au_Ctr G yX6_of cX6_of 10 (some .long) (d + 4) 0 0 [au_r (p, 0, 6), au_r XNames] (mi, si, hi, sl, r, nx) (au_pure (au_l (F n nm)) (mi, si, hi, sl, r, nx)) := by
  refine au_of (by decide) (Nat.le_of_ble_eq_true rfl) ?_
  obtain ⟨s, m, g, mq, mc, gq, gc, a1, a2, a3, a4, a5_, a6, a7_, a8⟩ := hC
  have hlm := a6.2.2.2
  have hfb : ∀ j, j ≤ n → I33 (F j nm) := fun j hj => by
    match j, hj with
    | 0, _ => exact (au_X.bd hn _ _ _ a3).1 a2
    | j + 1, hj =>
      obtain ⟨t, b, sg, -, -, -, -, -, -, b7⟩ := a8 j (by omega)
      rw [b7]; exact twoF_bd _ _ _
  have hcs := hSC _ _ a3 a2
  show au_Go G _ _ 0 [some (au_r (p, 0, 6)), some (au_r XNames), none, none, none, none, none, none, none, none] [] (mi, si, hi, sl, r, nx) 0 0
  refine au_aload_n dX6_of_0 rfl ?_
  refine au_getf (C := RX6) (T := TX6) (N := 3) in_X6 (show 6 < 40 by decide) rfl 0 (by decide) rfl rfl q801 rfl dX6_of_1 (v := au_r s) (congrArg au_q (a1)) ?_
  refine au_aload_n dX6_of_4 rfl ?_
  refine hcs _ _ _ _ _ _ _ _ _ q941 dX6_of_5 (Nat.le_of_ble_eq_true rfl) (by show _ ≤ d + 4; omega) (by show _ ≤ 80 * (d + 4); omega) (Nat.le_of_ble_eq_true rfl) (Nat.le_of_ble_eq_true rfl) ?_
  show au_Go G _ _ 10 [some (au_r (p, 0, 6)), some (au_r XNames), none, none, none, none, none, none, none, none] [au_l (F 0 nm)] (mi, si, hi, sl, r, nx) 0 0
  refine au_lstore_n dX6_of_10 (show 2 + 1 < 10 by decide) ?_
  show au_Go G _ _ 11 [some (au_r (p, 0, 6)), some (au_r XNames), some (au_l (F 0 nm)), none, none, none, none, none, none, none] [] (mi, si, hi, sl, r, nx) 0 0
  refine au_iconst dX6_of_11 rfl rfl ?_
  refine au_istore dX6_of_12 (show 4 < 10 by decide) ?_
  show au_Go G _ _ 14 [some (au_r (p, 0, 6)), some (au_r XNames), some (au_l (F 0 nm)), none, some (au_i 0), none, none, none, none, none] [] (mi, si, hi, sl, r, nx) 0 0
  have hl : ∀ (f : Nat) (j : Nat) (a5 a7 a8_ : Option au_V), j ≤ n → n - j < f → au_Go G (yX6_of.cls, cX6_of, 10, (some .long), au_rm (d + 4) 0 0, yX6_of.name) (au_QM G (au_rm (d + 4) 0 0) (au_pure (au_l (F n nm)) (mi, si, hi, sl, r, nx))) 14 [some (au_r (p, 0, 6)), some (au_r XNames), some (au_l (F j nm)), none, some (au_i ((j : Int))), a5, none, a7, a8_, none] [] (mi, si, hi, sl, r, nx) 0 0 := by
    intro f
    induction f with
    | zero => intro j a5 a7 a8_ hj hf; exfalso; omega
    | succ f ih =>
      intro j a5 a7 a8_ hj hf
      have hf1 := hfb j hj
      refine au_iload dX6_of_14 rfl ?_
      refine au_aload_n dX6_of_16 rfl ?_
      refine au_getf (C := RX6) (T := TX6) (N := 3) in_X6 (show 6 < 40 by decide) rfl 1 (by decide) rfl rfl q802 rfl dX6_of_17 (v := au_r (m, 0, 17)) (congrArg au_q (a4)) ?_
      refine au_callVp (n := 0) (kJ3_size G m mq mc n mi si hi sl r nx a6) (lw_V q1019 q689 q690 q139 q691) rfl (by decide +kernel) (show 17 < 40 by decide) (T := TJ3) (N := 3) rfl rfl rfl rfl (Nat.le_of_ble_eq_true rfl) (by show _ ≤ d + 4; omega) (by show _ ≤ 80 * (d + 4); omega) (Nat.le_of_ble_eq_true rfl) (Nat.le_of_ble_eq_true rfl) dX6_of_20 ?_
      refine au_icmp_ge (tgt := 143) dX6_of_23 (by decide) (fun c23 => ?_) (fun c23 => ?_)
      · refine au_lload_n dX6_of_143 rfl ?_
        exact au_lret dX6_of_144 rfl rfl (Nat.le_of_ble_eq_true rfl) (Nat.le_of_ble_eq_true rfl) (by exact au_ple (by rw [show j = n by omega]) rfl)
      · obtain ⟨t, b, sg, b1, b2, b3, b4, b5, b6, b7⟩ := a8 j (by omega)
        have hct := hSC _ _ b6 b5
        have hb1 := (au_X.bd hn _ _ _ b6).1 b5
        have hmu := mul_bd hf1 hb1
        have htd := tdiv_bd (b := b nm) hf1
        have hf2 := hf1
        have hb2 := hb1
        unfold I33 at hf2 hb2 htd
        refine au_aload_n dX6_of_26 rfl ?_
        refine au_getf (C := RX6) (T := TX6) (N := 3) in_X6 (show 6 < 40 by decide) rfl 1 (by decide) rfl rfl q802 rfl dX6_of_27 (v := au_r (m, 0, 17)) (congrArg au_q (a4)) ?_
        refine au_iload dX6_of_30 rfl ?_
        refine au_callVp (n := 1) (kJ3_get G m mq mc n (j : Int) t mi si hi sl r nx a6 (by omega) (by omega) b1) (lw_V q1020 q693 q694 q139 q695) rfl (by decide +kernel) (show 17 < 40 by decide) (T := TJ3) (N := 3) rfl rfl rfl rfl (Nat.le_of_ble_eq_true rfl) (by show _ ≤ d + 4; omega) (by show _ ≤ 80 * (d + 4); omega) (Nat.le_of_ble_eq_true rfl) (Nat.le_of_ble_eq_true rfl) dX6_of_32 ?_
        refine au_castSum b5 q1021 dX6_of_35 ?_
        refine au_aload_n dX6_of_38 rfl ?_
        refine hct _ _ _ _ _ _ _ _ _ q941 dX6_of_39 (Nat.le_of_ble_eq_true rfl) (by show _ ≤ d + 4; omega) (by show _ ≤ 80 * (d + 4); omega) (Nat.le_of_ble_eq_true rfl) (Nat.le_of_ble_eq_true rfl) ?_
        show au_Go G _ _ 44 [some (au_r (p, 0, 6)), some (au_r XNames), some (au_l (F j nm)), none, some (au_i (j : Int)), a5, none, a7, a8_, none] [au_l (b nm)] (mi, si, hi, sl, r, nx) 0 0
        refine au_lstore dX6_of_44 (show 5 + 1 < 10 by decide) ?_
        show au_Go G _ _ 46 [some (au_r (p, 0, 6)), some (au_r XNames), some (au_l (F j nm)), none, some (au_i (j : Int)), some (au_l (b nm)), none, a7, a8_, none] [] (mi, si, hi, sl, r, nx) 0 0
        refine au_aload_n dX6_of_46 rfl ?_
        refine au_getf (C := RX6) (T := TX6) (N := 3) in_X6 (show 6 < 40 by decide) rfl 2 (by decide) rfl rfl q803 rfl dX6_of_47 (v := au_r (g, 0, 17)) (congrArg au_q a5_) ?_
        refine au_iload dX6_of_50 rfl ?_
        refine au_callVp (n := 1) (kJ3_get G g gq gc n (j : Int) (ic sg) mi si hi sl r nx a7_ (by omega) (by omega) b2) (lw_V q1020 q693 q694 q139 q695) rfl (by decide +kernel) (show 17 < 40 by decide) (T := TJ3) (N := 3) rfl rfl rfl rfl (Nat.le_of_ble_eq_true rfl) (by show _ ≤ d + 4; omega) (by show _ ≤ 80 * (d + 4); omega) (Nat.le_of_ble_eq_true rfl) (Nat.le_of_ble_eq_true rfl) dX6_of_52 ?_
        refine au_castK (ic_ok b3 b4) (au_old.oic b3 b4) rfl q1022 dX6_of_55 ?_
        refine au_callKp (n := 0) (kJ15_intValue G sg mi si hi sl r nx hIC b3 b4) (lw_V q1023 q1024 q1025 q162 q1026) rfl (by decide +kernel) (ic_ok b3 b4) (au_old.oic b3 b4) rfl rfl rfl (Nat.le_of_ble_eq_true rfl) (by show _ ≤ d + 4; omega) (by show _ ≤ 80 * (d + 4); omega) (Nat.le_of_ble_eq_true rfl) (Nat.le_of_ble_eq_true rfl) dX6_of_58 ?_
        refine au_istore dX6_of_61 (show 7 < 10 by decide) ?_
        show au_Go G _ _ 63 [some (au_r (p, 0, 6)), some (au_r XNames), some (au_l (F j nm)), none, some (au_i (j : Int)), some (au_l (b nm)), none, some (au_i sg), a8_, none] [] (mi, si, hi, sl, r, nx) 0 0
        refine au_iload dX6_of_63 rfl ?_
        refine au_bipush dX6_of_65 rfl rfl ?_
        refine au_icmp_ne (tgt := 77) dX6_of_67 (by decide) (fun c67 => ?_) (fun c67 => ?_)
        · refine au_iload dX6_of_77 rfl ?_
          refine au_bipush dX6_of_79 rfl rfl ?_
          refine au_icmp_ne (tgt := 91) dX6_of_81 (by decide) (fun c81 => ?_) (fun c81 => ?_)
          · refine au_iload dX6_of_91 rfl ?_
            refine au_bipush dX6_of_93 rfl rfl ?_
            refine au_icmp_ne (tgt := 105) dX6_of_95 (by decide) (fun c95 => ?_) (fun c95 => ?_)
            · refine au_lload dX6_of_105 rfl ?_
              refine au_lconst dX6_of_107 rfl ?_
              refine au_lcmp dX6_of_108 ?_
              refine au_if_ne (tgt := 116) dX6_of_109 (by decide) (fun c109 => ?_) (fun c109 => ?_)
              · have c109 := au_cmp_net c109
                refine au_lload_n dX6_of_116 rfl ?_
                refine au_lload dX6_of_117 rfl ?_
                refine au_ldiv dX6_of_119 (by omega) (by omega) (by omega) ?_
                refine au_lstore dX6_of_120 (show 8 + 1 < 10 by decide) ?_
                show au_Go G _ _ 122 [some (au_r (p, 0, 6)), some (au_r XNames), some (au_l (F j nm)), none, some (au_i (j : Int)), some (au_l (b nm)), none, some (au_i sg), some (au_l (Int.tdiv (F j nm) (b nm))), none] [] (mi, si, hi, sl, r, nx) 0 0
                refine au_ldc2 q1027 rfl dX6_of_122 ?_
                show au_Go G _ _ 125 [some (au_r (p, 0, 6)), some (au_r XNames), some (au_l (F j nm)), none, some (au_i (j : Int)), some (au_l (b nm)), none, some (au_i sg), some (au_l (Int.tdiv (F j nm) (b nm))), none] [au_l (-1000000)] (mi, si, hi, sl, r, nx) 0 0
                refine au_ldc2 q1028 rfl dX6_of_125 ?_
                show au_Go G _ _ 128 [some (au_r (p, 0, 6)), some (au_r XNames), some (au_l (F j nm)), none, some (au_i (j : Int)), some (au_l (b nm)), none, some (au_i sg), some (au_l (Int.tdiv (F j nm) (b nm))), none] [au_l 1000000, au_l (-1000000)] (mi, si, hi, sl, r, nx) 0 0
                refine au_lload dX6_of_128 rfl ?_
                refine au_lmin q1029 q1030 q144 q1031 rfl rfl (Nat.le_of_ble_eq_true rfl) (Nat.le_of_ble_eq_true rfl) (Nat.le_of_ble_eq_true rfl) (Nat.le_of_ble_eq_true rfl) (Nat.le_of_ble_eq_true rfl) dX6_of_130 ?_
                show au_Go G _ _ 133 [some (au_r (p, 0, 6)), some (au_r XNames), some (au_l (F j nm)), none, some (au_i (j : Int)), some (au_l (b nm)), none, some (au_i sg), some (au_l (Int.tdiv (F j nm) (b nm))), none] [au_l (min 1000000 (Int.tdiv (F j nm) (b nm))), au_l (-1000000)] (mi, si, hi, sl, r, nx) 0 0
                refine au_lmax q1032 q1033 q144 q1034 rfl rfl (Nat.le_of_ble_eq_true rfl) (Nat.le_of_ble_eq_true rfl) (Nat.le_of_ble_eq_true rfl) (Nat.le_of_ble_eq_true rfl) (Nat.le_of_ble_eq_true rfl) dX6_of_133 ?_
                show au_Go G _ _ 136 [some (au_r (p, 0, 6)), some (au_r XNames), some (au_l (F j nm)), none, some (au_i (j : Int)), some (au_l (b nm)), none, some (au_i sg), some (au_l (Int.tdiv (F j nm) (b nm))), none] [au_l (max (-1000000) (min 1000000 (Int.tdiv (F j nm) (b nm))))] (mi, si, hi, sl, r, nx) 0 0
                refine au_lstore_n dX6_of_136 (show 2 + 1 < 10 by decide) ?_
                show au_Go G _ _ 137 [some (au_r (p, 0, 6)), some (au_r XNames), some (au_l (max (-1000000) (min 1000000 (Int.tdiv (F j nm) (b nm))))), none, some (au_i (j : Int)), some (au_l (b nm)), none, some (au_i sg), some (au_l (Int.tdiv (F j nm) (b nm))), none] [] (mi, si, hi, sl, r, nx) 0 0
                refine au_iinc dX6_of_137 rfl (show 4 < 10 by decide) (by omega) (by omega) (by decide) (by decide) ?_
                show au_Go G _ _ 140 [some (au_r (p, 0, 6)), some (au_r XNames), some (au_l (max (-1000000) (min 1000000 (Int.tdiv (F j nm) (b nm))))), none, some (au_i ((j : Int) + 1)), some (au_l (b nm)), none, some (au_i sg), some (au_l (Int.tdiv (F j nm) (b nm))), none] [] (mi, si, hi, sl, r, nx) 0 0
                refine au_goto (tgt := 14) dX6_of_140 (by decide) ?_
                have e1 : ∀ z : Int, z = F (j + 1) nm → ∀ x5 x7 x8, au_Go G (yX6_of.cls, cX6_of, 10, (some .long), au_rm (d + 4) 0 0, yX6_of.name) (au_QM G (au_rm (d + 4) 0 0) (au_pure (au_l (F n nm)) (mi, si, hi, sl, r, nx))) 14 [some (au_r (p, 0, 6)), some (au_r XNames), some (au_l (z)), none, some (au_i ((j : Int) + 1)), x5, none, x7, x8, none] [] (mi, si, hi, sl, r, nx) 0 0 := fun z hz x5 x7 x8 => by rw [hz]; exact ih (j + 1) x5 x7 x8 (by omega) (by omega)
                exact e1 _ (by
                  rw [b7]
                  unfold twoF
                  first
                  | rw [if_pos (by omega)]
                  | rw [if_neg (by omega), if_pos (by omega)]
                  | rw [if_neg (by omega), if_neg (by omega), if_pos (by omega)]
                  | (rw [if_neg (by omega), if_neg (by omega), if_neg (by omega), if_pos (by omega)]; try rfl)
                  | rw [if_neg (by omega), if_neg (by omega), if_neg (by omega), if_neg (by omega)]) _ _ _
              · have c109 := au_cmp_nef c109
                refine au_lconst dX6_of_112 rfl ?_
                refine au_goto (tgt := 120) dX6_of_113 (by decide) ?_
                refine au_lstore dX6_of_120 (show 8 + 1 < 10 by decide) ?_
                show au_Go G _ _ 122 [some (au_r (p, 0, 6)), some (au_r XNames), some (au_l (F j nm)), none, some (au_i (j : Int)), some (au_l (b nm)), none, some (au_i sg), some (au_l 0), none] [] (mi, si, hi, sl, r, nx) 0 0
                refine au_ldc2 q1027 rfl dX6_of_122 ?_
                show au_Go G _ _ 125 [some (au_r (p, 0, 6)), some (au_r XNames), some (au_l (F j nm)), none, some (au_i (j : Int)), some (au_l (b nm)), none, some (au_i sg), some (au_l 0), none] [au_l (-1000000)] (mi, si, hi, sl, r, nx) 0 0
                refine au_ldc2 q1028 rfl dX6_of_125 ?_
                show au_Go G _ _ 128 [some (au_r (p, 0, 6)), some (au_r XNames), some (au_l (F j nm)), none, some (au_i (j : Int)), some (au_l (b nm)), none, some (au_i sg), some (au_l 0), none] [au_l 1000000, au_l (-1000000)] (mi, si, hi, sl, r, nx) 0 0
                refine au_lload dX6_of_128 rfl ?_
                refine au_lmin q1029 q1030 q144 q1031 rfl rfl (Nat.le_of_ble_eq_true rfl) (Nat.le_of_ble_eq_true rfl) (Nat.le_of_ble_eq_true rfl) (Nat.le_of_ble_eq_true rfl) (Nat.le_of_ble_eq_true rfl) dX6_of_130 ?_
                show au_Go G _ _ 133 [some (au_r (p, 0, 6)), some (au_r XNames), some (au_l (F j nm)), none, some (au_i (j : Int)), some (au_l (b nm)), none, some (au_i sg), some (au_l 0), none] [au_l (min 1000000 0), au_l (-1000000)] (mi, si, hi, sl, r, nx) 0 0
                refine au_lmax q1032 q1033 q144 q1034 rfl rfl (Nat.le_of_ble_eq_true rfl) (Nat.le_of_ble_eq_true rfl) (Nat.le_of_ble_eq_true rfl) (Nat.le_of_ble_eq_true rfl) (Nat.le_of_ble_eq_true rfl) dX6_of_133 ?_
                show au_Go G _ _ 136 [some (au_r (p, 0, 6)), some (au_r XNames), some (au_l (F j nm)), none, some (au_i (j : Int)), some (au_l (b nm)), none, some (au_i sg), some (au_l 0), none] [au_l (max (-1000000) (min 1000000 0))] (mi, si, hi, sl, r, nx) 0 0
                refine au_lstore_n dX6_of_136 (show 2 + 1 < 10 by decide) ?_
                show au_Go G _ _ 137 [some (au_r (p, 0, 6)), some (au_r XNames), some (au_l (max (-1000000) (min 1000000 0))), none, some (au_i (j : Int)), some (au_l (b nm)), none, some (au_i sg), some (au_l 0), none] [] (mi, si, hi, sl, r, nx) 0 0
                refine au_iinc dX6_of_137 rfl (show 4 < 10 by decide) (by omega) (by omega) (by decide) (by decide) ?_
                show au_Go G _ _ 140 [some (au_r (p, 0, 6)), some (au_r XNames), some (au_l (max (-1000000) (min 1000000 0))), none, some (au_i ((j : Int) + 1)), some (au_l (b nm)), none, some (au_i sg), some (au_l 0), none] [] (mi, si, hi, sl, r, nx) 0 0
                refine au_goto (tgt := 14) dX6_of_140 (by decide) ?_
                have e1 : ∀ z : Int, z = F (j + 1) nm → ∀ x5 x7 x8, au_Go G (yX6_of.cls, cX6_of, 10, (some .long), au_rm (d + 4) 0 0, yX6_of.name) (au_QM G (au_rm (d + 4) 0 0) (au_pure (au_l (F n nm)) (mi, si, hi, sl, r, nx))) 14 [some (au_r (p, 0, 6)), some (au_r XNames), some (au_l (z)), none, some (au_i ((j : Int) + 1)), x5, none, x7, x8, none] [] (mi, si, hi, sl, r, nx) 0 0 := fun z hz x5 x7 x8 => by rw [hz]; exact ih (j + 1) x5 x7 x8 (by omega) (by omega)
                exact e1 _ (by
                  rw [b7]
                  unfold twoF
                  first
                  | rw [if_pos (by omega)]
                  | rw [if_neg (by omega), if_pos (by omega)]
                  | rw [if_neg (by omega), if_neg (by omega), if_pos (by omega)]
                  | (rw [if_neg (by omega), if_neg (by omega), if_neg (by omega), if_pos (by omega)]; try rfl)
                  | rw [if_neg (by omega), if_neg (by omega), if_neg (by omega), if_neg (by omega)]) _ _ _
            · refine au_lload_n dX6_of_98 rfl ?_
              refine au_lload dX6_of_99 rfl ?_
              refine au_lmul dX6_of_101 (by omega) (by omega) ?_
              refine au_goto (tgt := 120) dX6_of_102 (by decide) ?_
              refine au_lstore dX6_of_120 (show 8 + 1 < 10 by decide) ?_
              show au_Go G _ _ 122 [some (au_r (p, 0, 6)), some (au_r XNames), some (au_l (F j nm)), none, some (au_i (j : Int)), some (au_l (b nm)), none, some (au_i sg), some (au_l ((F j nm) * (b nm))), none] [] (mi, si, hi, sl, r, nx) 0 0
              refine au_ldc2 q1027 rfl dX6_of_122 ?_
              show au_Go G _ _ 125 [some (au_r (p, 0, 6)), some (au_r XNames), some (au_l (F j nm)), none, some (au_i (j : Int)), some (au_l (b nm)), none, some (au_i sg), some (au_l ((F j nm) * (b nm))), none] [au_l (-1000000)] (mi, si, hi, sl, r, nx) 0 0
              refine au_ldc2 q1028 rfl dX6_of_125 ?_
              show au_Go G _ _ 128 [some (au_r (p, 0, 6)), some (au_r XNames), some (au_l (F j nm)), none, some (au_i (j : Int)), some (au_l (b nm)), none, some (au_i sg), some (au_l ((F j nm) * (b nm))), none] [au_l 1000000, au_l (-1000000)] (mi, si, hi, sl, r, nx) 0 0
              refine au_lload dX6_of_128 rfl ?_
              refine au_lmin q1029 q1030 q144 q1031 rfl rfl (Nat.le_of_ble_eq_true rfl) (Nat.le_of_ble_eq_true rfl) (Nat.le_of_ble_eq_true rfl) (Nat.le_of_ble_eq_true rfl) (Nat.le_of_ble_eq_true rfl) dX6_of_130 ?_
              show au_Go G _ _ 133 [some (au_r (p, 0, 6)), some (au_r XNames), some (au_l (F j nm)), none, some (au_i (j : Int)), some (au_l (b nm)), none, some (au_i sg), some (au_l ((F j nm) * (b nm))), none] [au_l (min 1000000 ((F j nm) * (b nm))), au_l (-1000000)] (mi, si, hi, sl, r, nx) 0 0
              refine au_lmax q1032 q1033 q144 q1034 rfl rfl (Nat.le_of_ble_eq_true rfl) (Nat.le_of_ble_eq_true rfl) (Nat.le_of_ble_eq_true rfl) (Nat.le_of_ble_eq_true rfl) (Nat.le_of_ble_eq_true rfl) dX6_of_133 ?_
              show au_Go G _ _ 136 [some (au_r (p, 0, 6)), some (au_r XNames), some (au_l (F j nm)), none, some (au_i (j : Int)), some (au_l (b nm)), none, some (au_i sg), some (au_l ((F j nm) * (b nm))), none] [au_l (max (-1000000) (min 1000000 ((F j nm) * (b nm))))] (mi, si, hi, sl, r, nx) 0 0
              refine au_lstore_n dX6_of_136 (show 2 + 1 < 10 by decide) ?_
              show au_Go G _ _ 137 [some (au_r (p, 0, 6)), some (au_r XNames), some (au_l (max (-1000000) (min 1000000 ((F j nm) * (b nm))))), none, some (au_i (j : Int)), some (au_l (b nm)), none, some (au_i sg), some (au_l ((F j nm) * (b nm))), none] [] (mi, si, hi, sl, r, nx) 0 0
              refine au_iinc dX6_of_137 rfl (show 4 < 10 by decide) (by omega) (by omega) (by decide) (by decide) ?_
              show au_Go G _ _ 140 [some (au_r (p, 0, 6)), some (au_r XNames), some (au_l (max (-1000000) (min 1000000 ((F j nm) * (b nm))))), none, some (au_i ((j : Int) + 1)), some (au_l (b nm)), none, some (au_i sg), some (au_l ((F j nm) * (b nm))), none] [] (mi, si, hi, sl, r, nx) 0 0
              refine au_goto (tgt := 14) dX6_of_140 (by decide) ?_
              have e1 : ∀ z : Int, z = F (j + 1) nm → ∀ x5 x7 x8, au_Go G (yX6_of.cls, cX6_of, 10, (some .long), au_rm (d + 4) 0 0, yX6_of.name) (au_QM G (au_rm (d + 4) 0 0) (au_pure (au_l (F n nm)) (mi, si, hi, sl, r, nx))) 14 [some (au_r (p, 0, 6)), some (au_r XNames), some (au_l (z)), none, some (au_i ((j : Int) + 1)), x5, none, x7, x8, none] [] (mi, si, hi, sl, r, nx) 0 0 := fun z hz x5 x7 x8 => by rw [hz]; exact ih (j + 1) x5 x7 x8 (by omega) (by omega)
              exact e1 _ (by
                rw [b7]
                unfold twoF
                first
                | rw [if_pos (by omega)]
                | rw [if_neg (by omega), if_pos (by omega)]
                | rw [if_neg (by omega), if_neg (by omega), if_pos (by omega)]
                | (rw [if_neg (by omega), if_neg (by omega), if_neg (by omega), if_pos (by omega)]; try rfl)
                | rw [if_neg (by omega), if_neg (by omega), if_neg (by omega), if_neg (by omega)]) _ _ _
          · refine au_lload_n dX6_of_84 rfl ?_
            refine au_lload dX6_of_85 rfl ?_
            refine au_lsub dX6_of_87 (by omega) (by omega) ?_
            refine au_goto (tgt := 120) dX6_of_88 (by decide) ?_
            refine au_lstore dX6_of_120 (show 8 + 1 < 10 by decide) ?_
            show au_Go G _ _ 122 [some (au_r (p, 0, 6)), some (au_r XNames), some (au_l (F j nm)), none, some (au_i (j : Int)), some (au_l (b nm)), none, some (au_i sg), some (au_l ((F j nm) - (b nm))), none] [] (mi, si, hi, sl, r, nx) 0 0
            refine au_ldc2 q1027 rfl dX6_of_122 ?_
            show au_Go G _ _ 125 [some (au_r (p, 0, 6)), some (au_r XNames), some (au_l (F j nm)), none, some (au_i (j : Int)), some (au_l (b nm)), none, some (au_i sg), some (au_l ((F j nm) - (b nm))), none] [au_l (-1000000)] (mi, si, hi, sl, r, nx) 0 0
            refine au_ldc2 q1028 rfl dX6_of_125 ?_
            show au_Go G _ _ 128 [some (au_r (p, 0, 6)), some (au_r XNames), some (au_l (F j nm)), none, some (au_i (j : Int)), some (au_l (b nm)), none, some (au_i sg), some (au_l ((F j nm) - (b nm))), none] [au_l 1000000, au_l (-1000000)] (mi, si, hi, sl, r, nx) 0 0
            refine au_lload dX6_of_128 rfl ?_
            refine au_lmin q1029 q1030 q144 q1031 rfl rfl (Nat.le_of_ble_eq_true rfl) (Nat.le_of_ble_eq_true rfl) (Nat.le_of_ble_eq_true rfl) (Nat.le_of_ble_eq_true rfl) (Nat.le_of_ble_eq_true rfl) dX6_of_130 ?_
            show au_Go G _ _ 133 [some (au_r (p, 0, 6)), some (au_r XNames), some (au_l (F j nm)), none, some (au_i (j : Int)), some (au_l (b nm)), none, some (au_i sg), some (au_l ((F j nm) - (b nm))), none] [au_l (min 1000000 ((F j nm) - (b nm))), au_l (-1000000)] (mi, si, hi, sl, r, nx) 0 0
            refine au_lmax q1032 q1033 q144 q1034 rfl rfl (Nat.le_of_ble_eq_true rfl) (Nat.le_of_ble_eq_true rfl) (Nat.le_of_ble_eq_true rfl) (Nat.le_of_ble_eq_true rfl) (Nat.le_of_ble_eq_true rfl) dX6_of_133 ?_
            show au_Go G _ _ 136 [some (au_r (p, 0, 6)), some (au_r XNames), some (au_l (F j nm)), none, some (au_i (j : Int)), some (au_l (b nm)), none, some (au_i sg), some (au_l ((F j nm) - (b nm))), none] [au_l (max (-1000000) (min 1000000 ((F j nm) - (b nm))))] (mi, si, hi, sl, r, nx) 0 0
            refine au_lstore_n dX6_of_136 (show 2 + 1 < 10 by decide) ?_
            show au_Go G _ _ 137 [some (au_r (p, 0, 6)), some (au_r XNames), some (au_l (max (-1000000) (min 1000000 ((F j nm) - (b nm))))), none, some (au_i (j : Int)), some (au_l (b nm)), none, some (au_i sg), some (au_l ((F j nm) - (b nm))), none] [] (mi, si, hi, sl, r, nx) 0 0
            refine au_iinc dX6_of_137 rfl (show 4 < 10 by decide) (by omega) (by omega) (by decide) (by decide) ?_
            show au_Go G _ _ 140 [some (au_r (p, 0, 6)), some (au_r XNames), some (au_l (max (-1000000) (min 1000000 ((F j nm) - (b nm))))), none, some (au_i ((j : Int) + 1)), some (au_l (b nm)), none, some (au_i sg), some (au_l ((F j nm) - (b nm))), none] [] (mi, si, hi, sl, r, nx) 0 0
            refine au_goto (tgt := 14) dX6_of_140 (by decide) ?_
            have e1 : ∀ z : Int, z = F (j + 1) nm → ∀ x5 x7 x8, au_Go G (yX6_of.cls, cX6_of, 10, (some .long), au_rm (d + 4) 0 0, yX6_of.name) (au_QM G (au_rm (d + 4) 0 0) (au_pure (au_l (F n nm)) (mi, si, hi, sl, r, nx))) 14 [some (au_r (p, 0, 6)), some (au_r XNames), some (au_l (z)), none, some (au_i ((j : Int) + 1)), x5, none, x7, x8, none] [] (mi, si, hi, sl, r, nx) 0 0 := fun z hz x5 x7 x8 => by rw [hz]; exact ih (j + 1) x5 x7 x8 (by omega) (by omega)
            exact e1 _ (by
              rw [b7]
              unfold twoF
              first
              | rw [if_pos (by omega)]
              | rw [if_neg (by omega), if_pos (by omega)]
              | rw [if_neg (by omega), if_neg (by omega), if_pos (by omega)]
              | (rw [if_neg (by omega), if_neg (by omega), if_neg (by omega), if_pos (by omega)]; try rfl)
              | rw [if_neg (by omega), if_neg (by omega), if_neg (by omega), if_neg (by omega)]) _ _ _
        · refine au_lload_n dX6_of_70 rfl ?_
          refine au_lload dX6_of_71 rfl ?_
          refine au_ladd dX6_of_73 (by omega) (by omega) ?_
          refine au_goto (tgt := 120) dX6_of_74 (by decide) ?_
          refine au_lstore dX6_of_120 (show 8 + 1 < 10 by decide) ?_
          show au_Go G _ _ 122 [some (au_r (p, 0, 6)), some (au_r XNames), some (au_l (F j nm)), none, some (au_i (j : Int)), some (au_l (b nm)), none, some (au_i sg), some (au_l ((F j nm) + (b nm))), none] [] (mi, si, hi, sl, r, nx) 0 0
          refine au_ldc2 q1027 rfl dX6_of_122 ?_
          show au_Go G _ _ 125 [some (au_r (p, 0, 6)), some (au_r XNames), some (au_l (F j nm)), none, some (au_i (j : Int)), some (au_l (b nm)), none, some (au_i sg), some (au_l ((F j nm) + (b nm))), none] [au_l (-1000000)] (mi, si, hi, sl, r, nx) 0 0
          refine au_ldc2 q1028 rfl dX6_of_125 ?_
          show au_Go G _ _ 128 [some (au_r (p, 0, 6)), some (au_r XNames), some (au_l (F j nm)), none, some (au_i (j : Int)), some (au_l (b nm)), none, some (au_i sg), some (au_l ((F j nm) + (b nm))), none] [au_l 1000000, au_l (-1000000)] (mi, si, hi, sl, r, nx) 0 0
          refine au_lload dX6_of_128 rfl ?_
          refine au_lmin q1029 q1030 q144 q1031 rfl rfl (Nat.le_of_ble_eq_true rfl) (Nat.le_of_ble_eq_true rfl) (Nat.le_of_ble_eq_true rfl) (Nat.le_of_ble_eq_true rfl) (Nat.le_of_ble_eq_true rfl) dX6_of_130 ?_
          show au_Go G _ _ 133 [some (au_r (p, 0, 6)), some (au_r XNames), some (au_l (F j nm)), none, some (au_i (j : Int)), some (au_l (b nm)), none, some (au_i sg), some (au_l ((F j nm) + (b nm))), none] [au_l (min 1000000 ((F j nm) + (b nm))), au_l (-1000000)] (mi, si, hi, sl, r, nx) 0 0
          refine au_lmax q1032 q1033 q144 q1034 rfl rfl (Nat.le_of_ble_eq_true rfl) (Nat.le_of_ble_eq_true rfl) (Nat.le_of_ble_eq_true rfl) (Nat.le_of_ble_eq_true rfl) (Nat.le_of_ble_eq_true rfl) dX6_of_133 ?_
          show au_Go G _ _ 136 [some (au_r (p, 0, 6)), some (au_r XNames), some (au_l (F j nm)), none, some (au_i (j : Int)), some (au_l (b nm)), none, some (au_i sg), some (au_l ((F j nm) + (b nm))), none] [au_l (max (-1000000) (min 1000000 ((F j nm) + (b nm))))] (mi, si, hi, sl, r, nx) 0 0
          refine au_lstore_n dX6_of_136 (show 2 + 1 < 10 by decide) ?_
          show au_Go G _ _ 137 [some (au_r (p, 0, 6)), some (au_r XNames), some (au_l (max (-1000000) (min 1000000 ((F j nm) + (b nm))))), none, some (au_i (j : Int)), some (au_l (b nm)), none, some (au_i sg), some (au_l ((F j nm) + (b nm))), none] [] (mi, si, hi, sl, r, nx) 0 0
          refine au_iinc dX6_of_137 rfl (show 4 < 10 by decide) (by omega) (by omega) (by decide) (by decide) ?_
          show au_Go G _ _ 140 [some (au_r (p, 0, 6)), some (au_r XNames), some (au_l (max (-1000000) (min 1000000 ((F j nm) + (b nm))))), none, some (au_i ((j : Int) + 1)), some (au_l (b nm)), none, some (au_i sg), some (au_l ((F j nm) + (b nm))), none] [] (mi, si, hi, sl, r, nx) 0 0
          refine au_goto (tgt := 14) dX6_of_140 (by decide) ?_
          have e1 : ∀ z : Int, z = F (j + 1) nm → ∀ x5 x7 x8, au_Go G (yX6_of.cls, cX6_of, 10, (some .long), au_rm (d + 4) 0 0, yX6_of.name) (au_QM G (au_rm (d + 4) 0 0) (au_pure (au_l (F n nm)) (mi, si, hi, sl, r, nx))) 14 [some (au_r (p, 0, 6)), some (au_r XNames), some (au_l (z)), none, some (au_i ((j : Int) + 1)), x5, none, x7, x8, none] [] (mi, si, hi, sl, r, nx) 0 0 := fun z hz x5 x7 x8 => by rw [hz]; exact ih (j + 1) x5 x7 x8 (by omega) (by omega)
          exact e1 _ (by
            rw [b7]
            unfold twoF
            first
            | rw [if_pos (by omega)]
            | rw [if_neg (by omega), if_pos (by omega)]
            | rw [if_neg (by omega), if_neg (by omega), if_pos (by omega)]
            | (rw [if_neg (by omega), if_neg (by omega), if_neg (by omega), if_pos (by omega)]; try rfl)
            | rw [if_neg (by omega), if_neg (by omega), if_neg (by omega), if_neg (by omega)]) _ _ _
  exact hl (n + 1) 0 none none none (by omega) (by omega)
theorem kX10_is (G : au_G) (d p l n : Nat) (F : Nat → au_F) (mi si hi sl : au_A → Int → Int) (r : au_A → Int → Option au_A) (nx : Nat) (hp : 1126 ≤ p) (hIC : ICm mi) (nm : Int → Int) (hn : ∀ k, 0 ≤ k → k < 19 → I32 (nm k)) (hSC : ∀ s g, au_X r hi d s g → sk s → au_SC G s (d + 3) (mi, si, hi, sl, r, nx) (g nm)) (hAC : ∀ s g, au_X r hi d s g → ak s → au_AC G s (d + 3) (mi, si, hi, sl, r, nx) (g nm)) (hr1 : r (p, 0, 10) 1 = some (l, 0, 17)) (hA : AlAt r hi (au_X r hi d) l n F) : au_Ctr G yX10_is cX10_is 4 (some .boolean) (d + 4) 0 0 [au_r (p, 0, 10), au_r XNames] (mi, si, hi, sl, r, nx) (au_pure (au_i (if hi (p, 0, 10) 0 = 0 then (if 0 < F n nm then 1 else 0) else (if F n nm = (n : Int) then 1 else 0))) (mi, si, hi, sl, r, nx)) := by
  refine au_of (by decide) (Nat.le_of_ble_eq_true rfl) ?_
  obtain ⟨q, c, a1, a2, a3⟩ := hA
  have hlm := a1.2.2.2
  have hfb : ∀ j, j ≤ n → 0 ≤ F j nm ∧ F j nm ≤ (j : Int) := fun j => by
    induction j with
    | zero => intro _; rw [a2]; omega
    | succ j ih =>
      intro hj
      obtain ⟨t, b, -, b2, b3, b4⟩ := a3 j (by omega)
      have h5 := (au_X.bd hn _ _ _ b3).2 b2
      have h6 := ih (by omega)
      rw [b4]; omega
  show au_Go G _ _ 0 [some (au_r (p, 0, 10)), some (au_r XNames), none, none] [] (mi, si, hi, sl, r, nx) 0 0
  refine au_iconst dX10_is_0 rfl rfl ?_
  refine au_istore_n dX10_is_1 (show 2 < 4 by decide) ?_
  show au_Go G _ _ 2 [some (au_r (p, 0, 10)), some (au_r XNames), some (au_i 0), none] [] (mi, si, hi, sl, r, nx) 0 0
  refine au_iconst dX10_is_2 rfl rfl ?_
  refine au_istore_n dX10_is_3 (show 3 < 4 by decide) ?_
  show au_Go G _ _ 4 [some (au_r (p, 0, 10)), some (au_r XNames), some (au_i 0), some (au_i 0)] [] (mi, si, hi, sl, r, nx) 0 0
  have hl : ∀ (f : Nat) (j : Nat), j ≤ n → n - j < f → au_Go G (yX10_is.cls, cX10_is, 4, (some .boolean), au_rm (d + 4) 0 0, yX10_is.name) (au_QM G (au_rm (d + 4) 0 0) (au_pure (au_i (if hi (p, 0, 10) 0 = 0 then (if 0 < F n nm then 1 else 0) else (if F n nm = (n : Int) then 1 else 0))) (mi, si, hi, sl, r, nx))) 4 [some (au_r (p, 0, 10)), some (au_r XNames), some (au_i (F j nm)), some (au_i ((j : Int)))] [] (mi, si, hi, sl, r, nx) 0 0 := by
    intro f
    induction f with
    | zero => intro j hj hf; exfalso; omega
    | succ f ih =>
      intro j hj hf
      have hf1 := hfb j hj
      refine au_iload_n dX10_is_4 rfl ?_
      refine au_aload_n dX10_is_5 rfl ?_
      refine au_getf (C := RX10) (T := TX10) (N := 2) in_X10 (show 10 < 40 by decide) rfl 1 (by decide) rfl rfl q712 rfl dX10_is_6 (v := au_r (l, 0, 17)) (congrArg au_q (hr1)) ?_
      refine au_callVp (n := 0) (kJ3_size G l q c n mi si hi sl r nx a1) (lw_V q966 q689 q690 q139 q691) rfl (by decide +kernel) (show 17 < 40 by decide) (T := TJ3) (N := 3) rfl rfl rfl rfl (Nat.le_of_ble_eq_true rfl) (by show _ ≤ d + 4; omega) (by show _ ≤ 80 * (d + 4); omega) (Nat.le_of_ble_eq_true rfl) (Nat.le_of_ble_eq_true rfl) dX10_is_9 ?_
      refine au_icmp_ge (tgt := 49) dX10_is_12 (by decide) (fun c12 => ?_) (fun c12 => ?_)
      · refine au_aload_n dX10_is_49 rfl ?_
        refine au_getf (C := RX10) (T := TX10) (N := 2) in_X10 (show 10 < 40 by decide) rfl 0 (by decide) rfl rfl q711 rfl dX10_is_50 (v := au_i (hi (p, 0, 10) 0)) (congrArg au_i (au_gi_h (au_reg_o (by omega) (by decide) _))) ?_
        refine au_if_eq (tgt := 75) dX10_is_53 (by decide) (fun c53 => ?_) (fun c53 => ?_)
        · refine au_iload_n dX10_is_75 rfl ?_
          refine au_if_le (tgt := 83) dX10_is_76 (by decide) (fun c76 => ?_) (fun c76 => ?_)
          · refine au_iconst dX10_is_83 rfl rfl ?_
            refine au_zret dX10_is_84 rfl (Or.inl rfl) rfl (Nat.le_of_ble_eq_true rfl) (Nat.le_of_ble_eq_true rfl) ?_
            refine au_pe ?_ rfl
            have hjn : j = n := by omega
            subst hjn
            repeat' split
            all_goals omega
          · refine au_iconst dX10_is_79 rfl rfl ?_
            refine au_goto (tgt := 84) dX10_is_80 (by decide) ?_
            refine au_zret dX10_is_84 rfl (Or.inr rfl) rfl (Nat.le_of_ble_eq_true rfl) (Nat.le_of_ble_eq_true rfl) ?_
            refine au_pe ?_ rfl
            have hjn : j = n := by omega
            subst hjn
            repeat' split
            all_goals omega
        · refine au_iload_n dX10_is_56 rfl ?_
          refine au_aload_n dX10_is_57 rfl ?_
          refine au_getf (C := RX10) (T := TX10) (N := 2) in_X10 (show 10 < 40 by decide) rfl 1 (by decide) rfl rfl q712 rfl dX10_is_58 (v := au_r (l, 0, 17)) (congrArg au_q (hr1)) ?_
          refine au_callVp (n := 0) (kJ3_size G l q c n mi si hi sl r nx a1) (lw_V q966 q689 q690 q139 q691) rfl (by decide +kernel) (show 17 < 40 by decide) (T := TJ3) (N := 3) rfl rfl rfl rfl (Nat.le_of_ble_eq_true rfl) (by show _ ≤ d + 4; omega) (by show _ ≤ 80 * (d + 4); omega) (Nat.le_of_ble_eq_true rfl) (Nat.le_of_ble_eq_true rfl) dX10_is_61 ?_
          refine au_icmp_ne (tgt := 71) dX10_is_64 (by decide) (fun c64 => ?_) (fun c64 => ?_)
          · refine au_iconst dX10_is_71 rfl rfl ?_
            refine au_goto (tgt := 84) dX10_is_72 (by decide) ?_
            refine au_zret dX10_is_84 rfl (Or.inl rfl) rfl (Nat.le_of_ble_eq_true rfl) (Nat.le_of_ble_eq_true rfl) ?_
            refine au_pe ?_ rfl
            have hjn : j = n := by omega
            subst hjn
            repeat' split
            all_goals omega
          · refine au_iconst dX10_is_67 rfl rfl ?_
            refine au_goto (tgt := 84) dX10_is_68 (by decide) ?_
            refine au_zret dX10_is_84 rfl (Or.inr rfl) rfl (Nat.le_of_ble_eq_true rfl) (Nat.le_of_ble_eq_true rfl) ?_
            refine au_pe ?_ rfl
            have hjn : j = n := by omega
            subst hjn
            repeat' split
            all_goals omega
      · obtain ⟨t, b, b1, b2, b3, b4⟩ := a3 j (by omega)
        have hct := hAC _ _ b3 b2
        have hb1 := (au_X.bd hn _ _ _ b3).2 b2
        refine au_iload_n dX10_is_15 rfl ?_
        refine au_aload_n dX10_is_16 rfl ?_
        refine au_getf (C := RX10) (T := TX10) (N := 2) in_X10 (show 10 < 40 by decide) rfl 1 (by decide) rfl rfl q712 rfl dX10_is_17 (v := au_r (l, 0, 17)) (congrArg au_q (hr1)) ?_
        refine au_iload_n dX10_is_20 rfl ?_
        refine au_callVp (n := 1) (kJ3_get G l q c n (j : Int) t mi si hi sl r nx a1 (by omega) (by omega) b1) (lw_V q967 q693 q694 q139 q695) rfl (by decide +kernel) (show 17 < 40 by decide) (T := TJ3) (N := 3) rfl rfl rfl rfl (Nat.le_of_ble_eq_true rfl) (by show _ ≤ d + 4; omega) (by show _ ≤ 80 * (d + 4); omega) (Nat.le_of_ble_eq_true rfl) (Nat.le_of_ble_eq_true rfl) dX10_is_21 ?_
        refine au_castAsk b2 q968 dX10_is_24 ?_
        refine au_aload_n dX10_is_27 rfl ?_
        refine hct _ _ _ _ _ _ _ _ _ q970 dX10_is_28 (Nat.le_of_ble_eq_true rfl) (by show _ ≤ d + 4; omega) (by show _ ≤ 80 * (d + 4); omega) (Nat.le_of_ble_eq_true rfl) (Nat.le_of_ble_eq_true rfl) ?_
        show au_Go G _ _ 33 [some (au_r (p, 0, 10)), some (au_r XNames), some (au_i (F j nm)), some (au_i (j : Int))] [au_i (b nm), au_i (F j nm)] (mi, si, hi, sl, r, nx) 0 0
        refine au_if_eq (tgt := 40) dX10_is_33 (by decide) (fun c33 => ?_) (fun c33 => ?_)
        · refine au_iconst dX10_is_40 rfl rfl ?_
          refine au_iadd dX10_is_41 (by omega) (by omega) ?_
          refine au_istore_n dX10_is_42 (show 2 < 4 by decide) ?_
          show au_Go G _ _ 43 [some (au_r (p, 0, 10)), some (au_r XNames), some (au_i ((F j nm) + 0)), some (au_i (j : Int))] [] (mi, si, hi, sl, r, nx) 0 0
          refine au_iinc dX10_is_43 rfl (show 3 < 4 by decide) (by omega) (by omega) (by decide) (by decide) ?_
          show au_Go G _ _ 46 [some (au_r (p, 0, 10)), some (au_r XNames), some (au_i ((F j nm) + 0)), some (au_i ((j : Int) + 1))] [] (mi, si, hi, sl, r, nx) 0 0
          refine au_goto (tgt := 4) dX10_is_46 (by decide) ?_
          have e1 : ∀ z : Int, z = F (j + 1) nm → au_Go G (yX10_is.cls, cX10_is, 4, (some .boolean), au_rm (d + 4) 0 0, yX10_is.name) (au_QM G (au_rm (d + 4) 0 0) (au_pure (au_i (if hi (p, 0, 10) 0 = 0 then (if 0 < F n nm then 1 else 0) else (if F n nm = (n : Int) then 1 else 0))) (mi, si, hi, sl, r, nx))) 4 [some (au_r (p, 0, 10)), some (au_r XNames), some (au_i (z)), some (au_i ((j : Int) + 1))] [] (mi, si, hi, sl, r, nx) 0 0 := fun z hz => by rw [hz]; exact ih (j + 1) (by omega) (by omega)
          exact e1 _ (by rw [b4]; omega)
        · refine au_iconst dX10_is_36 rfl rfl ?_
          refine au_goto (tgt := 41) dX10_is_37 (by decide) ?_
          refine au_iadd dX10_is_41 (by omega) (by omega) ?_
          refine au_istore_n dX10_is_42 (show 2 < 4 by decide) ?_
          show au_Go G _ _ 43 [some (au_r (p, 0, 10)), some (au_r XNames), some (au_i ((F j nm) + 1)), some (au_i (j : Int))] [] (mi, si, hi, sl, r, nx) 0 0
          refine au_iinc dX10_is_43 rfl (show 3 < 4 by decide) (by omega) (by omega) (by decide) (by decide) ?_
          show au_Go G _ _ 46 [some (au_r (p, 0, 10)), some (au_r XNames), some (au_i ((F j nm) + 1)), some (au_i ((j : Int) + 1))] [] (mi, si, hi, sl, r, nx) 0 0
          refine au_goto (tgt := 4) dX10_is_46 (by decide) ?_
          have e1 : ∀ z : Int, z = F (j + 1) nm → au_Go G (yX10_is.cls, cX10_is, 4, (some .boolean), au_rm (d + 4) 0 0, yX10_is.name) (au_QM G (au_rm (d + 4) 0 0) (au_pure (au_i (if hi (p, 0, 10) 0 = 0 then (if 0 < F n nm then 1 else 0) else (if F n nm = (n : Int) then 1 else 0))) (mi, si, hi, sl, r, nx))) 4 [some (au_r (p, 0, 10)), some (au_r XNames), some (au_i (z)), some (au_i ((j : Int) + 1))] [] (mi, si, hi, sl, r, nx) 0 0 := fun z hz => by rw [hz]; exact ih (j + 1) (by omega) (by omega)
          exact e1 _ (by rw [b4]; omega)
  have h0_ := hl (n + 1) 0 (by omega) (by omega)
  rw [a2] at h0_
  exact h0_
/-- every sum and every asking of a text answers by names -/
theorem au_X.answers {G : au_G} {mi si hi sl : au_A → Int → Int} {r : au_A → Int → Option au_A} {nx : Nat} (hIC : ICm mi) {nm : Int → Int} (hnm : ∀ k, 0 ≤ k → k < 19 → si XNames k = nm k) (hn : ∀ k, 0 ≤ k → k < 19 → I32 (nm k)) : ∀ (d : Nat) (a : au_A) (f : au_F), au_X r hi d a f → (sk a → au_SC G a (d + 3) (mi, si, hi, sl, r, nx) (f nm)) ∧ (ak a → au_AC G a (d + 3) (mi, si, hi, sl, r, nx) (f nm)) := by
  intro d
  induction d with
  | zero => intro a f h; exact h.elim
  | succ d ih =>
    intro a f h
    have hSC : ∀ s g, au_X r hi d s g → sk s → au_SC G s (d + 3) (mi, si, hi, sl, r, nx) (g nm) := fun s g h k => (ih s g h).1 k
    have hAC : ∀ s g, au_X r hi d s g → ak s → au_AC G s (d + 3) (mi, si, hi, sl, r, nx) (g nm) := fun s g h k => (ih s g h).2 k
    have hB : ∀ s g, au_X r hi d s g → sk s → I33 (g nm) := fun s g h k => (au_X.bd hn _ _ _ h).1 k
    have hB2 : ∀ s g, au_X r hi d s g → ak s → g nm = 0 ∨ g nm = 1 := fun s g h k => (au_X.bd hn _ _ _ h).2 k
    obtain ⟨p, hp, h⟩ := h
    rcases h with ⟨h, x1, x2, x3⟩ | ⟨h, x1, x2, x3⟩ | ⟨h, s, g, x1, x2, x3, x4⟩ | ⟨h, s, g, x1, x2, x3, x4⟩ | ⟨h, s, t, g, k, x1, x2, x3, x4, x5, x6, x7⟩ | ⟨h, c, s, t, q, g, k, x1, x2, x3, x4, x5, x6, x7, x8, x9, x10⟩ | ⟨h, n, F, x1, x2⟩ | ⟨h, s, t, g, k, x1, x2, x3, x4, x5, x6, x7⟩ | ⟨h, s, g, x1, x2, x3, x4⟩ | ⟨h, l, n, F, x1, x2, x3, x4⟩
    all_goals subst h
    · refine ⟨fun _ => ?_, fun q => by simp [ak] at q⟩
      rw [x3]; exact au_SC_of (T := TX7) (N := 1) (kX7_of G d p mi si hi sl r nx hp) fw_X7 q994 q996 q150 q998 (show 7 < 40 by decide) rfl (Nat.le_of_ble_eq_true rfl)
    · refine ⟨fun _ => ?_, fun q => by simp [ak] at q⟩
      rw [x3]; exact au_SC_of (T := TX13) (N := 1) (kX13_of G d p mi si hi sl r nx hp nm hnm x1 x2) fw_X13 q988 q990 q158 q992 (show 13 < 40 by decide) rfl (Nat.le_of_ble_eq_true rfl)
    · refine ⟨fun _ => ?_, fun q => by simp [ak] at q⟩
      rw [x4]; exact au_SC_of (T := TX15) (N := 1) (kX15_of G d p mi si hi sl r nx s (g nm) x1 (hSC _ _ x3 x2) (hB _ _ x3 x2)) fw_X15 q980 q982 q160 q984 (show 15 < 40 by decide) rfl (Nat.le_of_ble_eq_true rfl)
    · refine ⟨fun _ => ?_, fun q => by simp [ak] at q⟩
      rw [x4]; exact au_SC_of (T := TX14) (N := 1) (kX14_of G d p mi si hi sl r nx s (g nm) x1 (hSC _ _ x3 x2) (hB _ _ x3 x2) nm hnm) fw_X14 q1000 q1002 q159 q1004 (show 14 < 40 by decide) rfl (Nat.le_of_ble_eq_true rfl)
    · refine ⟨fun _ => ?_, fun q => by simp [ak] at q⟩
      rw [x7]; exact au_SC_of (T := TX12) (N := 2) (kX12_of G d p mi si hi sl r nx s (g nm) x1 (hSC _ _ x5 x3) (hB _ _ x5 x3) t (k nm) x2 (hSC _ _ x6 x4) (hB _ _ x6 x4)) fw_X12 q943 q945 q157 q947 (show 12 < 40 by decide) rfl (Nat.le_of_ble_eq_true rfl)
    · refine ⟨fun _ => ?_, fun q => by simp [ak] at q⟩
      rw [x10]; exact au_SC_of (T := TX11) (N := 3) (kX11_of G d p mi si hi sl r nx c (q nm) x1 (hAC _ _ x7 x4) (hB2 _ _ x7 x4) s (g nm) x2 (hSC _ _ x8 x5) (hB _ _ x8 x5) t (k nm) x3 (hSC _ _ x9 x6) (hB _ _ x9 x6)) fw_X11 q951 q953 q156 q955 (show 11 < 40 by decide) rfl (Nat.le_of_ble_eq_true rfl)
    · refine ⟨fun _ => ?_, fun q => by simp [ak] at q⟩
      rw [x2]; exact au_SC_of (T := TX6) (N := 3) (kX6_of G d p n F mi si hi sl r nx hp hIC nm hn hSC hAC x1) fw_X6 q935 q937 q148 q939 (show 6 < 40 by decide) rfl (Nat.le_of_ble_eq_true rfl)
    · refine ⟨fun q => by simp [sk] at q, fun _ => ?_⟩
      rw [x7]; exact au_AC_of (T := TX9) (N := 3) (kX9_is G d p mi si hi sl r nx hp s (g nm) x1 (hSC _ _ x5 x3) (hB _ _ x5 x3) t (k nm) x2 (hSC _ _ x6 x4) (hB _ _ x6 x4)) fw_X9 q972 q974 q152 q976 (show 9 < 40 by decide) rfl (Nat.le_of_ble_eq_true rfl)
    · refine ⟨fun q => by simp [sk] at q, fun _ => ?_⟩
      rw [x4]; exact au_AC_of (T := TX8) (N := 1) (kX8_is G d p mi si hi sl r nx s (g nm) x1 (hAC _ _ x3 x2) (hB2 _ _ x3 x2)) fw_X8 q1009 q1011 q151 q1013 (show 8 < 40 by decide) rfl (Nat.le_of_ble_eq_true rfl)
    · refine ⟨fun q => by simp [sk] at q, fun _ => ?_⟩
      rw [x4]; exact au_AC_of (T := TX10) (N := 2) (kX10_is G d p l n F mi si hi sl r nx hp hIC nm hn hSC hAC x1 x2) fw_X10 q961 q963 q155 q965 (show 10 < 40 by decide) rfl (Nat.le_of_ble_eq_true rfl)
