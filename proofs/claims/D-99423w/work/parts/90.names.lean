/-! THE MODEL: names, ranks, what waits (printed by tools/m90.py) -/
set_option maxRecDepth 100000
set_option maxHeartbeats 4000000

/-- one word's fact, kept shut (omega would split it) -/
def WdE (s v w : Int) (si sl : au_A → Int → Int) : Prop := (si MO 9 = 2 ∧ sl MO 11 = v) ↔ s = w
theorem WdE.yes {s v w : Int} {si sl : au_A → Int → Int} (h : WdE s v w si sl) (h1 : si MO 9 = 2) (h2 : sl MO 11 = v) : s = w := h.mp ⟨h1, h2⟩
theorem WdE.no {s v w : Int} {si sl : au_A → Int → Int} (h : WdE s v w si sl) (h1 : s = w) : si MO 9 = 2 ∧ sl MO 11 = v := h.mpr h1
theorem WdAt.at {s : Int} {si sl : au_A → Int → Int} (h : WdAt s si sl) (k : Nat) (v w : Int) (hk : k < 28) (hv : WPK.getD k 0 = v) (hw : 200 + (k : Int) = w) : WdE s v w si sl := by
  unfold WdE
  rw [← hv, ← hw]
  exact h k hk

theorem kX2_nameOf (G : au_G) (s : Int) (mi si hi sl : au_A → Int → Int) (r : au_A → Int → Option au_A) (nx : Nat) (hF : Fix r) (hW : WdAt s si sl) : au_Ctr G yX2_nameOf cX2_nameOf 1 (some .int) 5 0 0 [au_r MO] (mi, si, hi, sl, r, nx) (au_pure (au_i (nmI s)) (mi, si, hi, sl, r, nx)) := by
  refine au_of (by decide) (Nat.le_of_ble_eq_true rfl) ?_
  have h8 := hW.at 8 ((100 * 256 + 97) * 256 + 121) 208 (by decide) (by decide +kernel) rfl
  have h11 := hW.at 11 (((115 * 256 + 105) * 256 + 122) * 256 + 101) 211 (by decide) (by decide +kernel) rfl
  have h23 := hW.at 23 ((119 * 256 + 104) * 256 + 111) 223 (by decide) (by decide +kernel) rfl
  have h24 := hW.at 24 ((((112 * 256 + 114) * 256 + 105) * 256 + 100) * 256 + 101) 224 (by decide) (by decide +kernel) rfl
  have h25 := hW.at 25 (((114 * 256 + 97) * 256 + 110) * 256 + 107) 225 (by decide) (by decide +kernel) rfl
  have h26 := hW.at 26 (((102 * 256 + 114) * 256 + 111) * 256 + 109) 226 (by decide) (by decide +kernel) rfl
  have h10 := hW.at 10 (116 * 256 + 111) 210 (by decide) (by decide +kernel) rfl
  have h12 := hW.at 12 (((100 * 256 + 97) * 256 + 121) * 256 + 115) 212 (by decide) (by decide +kernel) rfl
  have h27 := hW.at 27 (((100 * 256 + 101) * 256 + 115) * 256 + 107) 227 (by decide) (by decide +kernel) rfl
  show au_Go G _ _ 0 [some (au_r MO)] [] (mi, si, hi, sl, r, nx) 0 0
  refine au_aload_n dX2_nameOf_0 rfl ?_
  refine au_getf (C := RX2) (T := TX2) (N := 35) in_X2 (by decide) rfl 9 (by decide) rfl rfl q1368 rfl dX2_nameOf_1 (v := au_i (si MO 9)) (by rfl) ?_
  refine au_iconst dX2_nameOf_4 rfl rfl ?_
  refine au_icmp_eq (tgt := 10) dX2_nameOf_5 (by decide) (fun c5 => ?_) (fun c5 => ?_)
  · refine au_aload_n dX2_nameOf_10 rfl ?_
    refine au_getf (C := RX2) (T := TX2) (N := 35) in_X2 (by decide) rfl 11 (by decide) rfl rfl q1370 rfl dX2_nameOf_11 (v := au_l (sl MO 11)) (by rfl) ?_
    refine au_bipush dX2_nameOf_14 rfl rfl ?_
    refine au_bipush dX2_nameOf_16 rfl rfl ?_
    refine au_bipush dX2_nameOf_18 rfl rfl ?_
    refine au_callSp (n := 3) (kX2_w3 G 100 97 121 (by omega) (by omega) (by omega) _) (lw_S q1535 q1536 q134 q1537) (by decide +kernel) rfl rfl rfl (Nat.le_of_ble_eq_true rfl) (Nat.le_of_ble_eq_true rfl) (Nat.le_of_ble_eq_true rfl) (Nat.le_of_ble_eq_true rfl) (Nat.le_of_ble_eq_true rfl) dX2_nameOf_20 ?_
    refine au_lcmp dX2_nameOf_23 ?_
    refine au_if_ne (tgt := 29) dX2_nameOf_24 (by decide) (fun c24 => ?_) (fun c24 => ?_)
    · have c24 := au_cmp_net c24
      refine au_aload_n dX2_nameOf_29 rfl ?_
      refine au_getf (C := RX2) (T := TX2) (N := 35) in_X2 (by decide) rfl 11 (by decide) rfl rfl q1370 rfl dX2_nameOf_30 (v := au_l (sl MO 11)) (by rfl) ?_
      refine au_bipush dX2_nameOf_33 rfl rfl ?_
      refine au_bipush dX2_nameOf_35 rfl rfl ?_
      refine au_bipush dX2_nameOf_37 rfl rfl ?_
      refine au_bipush dX2_nameOf_39 rfl rfl ?_
      refine au_callSp (n := 4) (kX2_w4 G 115 105 122 101 (by omega) (by omega) (by omega) (by omega) _) (lw_S q1532 q1533 q134 q1534) (by decide +kernel) rfl rfl rfl (Nat.le_of_ble_eq_true rfl) (Nat.le_of_ble_eq_true rfl) (Nat.le_of_ble_eq_true rfl) (Nat.le_of_ble_eq_true rfl) (Nat.le_of_ble_eq_true rfl) dX2_nameOf_41 ?_
      refine au_lcmp dX2_nameOf_44 ?_
      refine au_if_ne (tgt := 50) dX2_nameOf_45 (by decide) (fun c45 => ?_) (fun c45 => ?_)
      · have c45 := au_cmp_net c45
        refine au_aload_n dX2_nameOf_50 rfl ?_
        refine au_getf (C := RX2) (T := TX2) (N := 35) in_X2 (by decide) rfl 11 (by decide) rfl rfl q1370 rfl dX2_nameOf_51 (v := au_l (sl MO 11)) (by rfl) ?_
        refine au_bipush dX2_nameOf_54 rfl rfl ?_
        refine au_bipush dX2_nameOf_56 rfl rfl ?_
        refine au_bipush dX2_nameOf_58 rfl rfl ?_
        refine au_callSp (n := 3) (kX2_w3 G 119 104 111 (by omega) (by omega) (by omega) _) (lw_S q1535 q1536 q134 q1537) (by decide +kernel) rfl rfl rfl (Nat.le_of_ble_eq_true rfl) (Nat.le_of_ble_eq_true rfl) (Nat.le_of_ble_eq_true rfl) (Nat.le_of_ble_eq_true rfl) (Nat.le_of_ble_eq_true rfl) dX2_nameOf_60 ?_
        refine au_lcmp dX2_nameOf_63 ?_
        refine au_if_ne (tgt := 69) dX2_nameOf_64 (by decide) (fun c64 => ?_) (fun c64 => ?_)
        · have c64 := au_cmp_net c64
          refine au_aload_n dX2_nameOf_69 rfl ?_
          refine au_getf (C := RX2) (T := TX2) (N := 35) in_X2 (by decide) rfl 11 (by decide) rfl rfl q1370 rfl dX2_nameOf_70 (v := au_l (sl MO 11)) (by rfl) ?_
          refine au_bipush dX2_nameOf_73 rfl rfl ?_
          refine au_bipush dX2_nameOf_75 rfl rfl ?_
          refine au_bipush dX2_nameOf_77 rfl rfl ?_
          refine au_bipush dX2_nameOf_79 rfl rfl ?_
          refine au_bipush dX2_nameOf_81 rfl rfl ?_
          refine au_callSp (n := 5) (kX2_w5 G 112 114 105 100 101 (by omega) (by omega) (by omega) (by omega) (by omega) _) (lw_S q1549 q1550 q134 q1551) (by decide +kernel) rfl rfl rfl (Nat.le_of_ble_eq_true rfl) (Nat.le_of_ble_eq_true rfl) (Nat.le_of_ble_eq_true rfl) (Nat.le_of_ble_eq_true rfl) (Nat.le_of_ble_eq_true rfl) dX2_nameOf_83 ?_
          refine au_lcmp dX2_nameOf_86 ?_
          refine au_if_ne (tgt := 92) dX2_nameOf_87 (by decide) (fun c87 => ?_) (fun c87 => ?_)
          · have c87 := au_cmp_net c87
            refine au_aload_n dX2_nameOf_92 rfl ?_
            refine au_getf (C := RX2) (T := TX2) (N := 35) in_X2 (by decide) rfl 11 (by decide) rfl rfl q1370 rfl dX2_nameOf_93 (v := au_l (sl MO 11)) (by rfl) ?_
            refine au_bipush dX2_nameOf_96 rfl rfl ?_
            refine au_bipush dX2_nameOf_98 rfl rfl ?_
            refine au_bipush dX2_nameOf_100 rfl rfl ?_
            refine au_bipush dX2_nameOf_102 rfl rfl ?_
            refine au_callSp (n := 4) (kX2_w4 G 114 97 110 107 (by omega) (by omega) (by omega) (by omega) _) (lw_S q1532 q1533 q134 q1534) (by decide +kernel) rfl rfl rfl (Nat.le_of_ble_eq_true rfl) (Nat.le_of_ble_eq_true rfl) (Nat.le_of_ble_eq_true rfl) (Nat.le_of_ble_eq_true rfl) (Nat.le_of_ble_eq_true rfl) dX2_nameOf_104 ?_
            refine au_lcmp dX2_nameOf_107 ?_
            refine au_if_ne (tgt := 113) dX2_nameOf_108 (by decide) (fun c108 => ?_) (fun c108 => ?_)
            · have c108 := au_cmp_net c108
              refine au_aload_n dX2_nameOf_113 rfl ?_
              refine au_getf (C := RX2) (T := TX2) (N := 35) in_X2 (by decide) rfl 11 (by decide) rfl rfl q1370 rfl dX2_nameOf_114 (v := au_l (sl MO 11)) (by rfl) ?_
              refine au_bipush dX2_nameOf_117 rfl rfl ?_
              refine au_bipush dX2_nameOf_119 rfl rfl ?_
              refine au_bipush dX2_nameOf_121 rfl rfl ?_
              refine au_bipush dX2_nameOf_123 rfl rfl ?_
              refine au_callSp (n := 4) (kX2_w4 G 102 114 111 109 (by omega) (by omega) (by omega) (by omega) _) (lw_S q1532 q1533 q134 q1534) (by decide +kernel) rfl rfl rfl (Nat.le_of_ble_eq_true rfl) (Nat.le_of_ble_eq_true rfl) (Nat.le_of_ble_eq_true rfl) (Nat.le_of_ble_eq_true rfl) (Nat.le_of_ble_eq_true rfl) dX2_nameOf_125 ?_
              refine au_lcmp dX2_nameOf_128 ?_
              refine au_if_ne (tgt := 134) dX2_nameOf_129 (by decide) (fun c129 => ?_) (fun c129 => ?_)
              · have c129 := au_cmp_net c129
                refine au_aload_n dX2_nameOf_134 rfl ?_
                refine au_getf (C := RX2) (T := TX2) (N := 35) in_X2 (by decide) rfl 11 (by decide) rfl rfl q1370 rfl dX2_nameOf_135 (v := au_l (sl MO 11)) (by rfl) ?_
                refine au_bipush dX2_nameOf_138 rfl rfl ?_
                refine au_bipush dX2_nameOf_140 rfl rfl ?_
                refine au_callSp (n := 2) (kX2_w2 G 116 111 (by omega) (by omega) _) (lw_S q1538 q1539 q134 q1540) (by decide +kernel) rfl rfl rfl (Nat.le_of_ble_eq_true rfl) (Nat.le_of_ble_eq_true rfl) (Nat.le_of_ble_eq_true rfl) (Nat.le_of_ble_eq_true rfl) (Nat.le_of_ble_eq_true rfl) dX2_nameOf_142 ?_
                refine au_lcmp dX2_nameOf_145 ?_
                refine au_if_ne (tgt := 152) dX2_nameOf_146 (by decide) (fun c146 => ?_) (fun c146 => ?_)
                · have c146 := au_cmp_net c146
                  refine au_aload_n dX2_nameOf_152 rfl ?_
                  refine au_getf (C := RX2) (T := TX2) (N := 35) in_X2 (by decide) rfl 11 (by decide) rfl rfl q1370 rfl dX2_nameOf_153 (v := au_l (sl MO 11)) (by rfl) ?_
                  refine au_bipush dX2_nameOf_156 rfl rfl ?_
                  refine au_bipush dX2_nameOf_158 rfl rfl ?_
                  refine au_bipush dX2_nameOf_160 rfl rfl ?_
                  refine au_bipush dX2_nameOf_162 rfl rfl ?_
                  refine au_callSp (n := 4) (kX2_w4 G 100 97 121 115 (by omega) (by omega) (by omega) (by omega) _) (lw_S q1532 q1533 q134 q1534) (by decide +kernel) rfl rfl rfl (Nat.le_of_ble_eq_true rfl) (Nat.le_of_ble_eq_true rfl) (Nat.le_of_ble_eq_true rfl) (Nat.le_of_ble_eq_true rfl) (Nat.le_of_ble_eq_true rfl) dX2_nameOf_164 ?_
                  refine au_lcmp dX2_nameOf_167 ?_
                  refine au_if_ne (tgt := 176) dX2_nameOf_168 (by decide) (fun c168 => ?_) (fun c168 => ?_)
                  · have c168 := au_cmp_net c168
                    refine au_aload_n dX2_nameOf_176 rfl ?_
                    refine au_getf (C := RX2) (T := TX2) (N := 35) in_X2 (by decide) rfl 11 (by decide) rfl rfl q1370 rfl dX2_nameOf_177 (v := au_l (sl MO 11)) (by rfl) ?_
                    refine au_bipush dX2_nameOf_180 rfl rfl ?_
                    refine au_bipush dX2_nameOf_182 rfl rfl ?_
                    refine au_bipush dX2_nameOf_184 rfl rfl ?_
                    refine au_bipush dX2_nameOf_186 rfl rfl ?_
                    refine au_callSp (n := 4) (kX2_w4 G 100 101 115 107 (by omega) (by omega) (by omega) (by omega) _) (lw_S q1532 q1533 q134 q1534) (by decide +kernel) rfl rfl rfl (Nat.le_of_ble_eq_true rfl) (Nat.le_of_ble_eq_true rfl) (Nat.le_of_ble_eq_true rfl) (Nat.le_of_ble_eq_true rfl) (Nat.le_of_ble_eq_true rfl) dX2_nameOf_188 ?_
                    refine au_lcmp dX2_nameOf_191 ?_
                    refine au_if_ne (tgt := 200) dX2_nameOf_192 (by decide) (fun c192 => ?_) (fun c192 => ?_)
                    · have c192 := au_cmp_net c192
                      refine au_iconst dX2_nameOf_200 rfl rfl ?_
                      refine au_iret dX2_nameOf_201 rfl rfl (Nat.le_of_ble_eq_true rfl) (Nat.le_of_ble_eq_true rfl) ?_
                      first
                      | exact au_pe (show 0 = nmI s by rw [h8.yes (by omega) c24]; rfl) rfl
                      | exact au_pe (show 1 = nmI s by rw [h11.yes (by omega) c45]; rfl) rfl
                      | exact au_pe (show 2 = nmI s by rw [h23.yes (by omega) c64]; rfl) rfl
                      | exact au_pe (show 3 = nmI s by rw [h24.yes (by omega) c87]; rfl) rfl
                      | exact au_pe (show 4 = nmI s by rw [h25.yes (by omega) c108]; rfl) rfl
                      | exact au_pe (show 5 = nmI s by rw [h26.yes (by omega) c129]; rfl) rfl
                      | exact au_pe (show 6 = nmI s by rw [h10.yes (by omega) c146]; rfl) rfl
                      | exact au_pe (show 7 = nmI s by rw [h12.yes (by omega) c168]; rfl) rfl
                      | exact au_pe (show 8 = nmI s by rw [h27.yes (by omega) c192]; rfl) rfl
                      | (skip
                         have n0 : ¬ s = 208 := fun z => by
                           first
                           | exact absurd (h8.no z).1 (by omega)
                           | exact absurd (h8.no z).2 c24
                         have n1 : ¬ s = 211 := fun z => by
                           first
                           | exact absurd (h11.no z).1 (by omega)
                           | exact absurd (h11.no z).2 c45
                         have n2 : ¬ s = 223 := fun z => by
                           first
                           | exact absurd (h23.no z).1 (by omega)
                           | exact absurd (h23.no z).2 c64
                         have n3 : ¬ s = 224 := fun z => by
                           first
                           | exact absurd (h24.no z).1 (by omega)
                           | exact absurd (h24.no z).2 c87
                         have n4 : ¬ s = 225 := fun z => by
                           first
                           | exact absurd (h25.no z).1 (by omega)
                           | exact absurd (h25.no z).2 c108
                         have n5 : ¬ s = 226 := fun z => by
                           first
                           | exact absurd (h26.no z).1 (by omega)
                           | exact absurd (h26.no z).2 c129
                         have n6 : ¬ s = 210 := fun z => by
                           first
                           | exact absurd (h10.no z).1 (by omega)
                           | exact absurd (h10.no z).2 c146
                         have n7 : ¬ s = 212 := fun z => by
                           first
                           | exact absurd (h12.no z).1 (by omega)
                           | exact absurd (h12.no z).2 c168
                         have n8 : ¬ s = 227 := fun z => by
                           first
                           | exact absurd (h27.no z).1 (by omega)
                           | exact absurd (h27.no z).2 c192
                         refine au_pe ?_ rfl
                         unfold nmI
                         rw [if_neg n0, if_neg n1, if_neg n2, if_neg n3, if_neg n4, if_neg n5, if_neg n6, if_neg n7, if_neg n8])
                    · have c192 := au_cmp_nef c192
                      refine au_bipush dX2_nameOf_195 rfl rfl ?_
                      refine au_goto (tgt := 201) dX2_nameOf_197 (by decide) ?_
                      refine au_iret dX2_nameOf_201 rfl rfl (Nat.le_of_ble_eq_true rfl) (Nat.le_of_ble_eq_true rfl) ?_
                      first
                      | exact au_pe (show 0 = nmI s by rw [h8.yes (by omega) c24]; rfl) rfl
                      | exact au_pe (show 1 = nmI s by rw [h11.yes (by omega) c45]; rfl) rfl
                      | exact au_pe (show 2 = nmI s by rw [h23.yes (by omega) c64]; rfl) rfl
                      | exact au_pe (show 3 = nmI s by rw [h24.yes (by omega) c87]; rfl) rfl
                      | exact au_pe (show 4 = nmI s by rw [h25.yes (by omega) c108]; rfl) rfl
                      | exact au_pe (show 5 = nmI s by rw [h26.yes (by omega) c129]; rfl) rfl
                      | exact au_pe (show 6 = nmI s by rw [h10.yes (by omega) c146]; rfl) rfl
                      | exact au_pe (show 7 = nmI s by rw [h12.yes (by omega) c168]; rfl) rfl
                      | exact au_pe (show 8 = nmI s by rw [h27.yes (by omega) c192]; rfl) rfl
                      | (skip
                         have n0 : ¬ s = 208 := fun z => by
                           first
                           | exact absurd (h8.no z).1 (by omega)
                           | exact absurd (h8.no z).2 c24
                         have n1 : ¬ s = 211 := fun z => by
                           first
                           | exact absurd (h11.no z).1 (by omega)
                           | exact absurd (h11.no z).2 c45
                         have n2 : ¬ s = 223 := fun z => by
                           first
                           | exact absurd (h23.no z).1 (by omega)
                           | exact absurd (h23.no z).2 c64
                         have n3 : ¬ s = 224 := fun z => by
                           first
                           | exact absurd (h24.no z).1 (by omega)
                           | exact absurd (h24.no z).2 c87
                         have n4 : ¬ s = 225 := fun z => by
                           first
                           | exact absurd (h25.no z).1 (by omega)
                           | exact absurd (h25.no z).2 c108
                         have n5 : ¬ s = 226 := fun z => by
                           first
                           | exact absurd (h26.no z).1 (by omega)
                           | exact absurd (h26.no z).2 c129
                         have n6 : ¬ s = 210 := fun z => by
                           first
                           | exact absurd (h10.no z).1 (by omega)
                           | exact absurd (h10.no z).2 c146
                         have n7 : ¬ s = 212 := fun z => by
                           first
                           | exact absurd (h12.no z).1 (by omega)
                           | exact absurd (h12.no z).2 c168
                         have n8 : ¬ s = 227 := fun z => by
                           first
                           | exact absurd (h27.no z).1 (by omega)
                           | exact absurd (h27.no z).2 c192
                         refine au_pe ?_ rfl
                         unfold nmI
                         rw [if_neg n0, if_neg n1, if_neg n2, if_neg n3, if_neg n4, if_neg n5, if_neg n6, if_neg n7, if_neg n8])
                  · have c168 := au_cmp_nef c168
                    refine au_bipush dX2_nameOf_171 rfl rfl ?_
                    refine au_goto (tgt := 201) dX2_nameOf_173 (by decide) ?_
                    refine au_iret dX2_nameOf_201 rfl rfl (Nat.le_of_ble_eq_true rfl) (Nat.le_of_ble_eq_true rfl) ?_
                    first
                    | exact au_pe (show 0 = nmI s by rw [h8.yes (by omega) c24]; rfl) rfl
                    | exact au_pe (show 1 = nmI s by rw [h11.yes (by omega) c45]; rfl) rfl
                    | exact au_pe (show 2 = nmI s by rw [h23.yes (by omega) c64]; rfl) rfl
                    | exact au_pe (show 3 = nmI s by rw [h24.yes (by omega) c87]; rfl) rfl
                    | exact au_pe (show 4 = nmI s by rw [h25.yes (by omega) c108]; rfl) rfl
                    | exact au_pe (show 5 = nmI s by rw [h26.yes (by omega) c129]; rfl) rfl
                    | exact au_pe (show 6 = nmI s by rw [h10.yes (by omega) c146]; rfl) rfl
                    | exact au_pe (show 7 = nmI s by rw [h12.yes (by omega) c168]; rfl) rfl
                    | exact au_pe (show 8 = nmI s by rw [h27.yes (by omega) c192]; rfl) rfl
                    | (skip
                       have n0 : ¬ s = 208 := fun z => by
                         first
                         | exact absurd (h8.no z).1 (by omega)
                         | exact absurd (h8.no z).2 c24
                       have n1 : ¬ s = 211 := fun z => by
                         first
                         | exact absurd (h11.no z).1 (by omega)
                         | exact absurd (h11.no z).2 c45
                       have n2 : ¬ s = 223 := fun z => by
                         first
                         | exact absurd (h23.no z).1 (by omega)
                         | exact absurd (h23.no z).2 c64
                       have n3 : ¬ s = 224 := fun z => by
                         first
                         | exact absurd (h24.no z).1 (by omega)
                         | exact absurd (h24.no z).2 c87
                       have n4 : ¬ s = 225 := fun z => by
                         first
                         | exact absurd (h25.no z).1 (by omega)
                         | exact absurd (h25.no z).2 c108
                       have n5 : ¬ s = 226 := fun z => by
                         first
                         | exact absurd (h26.no z).1 (by omega)
                         | exact absurd (h26.no z).2 c129
                       have n6 : ¬ s = 210 := fun z => by
                         first
                         | exact absurd (h10.no z).1 (by omega)
                         | exact absurd (h10.no z).2 c146
                       have n7 : ¬ s = 212 := fun z => by
                         first
                         | exact absurd (h12.no z).1 (by omega)
                         | exact absurd (h12.no z).2 c168
                       have n8 : ¬ s = 227 := fun z => by
                         first
                         | exact absurd (h27.no z).1 (by omega)
                         | exact absurd (h27.no z).2 c192
                       refine au_pe ?_ rfl
                       unfold nmI
                       rw [if_neg n0, if_neg n1, if_neg n2, if_neg n3, if_neg n4, if_neg n5, if_neg n6, if_neg n7, if_neg n8])
                · have c146 := au_cmp_nef c146
                  refine au_bipush dX2_nameOf_149 rfl rfl ?_
                  refine au_iret dX2_nameOf_151 rfl rfl (Nat.le_of_ble_eq_true rfl) (Nat.le_of_ble_eq_true rfl) ?_
                  first
                  | exact au_pe (show 0 = nmI s by rw [h8.yes (by omega) c24]; rfl) rfl
                  | exact au_pe (show 1 = nmI s by rw [h11.yes (by omega) c45]; rfl) rfl
                  | exact au_pe (show 2 = nmI s by rw [h23.yes (by omega) c64]; rfl) rfl
                  | exact au_pe (show 3 = nmI s by rw [h24.yes (by omega) c87]; rfl) rfl
                  | exact au_pe (show 4 = nmI s by rw [h25.yes (by omega) c108]; rfl) rfl
                  | exact au_pe (show 5 = nmI s by rw [h26.yes (by omega) c129]; rfl) rfl
                  | exact au_pe (show 6 = nmI s by rw [h10.yes (by omega) c146]; rfl) rfl
                  | exact au_pe (show 7 = nmI s by rw [h12.yes (by omega) c168]; rfl) rfl
                  | exact au_pe (show 8 = nmI s by rw [h27.yes (by omega) c192]; rfl) rfl
                  | (skip
                     have n0 : ¬ s = 208 := fun z => by
                       first
                       | exact absurd (h8.no z).1 (by omega)
                       | exact absurd (h8.no z).2 c24
                     have n1 : ¬ s = 211 := fun z => by
                       first
                       | exact absurd (h11.no z).1 (by omega)
                       | exact absurd (h11.no z).2 c45
                     have n2 : ¬ s = 223 := fun z => by
                       first
                       | exact absurd (h23.no z).1 (by omega)
                       | exact absurd (h23.no z).2 c64
                     have n3 : ¬ s = 224 := fun z => by
                       first
                       | exact absurd (h24.no z).1 (by omega)
                       | exact absurd (h24.no z).2 c87
                     have n4 : ¬ s = 225 := fun z => by
                       first
                       | exact absurd (h25.no z).1 (by omega)
                       | exact absurd (h25.no z).2 c108
                     have n5 : ¬ s = 226 := fun z => by
                       first
                       | exact absurd (h26.no z).1 (by omega)
                       | exact absurd (h26.no z).2 c129
                     have n6 : ¬ s = 210 := fun z => by
                       first
                       | exact absurd (h10.no z).1 (by omega)
                       | exact absurd (h10.no z).2 c146
                     have n7 : ¬ s = 212 := fun z => by
                       first
                       | exact absurd (h12.no z).1 (by omega)
                       | exact absurd (h12.no z).2 c168
                     have n8 : ¬ s = 227 := fun z => by
                       first
                       | exact absurd (h27.no z).1 (by omega)
                       | exact absurd (h27.no z).2 c192
                     refine au_pe ?_ rfl
                     unfold nmI
                     rw [if_neg n0, if_neg n1, if_neg n2, if_neg n3, if_neg n4, if_neg n5, if_neg n6, if_neg n7, if_neg n8])
              · have c129 := au_cmp_nef c129
                refine au_iconst dX2_nameOf_132 rfl rfl ?_
                refine au_iret dX2_nameOf_133 rfl rfl (Nat.le_of_ble_eq_true rfl) (Nat.le_of_ble_eq_true rfl) ?_
                first
                | exact au_pe (show 0 = nmI s by rw [h8.yes (by omega) c24]; rfl) rfl
                | exact au_pe (show 1 = nmI s by rw [h11.yes (by omega) c45]; rfl) rfl
                | exact au_pe (show 2 = nmI s by rw [h23.yes (by omega) c64]; rfl) rfl
                | exact au_pe (show 3 = nmI s by rw [h24.yes (by omega) c87]; rfl) rfl
                | exact au_pe (show 4 = nmI s by rw [h25.yes (by omega) c108]; rfl) rfl
                | exact au_pe (show 5 = nmI s by rw [h26.yes (by omega) c129]; rfl) rfl
                | exact au_pe (show 6 = nmI s by rw [h10.yes (by omega) c146]; rfl) rfl
                | exact au_pe (show 7 = nmI s by rw [h12.yes (by omega) c168]; rfl) rfl
                | exact au_pe (show 8 = nmI s by rw [h27.yes (by omega) c192]; rfl) rfl
                | (skip
                   have n0 : ¬ s = 208 := fun z => by
                     first
                     | exact absurd (h8.no z).1 (by omega)
                     | exact absurd (h8.no z).2 c24
                   have n1 : ¬ s = 211 := fun z => by
                     first
                     | exact absurd (h11.no z).1 (by omega)
                     | exact absurd (h11.no z).2 c45
                   have n2 : ¬ s = 223 := fun z => by
                     first
                     | exact absurd (h23.no z).1 (by omega)
                     | exact absurd (h23.no z).2 c64
                   have n3 : ¬ s = 224 := fun z => by
                     first
                     | exact absurd (h24.no z).1 (by omega)
                     | exact absurd (h24.no z).2 c87
                   have n4 : ¬ s = 225 := fun z => by
                     first
                     | exact absurd (h25.no z).1 (by omega)
                     | exact absurd (h25.no z).2 c108
                   have n5 : ¬ s = 226 := fun z => by
                     first
                     | exact absurd (h26.no z).1 (by omega)
                     | exact absurd (h26.no z).2 c129
                   have n6 : ¬ s = 210 := fun z => by
                     first
                     | exact absurd (h10.no z).1 (by omega)
                     | exact absurd (h10.no z).2 c146
                   have n7 : ¬ s = 212 := fun z => by
                     first
                     | exact absurd (h12.no z).1 (by omega)
                     | exact absurd (h12.no z).2 c168
                   have n8 : ¬ s = 227 := fun z => by
                     first
                     | exact absurd (h27.no z).1 (by omega)
                     | exact absurd (h27.no z).2 c192
                   refine au_pe ?_ rfl
                   unfold nmI
                   rw [if_neg n0, if_neg n1, if_neg n2, if_neg n3, if_neg n4, if_neg n5, if_neg n6, if_neg n7, if_neg n8])
            · have c108 := au_cmp_nef c108
              refine au_iconst dX2_nameOf_111 rfl rfl ?_
              refine au_iret dX2_nameOf_112 rfl rfl (Nat.le_of_ble_eq_true rfl) (Nat.le_of_ble_eq_true rfl) ?_
              first
              | exact au_pe (show 0 = nmI s by rw [h8.yes (by omega) c24]; rfl) rfl
              | exact au_pe (show 1 = nmI s by rw [h11.yes (by omega) c45]; rfl) rfl
              | exact au_pe (show 2 = nmI s by rw [h23.yes (by omega) c64]; rfl) rfl
              | exact au_pe (show 3 = nmI s by rw [h24.yes (by omega) c87]; rfl) rfl
              | exact au_pe (show 4 = nmI s by rw [h25.yes (by omega) c108]; rfl) rfl
              | exact au_pe (show 5 = nmI s by rw [h26.yes (by omega) c129]; rfl) rfl
              | exact au_pe (show 6 = nmI s by rw [h10.yes (by omega) c146]; rfl) rfl
              | exact au_pe (show 7 = nmI s by rw [h12.yes (by omega) c168]; rfl) rfl
              | exact au_pe (show 8 = nmI s by rw [h27.yes (by omega) c192]; rfl) rfl
              | (skip
                 have n0 : ¬ s = 208 := fun z => by
                   first
                   | exact absurd (h8.no z).1 (by omega)
                   | exact absurd (h8.no z).2 c24
                 have n1 : ¬ s = 211 := fun z => by
                   first
                   | exact absurd (h11.no z).1 (by omega)
                   | exact absurd (h11.no z).2 c45
                 have n2 : ¬ s = 223 := fun z => by
                   first
                   | exact absurd (h23.no z).1 (by omega)
                   | exact absurd (h23.no z).2 c64
                 have n3 : ¬ s = 224 := fun z => by
                   first
                   | exact absurd (h24.no z).1 (by omega)
                   | exact absurd (h24.no z).2 c87
                 have n4 : ¬ s = 225 := fun z => by
                   first
                   | exact absurd (h25.no z).1 (by omega)
                   | exact absurd (h25.no z).2 c108
                 have n5 : ¬ s = 226 := fun z => by
                   first
                   | exact absurd (h26.no z).1 (by omega)
                   | exact absurd (h26.no z).2 c129
                 have n6 : ¬ s = 210 := fun z => by
                   first
                   | exact absurd (h10.no z).1 (by omega)
                   | exact absurd (h10.no z).2 c146
                 have n7 : ¬ s = 212 := fun z => by
                   first
                   | exact absurd (h12.no z).1 (by omega)
                   | exact absurd (h12.no z).2 c168
                 have n8 : ¬ s = 227 := fun z => by
                   first
                   | exact absurd (h27.no z).1 (by omega)
                   | exact absurd (h27.no z).2 c192
                 refine au_pe ?_ rfl
                 unfold nmI
                 rw [if_neg n0, if_neg n1, if_neg n2, if_neg n3, if_neg n4, if_neg n5, if_neg n6, if_neg n7, if_neg n8])
          · have c87 := au_cmp_nef c87
            refine au_iconst dX2_nameOf_90 rfl rfl ?_
            refine au_iret dX2_nameOf_91 rfl rfl (Nat.le_of_ble_eq_true rfl) (Nat.le_of_ble_eq_true rfl) ?_
            first
            | exact au_pe (show 0 = nmI s by rw [h8.yes (by omega) c24]; rfl) rfl
            | exact au_pe (show 1 = nmI s by rw [h11.yes (by omega) c45]; rfl) rfl
            | exact au_pe (show 2 = nmI s by rw [h23.yes (by omega) c64]; rfl) rfl
            | exact au_pe (show 3 = nmI s by rw [h24.yes (by omega) c87]; rfl) rfl
            | exact au_pe (show 4 = nmI s by rw [h25.yes (by omega) c108]; rfl) rfl
            | exact au_pe (show 5 = nmI s by rw [h26.yes (by omega) c129]; rfl) rfl
            | exact au_pe (show 6 = nmI s by rw [h10.yes (by omega) c146]; rfl) rfl
            | exact au_pe (show 7 = nmI s by rw [h12.yes (by omega) c168]; rfl) rfl
            | exact au_pe (show 8 = nmI s by rw [h27.yes (by omega) c192]; rfl) rfl
            | (skip
               have n0 : ¬ s = 208 := fun z => by
                 first
                 | exact absurd (h8.no z).1 (by omega)
                 | exact absurd (h8.no z).2 c24
               have n1 : ¬ s = 211 := fun z => by
                 first
                 | exact absurd (h11.no z).1 (by omega)
                 | exact absurd (h11.no z).2 c45
               have n2 : ¬ s = 223 := fun z => by
                 first
                 | exact absurd (h23.no z).1 (by omega)
                 | exact absurd (h23.no z).2 c64
               have n3 : ¬ s = 224 := fun z => by
                 first
                 | exact absurd (h24.no z).1 (by omega)
                 | exact absurd (h24.no z).2 c87
               have n4 : ¬ s = 225 := fun z => by
                 first
                 | exact absurd (h25.no z).1 (by omega)
                 | exact absurd (h25.no z).2 c108
               have n5 : ¬ s = 226 := fun z => by
                 first
                 | exact absurd (h26.no z).1 (by omega)
                 | exact absurd (h26.no z).2 c129
               have n6 : ¬ s = 210 := fun z => by
                 first
                 | exact absurd (h10.no z).1 (by omega)
                 | exact absurd (h10.no z).2 c146
               have n7 : ¬ s = 212 := fun z => by
                 first
                 | exact absurd (h12.no z).1 (by omega)
                 | exact absurd (h12.no z).2 c168
               have n8 : ¬ s = 227 := fun z => by
                 first
                 | exact absurd (h27.no z).1 (by omega)
                 | exact absurd (h27.no z).2 c192
               refine au_pe ?_ rfl
               unfold nmI
               rw [if_neg n0, if_neg n1, if_neg n2, if_neg n3, if_neg n4, if_neg n5, if_neg n6, if_neg n7, if_neg n8])
        · have c64 := au_cmp_nef c64
          refine au_iconst dX2_nameOf_67 rfl rfl ?_
          refine au_iret dX2_nameOf_68 rfl rfl (Nat.le_of_ble_eq_true rfl) (Nat.le_of_ble_eq_true rfl) ?_
          first
          | exact au_pe (show 0 = nmI s by rw [h8.yes (by omega) c24]; rfl) rfl
          | exact au_pe (show 1 = nmI s by rw [h11.yes (by omega) c45]; rfl) rfl
          | exact au_pe (show 2 = nmI s by rw [h23.yes (by omega) c64]; rfl) rfl
          | exact au_pe (show 3 = nmI s by rw [h24.yes (by omega) c87]; rfl) rfl
          | exact au_pe (show 4 = nmI s by rw [h25.yes (by omega) c108]; rfl) rfl
          | exact au_pe (show 5 = nmI s by rw [h26.yes (by omega) c129]; rfl) rfl
          | exact au_pe (show 6 = nmI s by rw [h10.yes (by omega) c146]; rfl) rfl
          | exact au_pe (show 7 = nmI s by rw [h12.yes (by omega) c168]; rfl) rfl
          | exact au_pe (show 8 = nmI s by rw [h27.yes (by omega) c192]; rfl) rfl
          | (skip
             have n0 : ¬ s = 208 := fun z => by
               first
               | exact absurd (h8.no z).1 (by omega)
               | exact absurd (h8.no z).2 c24
             have n1 : ¬ s = 211 := fun z => by
               first
               | exact absurd (h11.no z).1 (by omega)
               | exact absurd (h11.no z).2 c45
             have n2 : ¬ s = 223 := fun z => by
               first
               | exact absurd (h23.no z).1 (by omega)
               | exact absurd (h23.no z).2 c64
             have n3 : ¬ s = 224 := fun z => by
               first
               | exact absurd (h24.no z).1 (by omega)
               | exact absurd (h24.no z).2 c87
             have n4 : ¬ s = 225 := fun z => by
               first
               | exact absurd (h25.no z).1 (by omega)
               | exact absurd (h25.no z).2 c108
             have n5 : ¬ s = 226 := fun z => by
               first
               | exact absurd (h26.no z).1 (by omega)
               | exact absurd (h26.no z).2 c129
             have n6 : ¬ s = 210 := fun z => by
               first
               | exact absurd (h10.no z).1 (by omega)
               | exact absurd (h10.no z).2 c146
             have n7 : ¬ s = 212 := fun z => by
               first
               | exact absurd (h12.no z).1 (by omega)
               | exact absurd (h12.no z).2 c168
             have n8 : ¬ s = 227 := fun z => by
               first
               | exact absurd (h27.no z).1 (by omega)
               | exact absurd (h27.no z).2 c192
             refine au_pe ?_ rfl
             unfold nmI
             rw [if_neg n0, if_neg n1, if_neg n2, if_neg n3, if_neg n4, if_neg n5, if_neg n6, if_neg n7, if_neg n8])
      · have c45 := au_cmp_nef c45
        refine au_iconst dX2_nameOf_48 rfl rfl ?_
        refine au_iret dX2_nameOf_49 rfl rfl (Nat.le_of_ble_eq_true rfl) (Nat.le_of_ble_eq_true rfl) ?_
        first
        | exact au_pe (show 0 = nmI s by rw [h8.yes (by omega) c24]; rfl) rfl
        | exact au_pe (show 1 = nmI s by rw [h11.yes (by omega) c45]; rfl) rfl
        | exact au_pe (show 2 = nmI s by rw [h23.yes (by omega) c64]; rfl) rfl
        | exact au_pe (show 3 = nmI s by rw [h24.yes (by omega) c87]; rfl) rfl
        | exact au_pe (show 4 = nmI s by rw [h25.yes (by omega) c108]; rfl) rfl
        | exact au_pe (show 5 = nmI s by rw [h26.yes (by omega) c129]; rfl) rfl
        | exact au_pe (show 6 = nmI s by rw [h10.yes (by omega) c146]; rfl) rfl
        | exact au_pe (show 7 = nmI s by rw [h12.yes (by omega) c168]; rfl) rfl
        | exact au_pe (show 8 = nmI s by rw [h27.yes (by omega) c192]; rfl) rfl
        | (skip
           have n0 : ¬ s = 208 := fun z => by
             first
             | exact absurd (h8.no z).1 (by omega)
             | exact absurd (h8.no z).2 c24
           have n1 : ¬ s = 211 := fun z => by
             first
             | exact absurd (h11.no z).1 (by omega)
             | exact absurd (h11.no z).2 c45
           have n2 : ¬ s = 223 := fun z => by
             first
             | exact absurd (h23.no z).1 (by omega)
             | exact absurd (h23.no z).2 c64
           have n3 : ¬ s = 224 := fun z => by
             first
             | exact absurd (h24.no z).1 (by omega)
             | exact absurd (h24.no z).2 c87
           have n4 : ¬ s = 225 := fun z => by
             first
             | exact absurd (h25.no z).1 (by omega)
             | exact absurd (h25.no z).2 c108
           have n5 : ¬ s = 226 := fun z => by
             first
             | exact absurd (h26.no z).1 (by omega)
             | exact absurd (h26.no z).2 c129
           have n6 : ¬ s = 210 := fun z => by
             first
             | exact absurd (h10.no z).1 (by omega)
             | exact absurd (h10.no z).2 c146
           have n7 : ¬ s = 212 := fun z => by
             first
             | exact absurd (h12.no z).1 (by omega)
             | exact absurd (h12.no z).2 c168
           have n8 : ¬ s = 227 := fun z => by
             first
             | exact absurd (h27.no z).1 (by omega)
             | exact absurd (h27.no z).2 c192
           refine au_pe ?_ rfl
           unfold nmI
           rw [if_neg n0, if_neg n1, if_neg n2, if_neg n3, if_neg n4, if_neg n5, if_neg n6, if_neg n7, if_neg n8])
    · have c24 := au_cmp_nef c24
      refine au_iconst dX2_nameOf_27 rfl rfl ?_
      refine au_iret dX2_nameOf_28 rfl rfl (Nat.le_of_ble_eq_true rfl) (Nat.le_of_ble_eq_true rfl) ?_
      first
      | exact au_pe (show 0 = nmI s by rw [h8.yes (by omega) c24]; rfl) rfl
      | exact au_pe (show 1 = nmI s by rw [h11.yes (by omega) c45]; rfl) rfl
      | exact au_pe (show 2 = nmI s by rw [h23.yes (by omega) c64]; rfl) rfl
      | exact au_pe (show 3 = nmI s by rw [h24.yes (by omega) c87]; rfl) rfl
      | exact au_pe (show 4 = nmI s by rw [h25.yes (by omega) c108]; rfl) rfl
      | exact au_pe (show 5 = nmI s by rw [h26.yes (by omega) c129]; rfl) rfl
      | exact au_pe (show 6 = nmI s by rw [h10.yes (by omega) c146]; rfl) rfl
      | exact au_pe (show 7 = nmI s by rw [h12.yes (by omega) c168]; rfl) rfl
      | exact au_pe (show 8 = nmI s by rw [h27.yes (by omega) c192]; rfl) rfl
      | (skip
         have n0 : ¬ s = 208 := fun z => by
           first
           | exact absurd (h8.no z).1 (by omega)
           | exact absurd (h8.no z).2 c24
         have n1 : ¬ s = 211 := fun z => by
           first
           | exact absurd (h11.no z).1 (by omega)
           | exact absurd (h11.no z).2 c45
         have n2 : ¬ s = 223 := fun z => by
           first
           | exact absurd (h23.no z).1 (by omega)
           | exact absurd (h23.no z).2 c64
         have n3 : ¬ s = 224 := fun z => by
           first
           | exact absurd (h24.no z).1 (by omega)
           | exact absurd (h24.no z).2 c87
         have n4 : ¬ s = 225 := fun z => by
           first
           | exact absurd (h25.no z).1 (by omega)
           | exact absurd (h25.no z).2 c108
         have n5 : ¬ s = 226 := fun z => by
           first
           | exact absurd (h26.no z).1 (by omega)
           | exact absurd (h26.no z).2 c129
         have n6 : ¬ s = 210 := fun z => by
           first
           | exact absurd (h10.no z).1 (by omega)
           | exact absurd (h10.no z).2 c146
         have n7 : ¬ s = 212 := fun z => by
           first
           | exact absurd (h12.no z).1 (by omega)
           | exact absurd (h12.no z).2 c168
         have n8 : ¬ s = 227 := fun z => by
           first
           | exact absurd (h27.no z).1 (by omega)
           | exact absurd (h27.no z).2 c192
         refine au_pe ?_ rfl
         unfold nmI
         rw [if_neg n0, if_neg n1, if_neg n2, if_neg n3, if_neg n4, if_neg n5, if_neg n6, if_neg n7, if_neg n8])
  · refine au_iconst dX2_nameOf_8 rfl rfl ?_
    refine au_iret dX2_nameOf_9 rfl rfl (Nat.le_of_ble_eq_true rfl) (Nat.le_of_ble_eq_true rfl) ?_
    first
    | exact au_pe (show 0 = nmI s by rw [h8.yes (by omega) c24]; rfl) rfl
    | exact au_pe (show 1 = nmI s by rw [h11.yes (by omega) c45]; rfl) rfl
    | exact au_pe (show 2 = nmI s by rw [h23.yes (by omega) c64]; rfl) rfl
    | exact au_pe (show 3 = nmI s by rw [h24.yes (by omega) c87]; rfl) rfl
    | exact au_pe (show 4 = nmI s by rw [h25.yes (by omega) c108]; rfl) rfl
    | exact au_pe (show 5 = nmI s by rw [h26.yes (by omega) c129]; rfl) rfl
    | exact au_pe (show 6 = nmI s by rw [h10.yes (by omega) c146]; rfl) rfl
    | exact au_pe (show 7 = nmI s by rw [h12.yes (by omega) c168]; rfl) rfl
    | exact au_pe (show 8 = nmI s by rw [h27.yes (by omega) c192]; rfl) rfl
    | (skip
       have n0 : ¬ s = 208 := fun z => by
         first
         | exact absurd (h8.no z).1 (by omega)
         | exact absurd (h8.no z).2 c24
       have n1 : ¬ s = 211 := fun z => by
         first
         | exact absurd (h11.no z).1 (by omega)
         | exact absurd (h11.no z).2 c45
       have n2 : ¬ s = 223 := fun z => by
         first
         | exact absurd (h23.no z).1 (by omega)
         | exact absurd (h23.no z).2 c64
       have n3 : ¬ s = 224 := fun z => by
         first
         | exact absurd (h24.no z).1 (by omega)
         | exact absurd (h24.no z).2 c87
       have n4 : ¬ s = 225 := fun z => by
         first
         | exact absurd (h25.no z).1 (by omega)
         | exact absurd (h25.no z).2 c108
       have n5 : ¬ s = 226 := fun z => by
         first
         | exact absurd (h26.no z).1 (by omega)
         | exact absurd (h26.no z).2 c129
       have n6 : ¬ s = 210 := fun z => by
         first
         | exact absurd (h10.no z).1 (by omega)
         | exact absurd (h10.no z).2 c146
       have n7 : ¬ s = 212 := fun z => by
         first
         | exact absurd (h12.no z).1 (by omega)
         | exact absurd (h12.no z).2 c168
       have n8 : ¬ s = 227 := fun z => by
         first
         | exact absurd (h27.no z).1 (by omega)
         | exact absurd (h27.no z).2 c192
       refine au_pe ?_ rfl
       unfold nmI
       rw [if_neg n0, if_neg n1, if_neg n2, if_neg n3, if_neg n4, if_neg n5, if_neg n6, if_neg n7, if_neg n8])
theorem kX2_isOf (G : au_G) (j kd : Int) (mi si hi sl : au_A → Int → Int) (r : au_A → Int → Option au_A) (nx : Nat) (hF : Fix r) (hkd : si MO 14 = kd ∧ 0 ≤ kd ∧ kd ≤ 2) (hj : j < 9) : au_Ctr G yX2_isOf cX2_isOf 2 (some .boolean) 0 0 0 [au_r MO, au_i j] (mi, si, hi, sl, r, nx) (au_pure (au_i (au_b (mayN kd j = true))) (mi, si, hi, sl, r, nx)) := by
  refine au_of (by decide) (Nat.le_of_ble_eq_true rfl) ?_
  show au_Go G _ _ 0 [some (au_r MO), some (au_i j)] [] (mi, si, hi, sl, r, nx) 0 0
  refine au_iload_n dX2_isOf_0 rfl ?_
  refine au_bipush dX2_isOf_1 rfl rfl ?_
  refine au_icmp_lt (tgt := 30) dX2_isOf_3 (by decide) (fun c3 => ?_) (fun c3 => ?_)
  · refine au_iconst dX2_isOf_30 rfl rfl ?_
    refine au_goto (tgt := 35) dX2_isOf_31 (by decide) ?_
    refine au_zret dX2_isOf_35 rfl (Or.inr rfl) rfl (Nat.le_of_ble_eq_true rfl) (Nat.le_of_ble_eq_true rfl) ?_
    first
    | exact au_pt (decide_eq_true (by omega)) rfl
    | exact au_pf (fun z => absurd (of_decide_eq_true z) (by omega)) rfl
  · refine au_iload_n dX2_isOf_6 rfl ?_
    refine au_bipush dX2_isOf_7 rfl rfl ?_
    refine au_icmp_ne (tgt := 23) dX2_isOf_9 (by decide) (fun c9 => ?_) (fun c9 => ?_)
    · refine au_aload_n dX2_isOf_23 rfl ?_
      refine au_getf (C := RX2) (T := TX2) (N := 35) in_X2 (by decide) rfl 14 (by decide) rfl rfl q1373 rfl dX2_isOf_24 (v := au_i (si MO 14)) (by rfl) ?_
      refine au_if_ne (tgt := 34) dX2_isOf_27 (by decide) (fun c27 => ?_) (fun c27 => ?_)
      · refine au_iconst dX2_isOf_34 rfl rfl ?_
        refine au_zret dX2_isOf_35 rfl (Or.inl rfl) rfl (Nat.le_of_ble_eq_true rfl) (Nat.le_of_ble_eq_true rfl) ?_
        first
        | exact au_pt (decide_eq_true (by omega)) rfl
        | exact au_pf (fun z => absurd (of_decide_eq_true z) (by omega)) rfl
      · refine au_iconst dX2_isOf_30 rfl rfl ?_
        refine au_goto (tgt := 35) dX2_isOf_31 (by decide) ?_
        refine au_zret dX2_isOf_35 rfl (Or.inr rfl) rfl (Nat.le_of_ble_eq_true rfl) (Nat.le_of_ble_eq_true rfl) ?_
        first
        | exact au_pt (decide_eq_true (by omega)) rfl
        | exact au_pf (fun z => absurd (of_decide_eq_true z) (by omega)) rfl
    · refine au_aload_n dX2_isOf_12 rfl ?_
      refine au_getf (C := RX2) (T := TX2) (N := 35) in_X2 (by decide) rfl 14 (by decide) rfl rfl q1373 rfl dX2_isOf_13 (v := au_i (si MO 14)) (by rfl) ?_
      refine au_iconst dX2_isOf_16 rfl rfl ?_
      refine au_icmp_eq (tgt := 34) dX2_isOf_17 (by decide) (fun c17 => ?_) (fun c17 => ?_)
      · refine au_iconst dX2_isOf_34 rfl rfl ?_
        refine au_zret dX2_isOf_35 rfl (Or.inl rfl) rfl (Nat.le_of_ble_eq_true rfl) (Nat.le_of_ble_eq_true rfl) ?_
        first
        | exact au_pt (decide_eq_true (by omega)) rfl
        | exact au_pf (fun z => absurd (of_decide_eq_true z) (by omega)) rfl
      · refine au_goto (tgt := 30) dX2_isOf_20 (by decide) ?_
        refine au_iconst dX2_isOf_30 rfl rfl ?_
        refine au_goto (tgt := 35) dX2_isOf_31 (by decide) ?_
        refine au_zret dX2_isOf_35 rfl (Or.inr rfl) rfl (Nat.le_of_ble_eq_true rfl) (Nat.le_of_ble_eq_true rfl) ?_
        first
        | exact au_pt (decide_eq_true (by omega)) rfl
        | exact au_pf (fun z => absurd (of_decide_eq_true z) (by omega)) rfl
theorem kX2_rank (G : au_G) (o : Int) (M : au_M) : au_Ctr G yX2_rank cX2_rank 1 (some .int) 0 0 0 [au_i o] M (au_pure (au_i (wRk o)) M) := by
  refine au_of (by decide) (Nat.le_of_ble_eq_true rfl) ?_
  show au_Go G _ _ 0 [some (au_i o)] [] M 0 0
  refine au_iload_n dX2_rank_0 rfl ?_
  refine au_bipush dX2_rank_1 rfl rfl ?_
  refine au_icmp_lt (tgt := 10) dX2_rank_3 (by decide) (fun c3 => ?_) (fun c3 => ?_)
  · refine au_iload_n dX2_rank_10 rfl ?_
    refine au_bipush dX2_rank_11 rfl rfl ?_
    refine au_icmp_ne (tgt := 20) dX2_rank_13 (by decide) (fun c13 => ?_) (fun c13 => ?_)
    · refine au_iload_n dX2_rank_20 rfl ?_
      refine au_bipush dX2_rank_21 rfl rfl ?_
      refine au_icmp_ne (tgt := 30) dX2_rank_23 (by decide) (fun c23 => ?_) (fun c23 => ?_)
      · refine au_iload_n dX2_rank_30 rfl ?_
        refine au_bipush dX2_rank_31 rfl rfl ?_
        refine au_icmp_ne (tgt := 40) dX2_rank_33 (by decide) (fun c33 => ?_) (fun c33 => ?_)
        · refine au_iload_n dX2_rank_40 rfl ?_
          refine au_bipush dX2_rank_41 rfl rfl ?_
          refine au_icmp_lt (tgt := 50) dX2_rank_43 (by decide) (fun c43 => ?_) (fun c43 => ?_)
          · refine au_iload_n dX2_rank_50 rfl ?_
            refine au_iconst dX2_rank_51 rfl rfl ?_
            refine au_icmp_eq (tgt := 65) dX2_rank_52 (by decide) (fun c52 => ?_) (fun c52 => ?_)
            · refine au_bipush dX2_rank_65 rfl rfl ?_
              refine au_goto (tgt := 82) dX2_rank_67 (by decide) ?_
              refine au_iret dX2_rank_82 rfl rfl (Nat.le_of_ble_eq_true rfl) (Nat.le_of_ble_eq_true rfl) ?_
              exact au_pe (by unfold wRk; omega) rfl
              
            · refine au_iload_n dX2_rank_55 rfl ?_
              refine au_iconst dX2_rank_56 rfl rfl ?_
              refine au_icmp_eq (tgt := 65) dX2_rank_57 (by decide) (fun c57 => ?_) (fun c57 => ?_)
              · refine au_bipush dX2_rank_65 rfl rfl ?_
                refine au_goto (tgt := 82) dX2_rank_67 (by decide) ?_
                refine au_iret dX2_rank_82 rfl rfl (Nat.le_of_ble_eq_true rfl) (Nat.le_of_ble_eq_true rfl) ?_
                exact au_pe (by unfold wRk; omega) rfl
                
              · refine au_iload_n dX2_rank_60 rfl ?_
                refine au_iconst dX2_rank_61 rfl rfl ?_
                refine au_icmp_ne (tgt := 70) dX2_rank_62 (by decide) (fun c62 => ?_) (fun c62 => ?_)
                · refine au_iload_n dX2_rank_70 rfl ?_
                  refine au_bipush dX2_rank_71 rfl rfl ?_
                  refine au_icmp_lt (tgt := 81) dX2_rank_73 (by decide) (fun c73 => ?_) (fun c73 => ?_)
                  · refine au_iconst dX2_rank_81 rfl rfl ?_
                    refine au_iret dX2_rank_82 rfl rfl (Nat.le_of_ble_eq_true rfl) (Nat.le_of_ble_eq_true rfl) ?_
                    exact au_pe (by unfold wRk; omega) rfl
                    
                  · refine au_bipush dX2_rank_76 rfl rfl ?_
                    refine au_goto (tgt := 82) dX2_rank_78 (by decide) ?_
                    refine au_iret dX2_rank_82 rfl rfl (Nat.le_of_ble_eq_true rfl) (Nat.le_of_ble_eq_true rfl) ?_
                    exact au_pe (by unfold wRk; omega) rfl
                    
                · refine au_bipush dX2_rank_65 rfl rfl ?_
                  refine au_goto (tgt := 82) dX2_rank_67 (by decide) ?_
                  refine au_iret dX2_rank_82 rfl rfl (Nat.le_of_ble_eq_true rfl) (Nat.le_of_ble_eq_true rfl) ?_
                  exact au_pe (by unfold wRk; omega) rfl
                  
          · refine au_iconst dX2_rank_46 rfl rfl ?_
            refine au_goto (tgt := 82) dX2_rank_47 (by decide) ?_
            refine au_iret dX2_rank_82 rfl rfl (Nat.le_of_ble_eq_true rfl) (Nat.le_of_ble_eq_true rfl) ?_
            exact au_pe (by unfold wRk; omega) rfl
            
        · refine au_iconst dX2_rank_36 rfl rfl ?_
          refine au_goto (tgt := 82) dX2_rank_37 (by decide) ?_
          refine au_iret dX2_rank_82 rfl rfl (Nat.le_of_ble_eq_true rfl) (Nat.le_of_ble_eq_true rfl) ?_
          exact au_pe (by unfold wRk; omega) rfl
          
      · refine au_iconst dX2_rank_26 rfl rfl ?_
        refine au_goto (tgt := 82) dX2_rank_27 (by decide) ?_
        refine au_iret dX2_rank_82 rfl rfl (Nat.le_of_ble_eq_true rfl) (Nat.le_of_ble_eq_true rfl) ?_
        exact au_pe (by unfold wRk; omega) rfl
        
    · refine au_iconst dX2_rank_16 rfl rfl ?_
      refine au_goto (tgt := 82) dX2_rank_17 (by decide) ?_
      refine au_iret dX2_rank_82 rfl rfl (Nat.le_of_ble_eq_true rfl) (Nat.le_of_ble_eq_true rfl) ?_
      exact au_pe (by unfold wRk; omega) rfl
      
  · refine au_iconst dX2_rank_6 rfl rfl ?_
    refine au_goto (tgt := 82) dX2_rank_7 (by decide) ?_
    refine au_iret dX2_rank_82 rfl rfl (Nat.le_of_ble_eq_true rfl) (Nat.le_of_ble_eq_true rfl) ?_
    exact au_pe (by unfold wRk; omega) rfl
    
