/-! THE MODEL: a sum run (printed by tools/m43.py) -/
set_option maxRecDepth 100000
set_option maxHeartbeats 4000000

theorem Vw_pu {m : au_A → Int → Int} {A : au_A} {s : List Int} {k v : Int} (hk : k = (s.length : Int)) (h : Vw (m A) s) : Vw (au_up m A k v A) (v :: s) :=
  ⟨if_pos ⟨rfl, hk.symm⟩, Vw_congr s (fun j _ h1 => if_neg (fun z => by have := z.2; omega)) h⟩
theorem up_neF (m : au_A → Int → Int) {A C : au_A} (k v : Int) (h : C ≠ A) : au_up m A k v C = m C := by
  funext j
  exact if_neg (fun z => h z.1)
theorem jnF_01 {o x y : Int} (hx : x = 0 ∨ x = 1) (hy : y = 0 ∨ y = 1) : jnF o x y = 0 ∨ jnF o x y = 1 := by
  unfold jnF
  repeat' split
  all_goals omega
theorem rkV_bd {B : Int → Int} {n : Int} (hB : Bs B n) (o : Int) : I33 (rkV B n o) := by
  unfold rkV
  split
  · unfold I33; omega
  · have := rank_bd hB (o := o) (by omega) (by omega)
    unfold I33; omega
theorem neg_bd {v : Int} (h : I33 v) : I33 (-v) := by unfold I33 at h ⊢; omega

theorem kX2_summedUp (G : au_G) (t q lo hh y : Int) (c0 : List (Int × Int)) (nm : Int → Int) (mi si hi sl : au_A → Int → Int) (r : au_A → Int → Option au_A) (nx : Nat) (hF : Fix r) (n : Int) (hN : mi MA 0 = n) (B : Int → Int) (hE : ∀ o, 0 ≤ o → o < 10 → mi MA (90 + o) = B o) (hB : Bs B n) (ht : 0 ≤ t ∧ t < 4) (hq : 0 ≤ q ∧ q < 24) (hlo : mi MT (705 * t + 1 + 4 * q + 1) = lo) (hhh : mi MT (705 * t + 1 + 4 * q + 2) = hh) (hlo0 : 0 ≤ lo) (hh1 : hh = lo + (c0.length : Int)) (hh2 : hh ≤ 304) (hc0 : CdAt (mi MT) (705 * t + 97) lo c0) (hnm : ∀ k, 0 ≤ k → k < 9 → si MNamed k = nm k) (hnI : ∀ k, 0 ≤ k → k < 9 → I33 (nm k)) (hrun : runL nm (rkV B n) c0 ([], []) = some ([y], [])) : au_Ctr G yX2_summedUp cX2_summedUp 10 (some .long) 2 0 0 [au_r MO, au_i t, au_i q] (mi, si, hi, sl, r, nx) (fun rv M' => rv = some (au_l y) ∧ ∃ sj slj : au_A → Int → Int, M' = (mi, sj, hi, slj, r, nx) ∧ (∀ A, A ≠ MTruth → sj A = si A) ∧ ∀ A, A ≠ MVal → slj A = sl A) := by
  refine au_of (by decide) (Nat.le_of_ble_eq_true rfl) ?_
  have hb0 := hB.2.1
  have hb1 := hB.1
  show au_Go G _ _ 0 [some (au_r MO), some (au_i t), some (au_i q), none, none, none, none, none, none, none] [] (mi, si, hi, sl, r, nx) 0 0
  refine au_sipush dX2_summedUp_0 rfl rfl ?_
  refine au_iload_n dX2_summedUp_3 rfl ?_
  refine au_imul dX2_summedUp_4 (by omega) (by omega) ?_
  refine au_iconst dX2_summedUp_5 rfl rfl ?_
  refine au_iadd dX2_summedUp_6 (by omega) (by omega) ?_
  refine au_iconst dX2_summedUp_7 rfl rfl ?_
  refine au_iload_n dX2_summedUp_8 rfl ?_
  refine au_imul dX2_summedUp_9 (by omega) (by omega) ?_
  refine au_iadd dX2_summedUp_10 (by omega) (by omega) ?_
  refine au_istore_n dX2_summedUp_11 (show 3 < 10 by decide) ?_
  show au_Go G _ _ 12 [some (au_r MO), some (au_i t), some (au_i q), some (au_i (((705 * t) + 1) + (4 * q))), none, none, none, none, none, none] [] (mi, si, hi, sl, r, nx) 0 0
  refine au_sipush dX2_summedUp_12 rfl rfl ?_
  refine au_iload_n dX2_summedUp_15 rfl ?_
  refine au_imul dX2_summedUp_16 (by omega) (by omega) ?_
  refine au_bipush dX2_summedUp_17 rfl rfl ?_
  refine au_iadd dX2_summedUp_19 (by omega) (by omega) ?_
  refine au_istore dX2_summedUp_20 (show 4 < 10 by decide) ?_
  show au_Go G _ _ 22 [some (au_r MO), some (au_i t), some (au_i q), some (au_i (((705 * t) + 1) + (4 * q))), some (au_i ((705 * t) + 97)), none, none, none, none, none] [] (mi, si, hi, sl, r, nx) 0 0
  refine au_iconst dX2_summedUp_22 rfl rfl ?_
  refine au_istore dX2_summedUp_23 (show 5 < 10 by decide) ?_
  show au_Go G _ _ 25 [some (au_r MO), some (au_i t), some (au_i q), some (au_i (((705 * t) + 1) + (4 * q))), some (au_i ((705 * t) + 97)), some (au_i 0), none, none, none, none] [] (mi, si, hi, sl, r, nx) 0 0
  refine au_iconst dX2_summedUp_25 rfl rfl ?_
  refine au_istore dX2_summedUp_26 (show 6 < 10 by decide) ?_
  show au_Go G _ _ 28 [some (au_r MO), some (au_i t), some (au_i q), some (au_i (((705 * t) + 1) + (4 * q))), some (au_i ((705 * t) + 97)), some (au_i 0), some (au_i 0), none, none, none] [] (mi, si, hi, sl, r, nx) 0 0
  refine au_aload_n dX2_summedUp_28 rfl ?_
  refine au_getf (C := RX2) (T := TX2) (N := 35) in_X2 (by decide) rfl 2 (by decide) rfl rfl q1361 rfl dX2_summedUp_29 (v := au_r MT) (congrArg au_q (fx_MO_2 hF)) ?_
  refine au_iload_n dX2_summedUp_32 rfl ?_
  refine au_iconst dX2_summedUp_33 rfl rfl ?_
  refine au_iadd dX2_summedUp_34 (by omega) (by omega) ?_
  refine au_iald dX2_summedUp_35 rfl (by omega) (by show _ < ((2820 : Nat) : Int); omega) (v := au_i (lo)) (congrArg au_i hlo) ?_
  refine au_istore dX2_summedUp_36 (show 7 < 10 by decide) ?_
  show au_Go G _ _ 38 [some (au_r MO), some (au_i t), some (au_i q), some (au_i (((705 * t) + 1) + (4 * q))), some (au_i ((705 * t) + 97)), some (au_i 0), some (au_i 0), some (au_i lo), none, none] [] (mi, si, hi, sl, r, nx) 0 0
  have hl : ∀ (c : List (Int × Int)) (i z w : Int) (vs ts : List Int) (sj slj : au_A → Int → Int) (a8 a9 : Option au_V), CdAt (mi MT) (705 * t + 97) i c → hh = i + (c.length : Int) → runL nm (rkV B n) c (vs, ts) = some ([y], []) → Vw (slj MVal) vs → Vw (sj MTruth) ts → allI (vs, ts) → z = (vs.length : Int) → w = (ts.length : Int) → (z ≤ i ∧ w ≤ i) → 0 ≤ i → (∀ A, A ≠ MTruth → sj A = si A) → (∀ A, A ≠ MVal → slj A = sl A) → au_Go G (yX2_summedUp.cls, cX2_summedUp, 10, (some .long), au_rm 2 0 0, yX2_summedUp.name) (au_QM G (au_rm 2 0 0) (fun rv M' => rv = some (au_l y) ∧ ∃ sj slj : au_A → Int → Int, M' = (mi, sj, hi, slj, r, nx) ∧ (∀ A, A ≠ MTruth → sj A = si A) ∧ ∀ A, A ≠ MVal → slj A = sl A)) 38 [some (au_r MO), some (au_i t), some (au_i q), some (au_i (705 * t + 1 + 4 * q)), some (au_i (705 * t + 97)), some (au_i (z)), some (au_i (w)), some (au_i (i)), a8, a9] [] (mi, sj, hi, slj, r, nx) 0 0 := by
    intro c
    induction c with
    | nil =>
      intro i z w vs ts sj slj a8 a9 hcd hhi hr hV hW hI hz hw hzi hi0 hf1 hf2
      have hcl : hh = i := by rw [hhi]; simp
      simp only [runL, Option.some.injEq, Prod.mk.injEq] at hr
      obtain ⟨e1, e2⟩ := hr
      subst e1
      refine au_iload dX2_summedUp_38 rfl ?_
      refine au_aload_n dX2_summedUp_40 rfl ?_
      refine au_getf (C := RX2) (T := TX2) (N := 35) in_X2 (by decide) rfl 2 (by decide) rfl rfl q1361 rfl dX2_summedUp_41 (v := au_r MT) (congrArg au_q (fx_MO_2 hF)) ?_
      refine au_iload_n dX2_summedUp_44 rfl ?_
      refine au_iconst dX2_summedUp_45 rfl rfl ?_
      refine au_iadd dX2_summedUp_46 (by omega) (by omega) ?_
      refine au_iald dX2_summedUp_47 rfl (by omega) (by show _ < ((2820 : Nat) : Int); omega) (v := au_i (hh)) (congrArg au_i hhh) ?_
      refine au_icmp_ge (tgt := 406) dX2_summedUp_48 (by decide) (fun c48 => ?_) (fun c48 => ?_)
      · refine au_aload_n dX2_summedUp_406 rfl ?_
        refine au_getf (C := RX2) (T := TX2) (N := 35) in_X2 (by decide) rfl 21 (by decide) rfl rfl q1380 rfl dX2_summedUp_407 (v := au_r MVal) (congrArg au_q (fx_MO_21 hF)) ?_
        refine au_iconst dX2_summedUp_410 rfl rfl ?_
        refine au_lald dX2_summedUp_411 rfl (by omega) (by show _ < ((330 : Nat) : Int); omega) (v := au_l (y)) (congrArg au_l hV.1) ?_
        exact au_lret dX2_summedUp_412 rfl rfl (Nat.le_of_ble_eq_true rfl) (Nat.le_of_ble_eq_true rfl) (⟨rfl, sj, slj, rfl, hf1, hf2⟩)
      · exfalso; omega
    | cons p c ih =>
      intro i z w vs ts sj slj a8 a9 hcd hhi hr hV hW hI hz hw hzi hi0 hf1 hf2
      obtain ⟨o, v⟩ := p
      obtain ⟨hc1, hc2, hcd⟩ := hcd
      simp only at hc1 hc2
      rw [List.length_cons] at hhi
      have hsj : ∀ j, sj MNamed j = si MNamed j := fun j => by rw [hf1 MNamed (by decide)]
      simp only [runL] at hr
      cases hs : stp nm (rkV B n) o v (vs, ts) with
      | none => rw [hs] at hr; cases hr
      | some s2 =>
      rw [hs] at hr
      simp only at hr
      refine au_iload dX2_summedUp_38 rfl ?_
      refine au_aload_n dX2_summedUp_40 rfl ?_
      refine au_getf (C := RX2) (T := TX2) (N := 35) in_X2 (by decide) rfl 2 (by decide) rfl rfl q1361 rfl dX2_summedUp_41 (v := au_r MT) (congrArg au_q (fx_MO_2 hF)) ?_
      refine au_iload_n dX2_summedUp_44 rfl ?_
      refine au_iconst dX2_summedUp_45 rfl rfl ?_
      refine au_iadd dX2_summedUp_46 (by omega) (by omega) ?_
      refine au_iald dX2_summedUp_47 rfl (by omega) (by show _ < ((2820 : Nat) : Int); omega) (v := au_i (hh)) (congrArg au_i hhh) ?_
      refine au_icmp_ge (tgt := 406) dX2_summedUp_48 (by decide) (fun c48 => ?_) (fun c48 => ?_)
      · exfalso; omega
      · refine au_aload_n dX2_summedUp_51 rfl ?_
        refine au_getf (C := RX2) (T := TX2) (N := 35) in_X2 (by decide) rfl 2 (by decide) rfl rfl q1361 rfl dX2_summedUp_52 (v := au_r MT) (congrArg au_q (fx_MO_2 hF)) ?_
        refine au_iload dX2_summedUp_55 rfl ?_
        refine au_iconst dX2_summedUp_57 rfl rfl ?_
        refine au_iload dX2_summedUp_58 rfl ?_
        refine au_imul dX2_summedUp_60 (by omega) (by omega) ?_
        refine au_iadd dX2_summedUp_61 (by omega) (by omega) ?_
        refine au_iald dX2_summedUp_62 rfl (by omega) (by show _ < ((2820 : Nat) : Int); omega) (v := au_i (o)) (congrArg au_i hc1) ?_
        refine au_istore dX2_summedUp_63 (show 8 < 10 by decide) ?_
        show au_Go G _ _ 65 [some (au_r MO), some (au_i t), some (au_i q), some (au_i (705 * t + 1 + 4 * q)), some (au_i (705 * t + 97)), some (au_i z), some (au_i w), some (au_i i), some (au_i o), a9] [] (mi, sj, hi, slj, r, nx) 0 0
        refine au_aload_n dX2_summedUp_65 rfl ?_
        refine au_getf (C := RX2) (T := TX2) (N := 35) in_X2 (by decide) rfl 2 (by decide) rfl rfl q1361 rfl dX2_summedUp_66 (v := au_r MT) (congrArg au_q (fx_MO_2 hF)) ?_
        refine au_iload dX2_summedUp_69 rfl ?_
        refine au_iconst dX2_summedUp_71 rfl rfl ?_
        refine au_iload dX2_summedUp_72 rfl ?_
        refine au_imul dX2_summedUp_74 (by omega) (by omega) ?_
        refine au_iadd dX2_summedUp_75 (by omega) (by omega) ?_
        refine au_iconst dX2_summedUp_76 rfl rfl ?_
        refine au_iadd dX2_summedUp_77 (by omega) (by omega) ?_
        refine au_iald dX2_summedUp_78 rfl (by omega) (by show _ < ((2820 : Nat) : Int); omega) (v := au_i (v)) (congrArg au_i hc2) ?_
        refine au_istore dX2_summedUp_79 (show 9 < 10 by decide) ?_
        show au_Go G _ _ 81 [some (au_r MO), some (au_i t), some (au_i q), some (au_i (705 * t + 1 + 4 * q)), some (au_i (705 * t + 97)), some (au_i z), some (au_i w), some (au_i i), some (au_i o), some (au_i v)] [] (mi, sj, hi, slj, r, nx) 0 0
        refine au_iload dX2_summedUp_81 rfl ?_
        refine au_iconst dX2_summedUp_83 rfl rfl ?_
        refine au_icmp_gt (tgt := 119) dX2_summedUp_84 (by decide) (fun c84 => ?_) (fun c84 => ?_)
        · refine au_iload dX2_summedUp_119 rfl ?_
          refine au_iconst dX2_summedUp_121 rfl rfl ?_
          refine au_icmp_ne (tgt := 160) dX2_summedUp_122 (by decide) (fun c122 => ?_) (fun c122 => ?_)
          · refine au_iload dX2_summedUp_160 rfl ?_
            refine au_iconst dX2_summedUp_162 rfl rfl ?_
            refine au_icmp_eq (tgt := 172) dX2_summedUp_163 (by decide) (fun c163 => ?_) (fun c163 => ?_)
            · refine au_aload_n dX2_summedUp_172 rfl ?_
              refine au_getf (C := RX2) (T := TX2) (N := 35) in_X2 (by decide) rfl 21 (by decide) rfl rfl q1380 rfl dX2_summedUp_173 (v := au_r MVal) (congrArg au_q (fx_MO_21 hF)) ?_
              refine au_iload dX2_summedUp_176 rfl ?_
              refine au_iconst dX2_summedUp_178 rfl rfl ?_
              refine au_isub dX2_summedUp_179 (by omega) (by omega) ?_
              refine au_iload dX2_summedUp_180 rfl ?_
              refine au_iconst dX2_summedUp_182 rfl rfl ?_
              refine au_icmp_ne (tgt := 199) dX2_summedUp_183 (by decide) (fun c183 => ?_) (fun c183 => ?_)
              · obtain ⟨b, r2, e1, es⟩ : ∃ b r, vs = b :: r ∧ s2 = (rkV B n b :: r, ts) := by rcases stp_inv hs with ⟨h, g⟩ | ⟨h, g⟩ | ⟨h, g⟩ | ⟨h, g⟩ | ⟨h, g⟩ | ⟨h, g⟩ | ⟨h, g⟩ | ⟨h, g⟩ | ⟨h, g⟩ | ⟨h, g⟩ <;> first | exact g | (exfalso; omega)
                subst e1
                subst es
                rw [List.length_cons] at hz
                have hVb : ∀ j : Int, j = (r2.length : Int) → slj MVal j = b := fun j hj => by rw [hj]; exact hV.1
                have hIb : I33 b := hI.1 b (by simp)
                have hIb2 := hIb
                unfold I33 at hIb2
                have hIr : ∀ x ∈ r2, I33 x := fun x hx => hI.1 x (by simp [hx])
                refine au_aload_n dX2_summedUp_199 rfl ?_
                refine au_aload_n dX2_summedUp_200 rfl ?_
                refine au_getf (C := RX2) (T := TX2) (N := 35) in_X2 (by decide) rfl 21 (by decide) rfl rfl q1380 rfl dX2_summedUp_201 (v := au_r MVal) (congrArg au_q (fx_MO_21 hF)) ?_
                refine au_iload dX2_summedUp_204 rfl ?_
                refine au_iconst dX2_summedUp_206 rfl rfl ?_
                refine au_isub dX2_summedUp_207 (by omega) (by omega) ?_
                refine au_lald dX2_summedUp_208 rfl (by omega) (by show _ < ((330 : Nat) : Int); omega) (v := au_l (b)) (congrArg au_l (hVb _ (by omega))) ?_
                refine au_callVp (n := 1) (kX2_ranksOf G b mi sj hi slj r nx hF n hN B hE hB ) (lw_V q1742 q1744 qs104 q134 q1745) rfl (by decide +kernel) (by decide) (T := TX2) (N := 35) rfl rfl rfl rfl (Nat.le_of_ble_eq_true rfl) (Nat.le_of_ble_eq_true rfl) (Nat.le_of_ble_eq_true rfl) (Nat.le_of_ble_eq_true rfl) (Nat.le_of_ble_eq_true rfl) dX2_summedUp_209 ?_
                refine au_last dX2_summedUp_212 rfl (by decide) (by omega) (by show _ < ((330 : Nat) : Int); omega) (M' := (mi, sj, hi, (au_up slj MVal (z - 1) (rkV B n b)), r, nx)) (by rfl) ?_
                refine au_goto (tgt := 400) dX2_summedUp_213 (by decide) ?_
                refine au_iinc dX2_summedUp_400 rfl (show 7 < 10 by decide) (by omega) (by omega) (by decide) (by decide) ?_
                show au_Go G _ _ 403 [some (au_r MO), some (au_i t), some (au_i q), some (au_i (705 * t + 1 + 4 * q)), some (au_i (705 * t + 97)), some (au_i z), some (au_i w), some (au_i (i + 1)), some (au_i o), some (au_i v)] [] (mi, sj, hi, (au_up slj MVal (z - 1) (rkV B n b)), r, nx) 0 0
                refine au_goto (tgt := 38) dX2_summedUp_403 (by decide) ?_
                exact ih _ _ _ _ _ sj _ _ _ hcd (by omega) hr (Vw_pu (by omega) hV.2) (hW) (⟨fun x hx => by rcases List.mem_cons.mp hx with hx | hx; (rw [hx]; exact (rkV_bd hB _)); exact hIr x hx, fun x hx => by exact hI.2 x hx⟩) (by (try simp only [List.length_cons]) <;> omega) (by (try simp only [List.length_cons]) <;> omega) (by omega) (by omega) (hf1) (fun A hA => (up_neF _ _ _ hA).trans (hf2 A hA))
              · obtain ⟨b, r2, e1, es⟩ : ∃ b r, vs = b :: r ∧ s2 = (-b :: r, ts) := by rcases stp_inv hs with ⟨h, g⟩ | ⟨h, g⟩ | ⟨h, g⟩ | ⟨h, g⟩ | ⟨h, g⟩ | ⟨h, g⟩ | ⟨h, g⟩ | ⟨h, g⟩ | ⟨h, g⟩ | ⟨h, g⟩ <;> first | exact g | (exfalso; omega)
                subst e1
                subst es
                rw [List.length_cons] at hz
                have hVb : ∀ j : Int, j = (r2.length : Int) → slj MVal j = b := fun j hj => by rw [hj]; exact hV.1
                have hIb : I33 b := hI.1 b (by simp)
                have hIb2 := hIb
                unfold I33 at hIb2
                have hIr : ∀ x ∈ r2, I33 x := fun x hx => hI.1 x (by simp [hx])
                refine au_aload_n dX2_summedUp_186 rfl ?_
                refine au_getf (C := RX2) (T := TX2) (N := 35) in_X2 (by decide) rfl 21 (by decide) rfl rfl q1380 rfl dX2_summedUp_187 (v := au_r MVal) (congrArg au_q (fx_MO_21 hF)) ?_
                refine au_iload dX2_summedUp_190 rfl ?_
                refine au_iconst dX2_summedUp_192 rfl rfl ?_
                refine au_isub dX2_summedUp_193 (by omega) (by omega) ?_
                refine au_lald dX2_summedUp_194 rfl (by omega) (by show _ < ((330 : Nat) : Int); omega) (v := au_l (b)) (congrArg au_l (hVb _ (by omega))) ?_
                refine au_lneg dX2_summedUp_195 (by omega) ?_
                refine au_goto (tgt := 212) dX2_summedUp_196 (by decide) ?_
                refine au_last dX2_summedUp_212 rfl (by decide) (by omega) (by show _ < ((330 : Nat) : Int); omega) (M' := (mi, sj, hi, (au_up slj MVal (z - 1) (-b)), r, nx)) (by rfl) ?_
                refine au_goto (tgt := 400) dX2_summedUp_213 (by decide) ?_
                refine au_iinc dX2_summedUp_400 rfl (show 7 < 10 by decide) (by omega) (by omega) (by decide) (by decide) ?_
                show au_Go G _ _ 403 [some (au_r MO), some (au_i t), some (au_i q), some (au_i (705 * t + 1 + 4 * q)), some (au_i (705 * t + 97)), some (au_i z), some (au_i w), some (au_i (i + 1)), some (au_i o), some (au_i v)] [] (mi, sj, hi, (au_up slj MVal (z - 1) (-b)), r, nx) 0 0
                refine au_goto (tgt := 38) dX2_summedUp_403 (by decide) ?_
                exact ih _ _ _ _ _ sj _ _ _ hcd (by omega) hr (Vw_pu (by omega) hV.2) (hW) (⟨fun x hx => by rcases List.mem_cons.mp hx with hx | hx; (rw [hx]; exact (neg_bd hIb)); exact hIr x hx, fun x hx => by exact hI.2 x hx⟩) (by (try simp only [List.length_cons]) <;> omega) (by (try simp only [List.length_cons]) <;> omega) (by omega) (by omega) (hf1) (fun A hA => (up_neF _ _ _ hA).trans (hf2 A hA))
            · refine au_iload dX2_summedUp_166 rfl ?_
              refine au_iconst dX2_summedUp_168 rfl rfl ?_
              refine au_icmp_ne (tgt := 216) dX2_summedUp_169 (by decide) (fun c169 => ?_) (fun c169 => ?_)
              · refine au_iload dX2_summedUp_216 rfl ?_
                refine au_bipush dX2_summedUp_218 rfl rfl ?_
                refine au_icmp_ge (tgt := 287) dX2_summedUp_220 (by decide) (fun c220 => ?_) (fun c220 => ?_)
                · refine au_iload dX2_summedUp_287 rfl ?_
                  refine au_bipush dX2_summedUp_289 rfl rfl ?_
                  refine au_icmp_ge (tgt := 331) dX2_summedUp_291 (by decide) (fun c291 => ?_) (fun c291 => ?_)
                  · refine au_iload dX2_summedUp_331 rfl ?_
                    refine au_bipush dX2_summedUp_333 rfl rfl ?_
                    refine au_icmp_ne (tgt := 367) dX2_summedUp_335 (by decide) (fun c335 => ?_) (fun c335 => ?_)
                    · have ho6 : o = 21 ∨ o = 22 := by rcases stp_inv hs with ⟨h, g⟩ | ⟨h, g⟩ | ⟨h, g⟩ | ⟨h, g⟩ | ⟨h, g⟩ | ⟨h, g⟩ | ⟨h, g⟩ | ⟨h, g⟩ | ⟨h, g⟩ | ⟨h, g⟩ <;> omega
                      obtain ⟨y2, x, t2, e2, es⟩ : ∃ y x t, ts = y :: x :: t ∧ s2 = (vs, jnF o x y :: t) := by rcases stp_inv hs with ⟨h, g⟩ | ⟨h, g⟩ | ⟨h, g⟩ | ⟨h, g⟩ | ⟨h, g⟩ | ⟨h, g⟩ | ⟨h, g⟩ | ⟨h, g⟩ | ⟨h, g⟩ | ⟨h, g⟩ <;> first | exact g | (exfalso; omega)
                      subst e2
                      subst es
                      rw [List.length_cons, List.length_cons] at hw
                      have hTy : ∀ j : Int, j = ((x :: t2).length : Int) → sj MTruth j = y2 := fun j hj => by rw [hj]; exact hW.1
                      have hTx : ∀ j : Int, j = (t2.length : Int) → sj MTruth j = x := fun j hj => by rw [hj]; exact hW.2.1
                      have hIy : y2 = 0 ∨ y2 = 1 := hI.2 y2 (by simp)
                      have hIx : x = 0 ∨ x = 1 := hI.2 x (by simp)
                      have hIt : ∀ x ∈ t2, x = 0 ∨ x = 1 := fun x hx => hI.2 x (by simp [hx])
                      refine au_iinc dX2_summedUp_367 rfl (show 6 < 10 by decide) (by omega) (by omega) (by decide) (by decide) ?_
                      show au_Go G _ _ 370 [some (au_r MO), some (au_i t), some (au_i q), some (au_i (705 * t + 1 + 4 * q)), some (au_i (705 * t + 97)), some (au_i z), some (au_i (w + (-1))), some (au_i i), some (au_i o), some (au_i v)] [] (mi, sj, hi, slj, r, nx) 0 0
                      refine au_aload_n dX2_summedUp_370 rfl ?_
                      refine au_getf (C := RX2) (T := TX2) (N := 35) in_X2 (by decide) rfl 22 (by decide) rfl rfl q1381 rfl dX2_summedUp_371 (v := au_r MTruth) (congrArg au_q (fx_MO_22 hF)) ?_
                      refine au_iload dX2_summedUp_374 rfl ?_
                      refine au_iconst dX2_summedUp_376 rfl rfl ?_
                      refine au_isub dX2_summedUp_377 (by omega) (by omega) ?_
                      refine au_iload dX2_summedUp_378 rfl ?_
                      refine au_aload_n dX2_summedUp_380 rfl ?_
                      refine au_getf (C := RX2) (T := TX2) (N := 35) in_X2 (by decide) rfl 22 (by decide) rfl rfl q1381 rfl dX2_summedUp_381 (v := au_r MTruth) (congrArg au_q (fx_MO_22 hF)) ?_
                      refine au_iload dX2_summedUp_384 rfl ?_
                      refine au_iconst dX2_summedUp_386 rfl rfl ?_
                      refine au_isub dX2_summedUp_387 (by omega) (by omega) ?_
                      refine au_zald dX2_summedUp_388 rfl (by omega) (by show _ < ((330 : Nat) : Int); omega) (v := au_i (x)) (congrArg au_i (hTx _ (by omega))) ?_
                      refine au_aload_n dX2_summedUp_389 rfl ?_
                      refine au_getf (C := RX2) (T := TX2) (N := 35) in_X2 (by decide) rfl 22 (by decide) rfl rfl q1381 rfl dX2_summedUp_390 (v := au_r MTruth) (congrArg au_q (fx_MO_22 hF)) ?_
                      refine au_iload dX2_summedUp_393 rfl ?_
                      refine au_zald dX2_summedUp_395 rfl (by omega) (by show _ < ((330 : Nat) : Int); omega) (v := au_i (y2)) (congrArg au_i (hTy _ (by rw [List.length_cons]; omega))) ?_
                      refine au_callSp (n := 3) (kX2_joined G o x y2 ho6 hIx hIy _) (lw_S q1761 q1762 q134 q1763) (by decide +kernel) rfl rfl rfl (Nat.le_of_ble_eq_true rfl) (Nat.le_of_ble_eq_true rfl) (Nat.le_of_ble_eq_true rfl) (Nat.le_of_ble_eq_true rfl) (Nat.le_of_ble_eq_true rfl) dX2_summedUp_396 ?_
                      refine au_zast dX2_summedUp_399 rfl (by decide) (by omega) (by show _ < ((330 : Nat) : Int); omega) (jnF_01 hIx hIy) (M' := (mi, (au_up sj MTruth ((w + (-1)) - 1) (jnF o x y2)), hi, slj, r, nx)) (by rfl) ?_
                      refine au_iinc dX2_summedUp_400 rfl (show 7 < 10 by decide) (by omega) (by omega) (by decide) (by decide) ?_
                      show au_Go G _ _ 403 [some (au_r MO), some (au_i t), some (au_i q), some (au_i (705 * t + 1 + 4 * q)), some (au_i (705 * t + 97)), some (au_i z), some (au_i (w + (-1))), some (au_i (i + 1)), some (au_i o), some (au_i v)] [] (mi, (au_up sj MTruth ((w + (-1)) - 1) (jnF o x y2)), hi, slj, r, nx) 0 0
                      refine au_goto (tgt := 38) dX2_summedUp_403 (by decide) ?_
                      exact ih _ _ _ _ _ _ slj _ _ hcd (by omega) hr (hV) (Vw_pu (by omega) hW.2.2) (⟨fun x hx => by exact hI.1 x hx, fun x hx => by rcases List.mem_cons.mp hx with hx | hx; (rw [hx]; exact (jnF_01 hIx hIy)); exact hIt x hx⟩) (by (try simp only [List.length_cons]) <;> omega) (by (try simp only [List.length_cons]) <;> omega) (by omega) (by omega) (fun A hA => (up_neF _ _ _ hA).trans (hf1 A hA)) (hf2)
                    · obtain ⟨x, t2, e2, es⟩ : ∃ x t, ts = x :: t ∧ s2 = (vs, (1 - x) :: t) := by rcases stp_inv hs with ⟨h, g⟩ | ⟨h, g⟩ | ⟨h, g⟩ | ⟨h, g⟩ | ⟨h, g⟩ | ⟨h, g⟩ | ⟨h, g⟩ | ⟨h, g⟩ | ⟨h, g⟩ | ⟨h, g⟩ <;> first | exact g | (exfalso; omega)
                      subst es
                      subst e2
                      rw [List.length_cons] at hw
                      have hTx : ∀ j : Int, j = (t2.length : Int) → sj MTruth j = x := fun j hj => by rw [hj]; exact hW.1
                      have hIx : x = 0 ∨ x = 1 := hI.2 x (by simp)
                      have hIt : ∀ x ∈ t2, x = 0 ∨ x = 1 := fun x hx => hI.2 x (by simp [hx])
                      refine au_aload_n dX2_summedUp_338 rfl ?_
                      refine au_getf (C := RX2) (T := TX2) (N := 35) in_X2 (by decide) rfl 22 (by decide) rfl rfl q1381 rfl dX2_summedUp_339 (v := au_r MTruth) (congrArg au_q (fx_MO_22 hF)) ?_
                      refine au_iload dX2_summedUp_342 rfl ?_
                      refine au_iconst dX2_summedUp_344 rfl rfl ?_
                      refine au_isub dX2_summedUp_345 (by omega) (by omega) ?_
                      refine au_aload_n dX2_summedUp_346 rfl ?_
                      refine au_getf (C := RX2) (T := TX2) (N := 35) in_X2 (by decide) rfl 22 (by decide) rfl rfl q1381 rfl dX2_summedUp_347 (v := au_r MTruth) (congrArg au_q (fx_MO_22 hF)) ?_
                      refine au_iload dX2_summedUp_350 rfl ?_
                      refine au_iconst dX2_summedUp_352 rfl rfl ?_
                      refine au_isub dX2_summedUp_353 (by omega) (by omega) ?_
                      refine au_zald dX2_summedUp_354 rfl (by omega) (by show _ < ((330 : Nat) : Int); omega) (v := au_i (x)) (congrArg au_i (hTx _ (by omega))) ?_
                      refine au_if_ne (tgt := 362) dX2_summedUp_355 (by decide) (fun c355 => ?_) (fun c355 => ?_)
                      · refine au_iconst dX2_summedUp_362 rfl rfl ?_
                        refine au_zast dX2_summedUp_363 rfl (by decide) (by omega) (by show _ < ((330 : Nat) : Int); omega) (by first | exact Or.inl rfl | exact Or.inr rfl) (M' := (mi, (au_up sj MTruth (w - 1) 0), hi, slj, r, nx)) (by rfl) ?_
                        refine au_goto (tgt := 400) dX2_summedUp_364 (by decide) ?_
                        refine au_iinc dX2_summedUp_400 rfl (show 7 < 10 by decide) (by omega) (by omega) (by decide) (by decide) ?_
                        show au_Go G _ _ 403 [some (au_r MO), some (au_i t), some (au_i q), some (au_i (705 * t + 1 + 4 * q)), some (au_i (705 * t + 97)), some (au_i z), some (au_i w), some (au_i (i + 1)), some (au_i o), some (au_i v)] [] (mi, (au_up sj MTruth (w - 1) 0), hi, slj, r, nx) 0 0
                        refine au_goto (tgt := 38) dX2_summedUp_403 (by decide) ?_
                        rw [show (1 : Int) - x = 0 by omega] at hr; exact ih _ _ _ _ _ _ slj _ _ hcd (by omega) hr (hV) (Vw_pu (by omega) hW.2) (⟨fun x hx => by exact hI.1 x hx, fun x hx => by rcases List.mem_cons.mp hx with hx | hx; (rw [hx]; exact (Or.inl rfl)); exact hIt x hx⟩) (by (try simp only [List.length_cons]) <;> omega) (by (try simp only [List.length_cons]) <;> omega) (by omega) (by omega) (fun A hA => (up_neF _ _ _ hA).trans (hf1 A hA)) (hf2)
                      · refine au_iconst dX2_summedUp_358 rfl rfl ?_
                        refine au_goto (tgt := 363) dX2_summedUp_359 (by decide) ?_
                        refine au_zast dX2_summedUp_363 rfl (by decide) (by omega) (by show _ < ((330 : Nat) : Int); omega) (by first | exact Or.inl rfl | exact Or.inr rfl) (M' := (mi, (au_up sj MTruth (w - 1) 1), hi, slj, r, nx)) (by rfl) ?_
                        refine au_goto (tgt := 400) dX2_summedUp_364 (by decide) ?_
                        refine au_iinc dX2_summedUp_400 rfl (show 7 < 10 by decide) (by omega) (by omega) (by decide) (by decide) ?_
                        show au_Go G _ _ 403 [some (au_r MO), some (au_i t), some (au_i q), some (au_i (705 * t + 1 + 4 * q)), some (au_i (705 * t + 97)), some (au_i z), some (au_i w), some (au_i (i + 1)), some (au_i o), some (au_i v)] [] (mi, (au_up sj MTruth (w - 1) 1), hi, slj, r, nx) 0 0
                        refine au_goto (tgt := 38) dX2_summedUp_403 (by decide) ?_
                        rw [show (1 : Int) - x = 1 by omega] at hr; exact ih _ _ _ _ _ _ slj _ _ hcd (by omega) hr (hV) (Vw_pu (by omega) hW.2) (⟨fun x hx => by exact hI.1 x hx, fun x hx => by rcases List.mem_cons.mp hx with hx | hx; (rw [hx]; exact (Or.inr rfl)); exact hIt x hx⟩) (by (try simp only [List.length_cons]) <;> omega) (by (try simp only [List.length_cons]) <;> omega) (by omega) (by omega) (fun A hA => (up_neF _ _ _ hA).trans (hf1 A hA)) (hf2)
                  · have ho6 : 10 ≤ o ∧ o ≤ 15 := by rcases stp_inv hs with ⟨h, g⟩ | ⟨h, g⟩ | ⟨h, g⟩ | ⟨h, g⟩ | ⟨h, g⟩ | ⟨h, g⟩ | ⟨h, g⟩ | ⟨h, g⟩ | ⟨h, g⟩ | ⟨h, g⟩ <;> omega
                    obtain ⟨b, a, r2, e1, es⟩ : ∃ b a r, vs = b :: a :: r ∧ s2 = (r, cmpF (sgC o) (a - b) :: ts) := by rcases stp_inv hs with ⟨h, g⟩ | ⟨h, g⟩ | ⟨h, g⟩ | ⟨h, g⟩ | ⟨h, g⟩ | ⟨h, g⟩ | ⟨h, g⟩ | ⟨h, g⟩ | ⟨h, g⟩ | ⟨h, g⟩ <;> first | exact g | (exfalso; omega)
                    subst e1
                    subst es
                    rw [List.length_cons, List.length_cons] at hz
                    have hVb : ∀ j : Int, j = ((a :: r2).length : Int) → slj MVal j = b := fun j hj => by rw [hj]; exact hV.1
                    have hVa : ∀ j : Int, j = (r2.length : Int) → slj MVal j = a := fun j hj => by rw [hj]; exact hV.2.1
                    have hIb : I33 b := hI.1 b (by simp)
                    have hIb2 := hIb
                    unfold I33 at hIb2
                    have hIa : I33 a := hI.1 a (by simp)
                    have hIr : ∀ x ∈ r2, I33 x := fun x hx => hI.1 x (by simp [hx])
                    refine au_iinc dX2_summedUp_294 rfl (show 5 < 10 by decide) (by omega) (by omega) (by decide) (by decide) ?_
                    show au_Go G _ _ 297 [some (au_r MO), some (au_i t), some (au_i q), some (au_i (705 * t + 1 + 4 * q)), some (au_i (705 * t + 97)), some (au_i (z + (-2))), some (au_i w), some (au_i i), some (au_i o), some (au_i v)] [] (mi, sj, hi, slj, r, nx) 0 0
                    refine au_aload_n dX2_summedUp_297 rfl ?_
                    refine au_getf (C := RX2) (T := TX2) (N := 35) in_X2 (by decide) rfl 22 (by decide) rfl rfl q1381 rfl dX2_summedUp_298 (v := au_r MTruth) (congrArg au_q (fx_MO_22 hF)) ?_
                    refine au_iload dX2_summedUp_301 rfl ?_
                    refine au_iload dX2_summedUp_303 rfl ?_
                    refine au_aload_n dX2_summedUp_305 rfl ?_
                    refine au_getf (C := RX2) (T := TX2) (N := 35) in_X2 (by decide) rfl 21 (by decide) rfl rfl q1380 rfl dX2_summedUp_306 (v := au_r MVal) (congrArg au_q (fx_MO_21 hF)) ?_
                    refine au_iload dX2_summedUp_309 rfl ?_
                    refine au_lald dX2_summedUp_311 rfl (by omega) (by show _ < ((330 : Nat) : Int); omega) (v := au_l (a)) (congrArg au_l (hVa _ (by omega))) ?_
                    refine au_aload_n dX2_summedUp_312 rfl ?_
                    refine au_getf (C := RX2) (T := TX2) (N := 35) in_X2 (by decide) rfl 21 (by decide) rfl rfl q1380 rfl dX2_summedUp_313 (v := au_r MVal) (congrArg au_q (fx_MO_21 hF)) ?_
                    refine au_iload dX2_summedUp_316 rfl ?_
                    refine au_iconst dX2_summedUp_318 rfl rfl ?_
                    refine au_iadd dX2_summedUp_319 (by omega) (by omega) ?_
                    refine au_lald dX2_summedUp_320 rfl (by omega) (by show _ < ((330 : Nat) : Int); omega) (v := au_l (b)) (congrArg au_l (hVb _ (by rw [List.length_cons]; omega))) ?_
                    refine au_callSp (n := 3) (kX2_isAsked G o a b (by omega) _) (lw_S q1758 q1759 q134 q1760) (by decide +kernel) rfl rfl rfl (Nat.le_of_ble_eq_true rfl) (Nat.le_of_ble_eq_true rfl) (Nat.le_of_ble_eq_true rfl) (Nat.le_of_ble_eq_true rfl) (Nat.le_of_ble_eq_true rfl) dX2_summedUp_321 ?_
                    refine au_zast dX2_summedUp_324 rfl (by decide) (by omega) (by show _ < ((330 : Nat) : Int); omega) (cmpF_01 _ _) (M' := (mi, (au_up sj MTruth w (cmpF (sgC o) (a - b))), hi, slj, r, nx)) (by rfl) ?_
                    refine au_iinc dX2_summedUp_325 rfl (show 6 < 10 by decide) (by omega) (by omega) (by decide) (by decide) ?_
                    show au_Go G _ _ 328 [some (au_r MO), some (au_i t), some (au_i q), some (au_i (705 * t + 1 + 4 * q)), some (au_i (705 * t + 97)), some (au_i (z + (-2))), some (au_i (w + 1)), some (au_i i), some (au_i o), some (au_i v)] [] (mi, (au_up sj MTruth w (cmpF (sgC o) (a - b))), hi, slj, r, nx) 0 0
                    refine au_goto (tgt := 400) dX2_summedUp_328 (by decide) ?_
                    refine au_iinc dX2_summedUp_400 rfl (show 7 < 10 by decide) (by omega) (by omega) (by decide) (by decide) ?_
                    show au_Go G _ _ 403 [some (au_r MO), some (au_i t), some (au_i q), some (au_i (705 * t + 1 + 4 * q)), some (au_i (705 * t + 97)), some (au_i (z + (-2))), some (au_i (w + 1)), some (au_i (i + 1)), some (au_i o), some (au_i v)] [] (mi, (au_up sj MTruth w (cmpF (sgC o) (a - b))), hi, slj, r, nx) 0 0
                    refine au_goto (tgt := 38) dX2_summedUp_403 (by decide) ?_
                    exact ih _ _ _ _ _ _ slj _ _ hcd (by omega) hr (hV.2.2) (Vw_pu (by omega) hW) (⟨fun x hx => by exact hIr x hx, fun x hx => by rcases List.mem_cons.mp hx with hx | hx; (rw [hx]; exact (cmpF_01 _ _)); exact hI.2 x hx⟩) (by (try simp only [List.length_cons]) <;> omega) (by (try simp only [List.length_cons]) <;> omega) (by omega) (by omega) (fun A hA => (up_neF _ _ _ hA).trans (hf1 A hA)) (hf2)
                · refine au_iinc dX2_summedUp_223 rfl (show 5 < 10 by decide) (by omega) (by omega) (by decide) (by decide) ?_
                  show au_Go G _ _ 226 [some (au_r MO), some (au_i t), some (au_i q), some (au_i (705 * t + 1 + 4 * q)), some (au_i (705 * t + 97)), some (au_i (z + (-1))), some (au_i w), some (au_i i), some (au_i o), some (au_i v)] [] (mi, sj, hi, slj, r, nx) 0 0
                  refine au_aload_n dX2_summedUp_226 rfl ?_
                  refine au_getf (C := RX2) (T := TX2) (N := 35) in_X2 (by decide) rfl 21 (by decide) rfl rfl q1380 rfl dX2_summedUp_227 (v := au_r MVal) (congrArg au_q (fx_MO_21 hF)) ?_
                  refine au_iload dX2_summedUp_230 rfl ?_
                  refine au_iconst dX2_summedUp_232 rfl rfl ?_
                  refine au_isub dX2_summedUp_233 (by omega) (by omega) ?_
                  refine au_iload dX2_summedUp_234 rfl ?_
                  refine au_iconst dX2_summedUp_236 rfl rfl ?_
                  refine au_icmp_ne (tgt := 262) dX2_summedUp_237 (by decide) (fun c237 => ?_) (fun c237 => ?_)
                  · have ho6 : 6 ≤ o ∧ o ≤ 9 := by rcases stp_inv hs with ⟨h, g⟩ | ⟨h, g⟩ | ⟨h, g⟩ | ⟨h, g⟩ | ⟨h, g⟩ | ⟨h, g⟩ | ⟨h, g⟩ | ⟨h, g⟩ | ⟨h, g⟩ | ⟨h, g⟩ <;> omega
                    obtain ⟨b, a, r2, e1, es⟩ : ∃ b a r, vs = b :: a :: r ∧ s2 = (twoF (sgO o) a b :: r, ts) := by rcases stp_inv hs with ⟨h, g⟩ | ⟨h, g⟩ | ⟨h, g⟩ | ⟨h, g⟩ | ⟨h, g⟩ | ⟨h, g⟩ | ⟨h, g⟩ | ⟨h, g⟩ | ⟨h, g⟩ | ⟨h, g⟩ <;> first | exact g | (exfalso; omega)
                    subst e1
                    subst es
                    rw [List.length_cons, List.length_cons] at hz
                    have hVb : ∀ j : Int, j = ((a :: r2).length : Int) → slj MVal j = b := fun j hj => by rw [hj]; exact hV.1
                    have hVa : ∀ j : Int, j = (r2.length : Int) → slj MVal j = a := fun j hj => by rw [hj]; exact hV.2.1
                    have hIb : I33 b := hI.1 b (by simp)
                    have hIb2 := hIb
                    unfold I33 at hIb2
                    have hIa : I33 a := hI.1 a (by simp)
                    have hIr : ∀ x ∈ r2, I33 x := fun x hx => hI.1 x (by simp [hx])
                    refine au_iload dX2_summedUp_262 rfl ?_
                    refine au_aload_n dX2_summedUp_264 rfl ?_
                    refine au_getf (C := RX2) (T := TX2) (N := 35) in_X2 (by decide) rfl 21 (by decide) rfl rfl q1380 rfl dX2_summedUp_265 (v := au_r MVal) (congrArg au_q (fx_MO_21 hF)) ?_
                    refine au_iload dX2_summedUp_268 rfl ?_
                    refine au_iconst dX2_summedUp_270 rfl rfl ?_
                    refine au_isub dX2_summedUp_271 (by omega) (by omega) ?_
                    refine au_lald dX2_summedUp_272 rfl (by omega) (by show _ < ((330 : Nat) : Int); omega) (v := au_l (a)) (congrArg au_l (hVa _ (by omega))) ?_
                    refine au_aload_n dX2_summedUp_273 rfl ?_
                    refine au_getf (C := RX2) (T := TX2) (N := 35) in_X2 (by decide) rfl 21 (by decide) rfl rfl q1380 rfl dX2_summedUp_274 (v := au_r MVal) (congrArg au_q (fx_MO_21 hF)) ?_
                    refine au_iload dX2_summedUp_277 rfl ?_
                    refine au_lald dX2_summedUp_279 rfl (by omega) (by show _ < ((330 : Nat) : Int); omega) (v := au_l (b)) (congrArg au_l (hVb _ (by rw [List.length_cons]; omega))) ?_
                    refine au_callSp (n := 3) (kX2_two G o a b (by omega) (by assumption) (by assumption) _) (lw_S q1750 q1751 q134 q1752) (by decide +kernel) rfl rfl rfl (Nat.le_of_ble_eq_true rfl) (Nat.le_of_ble_eq_true rfl) (Nat.le_of_ble_eq_true rfl) (Nat.le_of_ble_eq_true rfl) (Nat.le_of_ble_eq_true rfl) dX2_summedUp_280 ?_
                    refine au_last dX2_summedUp_283 rfl (by decide) (by omega) (by show _ < ((330 : Nat) : Int); omega) (M' := (mi, sj, hi, (au_up slj MVal ((z + (-1)) - 1) (twoF (sgO o) a b)), r, nx)) (by rfl) ?_
                    refine au_goto (tgt := 400) dX2_summedUp_284 (by decide) ?_
                    refine au_iinc dX2_summedUp_400 rfl (show 7 < 10 by decide) (by omega) (by omega) (by decide) (by decide) ?_
                    show au_Go G _ _ 403 [some (au_r MO), some (au_i t), some (au_i q), some (au_i (705 * t + 1 + 4 * q)), some (au_i (705 * t + 97)), some (au_i (z + (-1))), some (au_i w), some (au_i (i + 1)), some (au_i o), some (au_i v)] [] (mi, sj, hi, (au_up slj MVal ((z + (-1)) - 1) (twoF (sgO o) a b)), r, nx) 0 0
                    refine au_goto (tgt := 38) dX2_summedUp_403 (by decide) ?_
                    exact ih _ _ _ _ _ sj _ _ _ hcd (by omega) hr (Vw_pu (by omega) hV.2.2) (hW) (⟨fun x hx => by rcases List.mem_cons.mp hx with hx | hx; (rw [hx]; exact (twoF_bd _ _ _)); exact hIr x hx, fun x hx => by exact hI.2 x hx⟩) (by (try simp only [List.length_cons]) <;> omega) (by (try simp only [List.length_cons]) <;> omega) (by omega) (by omega) (hf1) (fun A hA => (up_neF _ _ _ hA).trans (hf2 A hA))
                  · obtain ⟨b, a, r2, e1, es⟩ : ∃ b a r, vs = b :: a :: r ∧ s2 = (hlvF a b.toNat :: r, ts) := by rcases stp_inv hs with ⟨h, g⟩ | ⟨h, g⟩ | ⟨h, g⟩ | ⟨h, g⟩ | ⟨h, g⟩ | ⟨h, g⟩ | ⟨h, g⟩ | ⟨h, g⟩ | ⟨h, g⟩ | ⟨h, g⟩ <;> first | exact g | (exfalso; omega)
                    subst e1
                    subst es
                    rw [List.length_cons, List.length_cons] at hz
                    have hVb : ∀ j : Int, j = ((a :: r2).length : Int) → slj MVal j = b := fun j hj => by rw [hj]; exact hV.1
                    have hVa : ∀ j : Int, j = (r2.length : Int) → slj MVal j = a := fun j hj => by rw [hj]; exact hV.2.1
                    have hIb : I33 b := hI.1 b (by simp)
                    have hIb2 := hIb
                    unfold I33 at hIb2
                    have hIa : I33 a := hI.1 a (by simp)
                    have hIr : ∀ x ∈ r2, I33 x := fun x hx => hI.1 x (by simp [hx])
                    refine au_aload_n dX2_summedUp_240 rfl ?_
                    refine au_getf (C := RX2) (T := TX2) (N := 35) in_X2 (by decide) rfl 21 (by decide) rfl rfl q1380 rfl dX2_summedUp_241 (v := au_r MVal) (congrArg au_q (fx_MO_21 hF)) ?_
                    refine au_iload dX2_summedUp_244 rfl ?_
                    refine au_iconst dX2_summedUp_246 rfl rfl ?_
                    refine au_isub dX2_summedUp_247 (by omega) (by omega) ?_
                    refine au_lald dX2_summedUp_248 rfl (by omega) (by show _ < ((330 : Nat) : Int); omega) (v := au_l (a)) (congrArg au_l (hVa _ (by omega))) ?_
                    refine au_aload_n dX2_summedUp_249 rfl ?_
                    refine au_getf (C := RX2) (T := TX2) (N := 35) in_X2 (by decide) rfl 21 (by decide) rfl rfl q1380 rfl dX2_summedUp_250 (v := au_r MVal) (congrArg au_q (fx_MO_21 hF)) ?_
                    refine au_iload dX2_summedUp_253 rfl ?_
                    refine au_lald dX2_summedUp_255 rfl (by omega) (by show _ < ((330 : Nat) : Int); omega) (v := au_l (b)) (congrArg au_l (hVb _ (by rw [List.length_cons]; omega))) ?_
                    refine au_callSp (n := 2) (kX2_halved G a b _ (by assumption) (by assumption)) (lw_S q1746 q1747 q134 q1748) (by decide +kernel) rfl rfl rfl (Nat.le_of_ble_eq_true rfl) (Nat.le_of_ble_eq_true rfl) (Nat.le_of_ble_eq_true rfl) (Nat.le_of_ble_eq_true rfl) (Nat.le_of_ble_eq_true rfl) dX2_summedUp_256 ?_
                    refine au_goto (tgt := 283) dX2_summedUp_259 (by decide) ?_
                    refine au_last dX2_summedUp_283 rfl (by decide) (by omega) (by show _ < ((330 : Nat) : Int); omega) (M' := (mi, sj, hi, (au_up slj MVal ((z + (-1)) - 1) (hlvF a (Int.toNat b))), r, nx)) (by rfl) ?_
                    refine au_goto (tgt := 400) dX2_summedUp_284 (by decide) ?_
                    refine au_iinc dX2_summedUp_400 rfl (show 7 < 10 by decide) (by omega) (by omega) (by decide) (by decide) ?_
                    show au_Go G _ _ 403 [some (au_r MO), some (au_i t), some (au_i q), some (au_i (705 * t + 1 + 4 * q)), some (au_i (705 * t + 97)), some (au_i (z + (-1))), some (au_i w), some (au_i (i + 1)), some (au_i o), some (au_i v)] [] (mi, sj, hi, (au_up slj MVal ((z + (-1)) - 1) (hlvF a (Int.toNat b))), r, nx) 0 0
                    refine au_goto (tgt := 38) dX2_summedUp_403 (by decide) ?_
                    exact ih _ _ _ _ _ sj _ _ _ hcd (by omega) hr (Vw_pu (by omega) hV.2.2) (hW) (⟨fun x hx => by rcases List.mem_cons.mp hx with hx | hx; (rw [hx]; exact (hlvF_bd _ _ hIa)); exact hIr x hx, fun x hx => by exact hI.2 x hx⟩) (by (try simp only [List.length_cons]) <;> omega) (by (try simp only [List.length_cons]) <;> omega) (by omega) (by omega) (hf1) (fun A hA => (up_neF _ _ _ hA).trans (hf2 A hA))
              · refine au_aload_n dX2_summedUp_172 rfl ?_
                refine au_getf (C := RX2) (T := TX2) (N := 35) in_X2 (by decide) rfl 21 (by decide) rfl rfl q1380 rfl dX2_summedUp_173 (v := au_r MVal) (congrArg au_q (fx_MO_21 hF)) ?_
                refine au_iload dX2_summedUp_176 rfl ?_
                refine au_iconst dX2_summedUp_178 rfl rfl ?_
                refine au_isub dX2_summedUp_179 (by omega) (by omega) ?_
                refine au_iload dX2_summedUp_180 rfl ?_
                refine au_iconst dX2_summedUp_182 rfl rfl ?_
                refine au_icmp_ne (tgt := 199) dX2_summedUp_183 (by decide) (fun c183 => ?_) (fun c183 => ?_)
                · obtain ⟨b, r2, e1, es⟩ : ∃ b r, vs = b :: r ∧ s2 = (rkV B n b :: r, ts) := by rcases stp_inv hs with ⟨h, g⟩ | ⟨h, g⟩ | ⟨h, g⟩ | ⟨h, g⟩ | ⟨h, g⟩ | ⟨h, g⟩ | ⟨h, g⟩ | ⟨h, g⟩ | ⟨h, g⟩ | ⟨h, g⟩ <;> first | exact g | (exfalso; omega)
                  subst e1
                  subst es
                  rw [List.length_cons] at hz
                  have hVb : ∀ j : Int, j = (r2.length : Int) → slj MVal j = b := fun j hj => by rw [hj]; exact hV.1
                  have hIb : I33 b := hI.1 b (by simp)
                  have hIb2 := hIb
                  unfold I33 at hIb2
                  have hIr : ∀ x ∈ r2, I33 x := fun x hx => hI.1 x (by simp [hx])
                  refine au_aload_n dX2_summedUp_199 rfl ?_
                  refine au_aload_n dX2_summedUp_200 rfl ?_
                  refine au_getf (C := RX2) (T := TX2) (N := 35) in_X2 (by decide) rfl 21 (by decide) rfl rfl q1380 rfl dX2_summedUp_201 (v := au_r MVal) (congrArg au_q (fx_MO_21 hF)) ?_
                  refine au_iload dX2_summedUp_204 rfl ?_
                  refine au_iconst dX2_summedUp_206 rfl rfl ?_
                  refine au_isub dX2_summedUp_207 (by omega) (by omega) ?_
                  refine au_lald dX2_summedUp_208 rfl (by omega) (by show _ < ((330 : Nat) : Int); omega) (v := au_l (b)) (congrArg au_l (hVb _ (by omega))) ?_
                  refine au_callVp (n := 1) (kX2_ranksOf G b mi sj hi slj r nx hF n hN B hE hB ) (lw_V q1742 q1744 qs104 q134 q1745) rfl (by decide +kernel) (by decide) (T := TX2) (N := 35) rfl rfl rfl rfl (Nat.le_of_ble_eq_true rfl) (Nat.le_of_ble_eq_true rfl) (Nat.le_of_ble_eq_true rfl) (Nat.le_of_ble_eq_true rfl) (Nat.le_of_ble_eq_true rfl) dX2_summedUp_209 ?_
                  refine au_last dX2_summedUp_212 rfl (by decide) (by omega) (by show _ < ((330 : Nat) : Int); omega) (M' := (mi, sj, hi, (au_up slj MVal (z - 1) (rkV B n b)), r, nx)) (by rfl) ?_
                  refine au_goto (tgt := 400) dX2_summedUp_213 (by decide) ?_
                  refine au_iinc dX2_summedUp_400 rfl (show 7 < 10 by decide) (by omega) (by omega) (by decide) (by decide) ?_
                  show au_Go G _ _ 403 [some (au_r MO), some (au_i t), some (au_i q), some (au_i (705 * t + 1 + 4 * q)), some (au_i (705 * t + 97)), some (au_i z), some (au_i w), some (au_i (i + 1)), some (au_i o), some (au_i v)] [] (mi, sj, hi, (au_up slj MVal (z - 1) (rkV B n b)), r, nx) 0 0
                  refine au_goto (tgt := 38) dX2_summedUp_403 (by decide) ?_
                  exact ih _ _ _ _ _ sj _ _ _ hcd (by omega) hr (Vw_pu (by omega) hV.2) (hW) (⟨fun x hx => by rcases List.mem_cons.mp hx with hx | hx; (rw [hx]; exact (rkV_bd hB _)); exact hIr x hx, fun x hx => by exact hI.2 x hx⟩) (by (try simp only [List.length_cons]) <;> omega) (by (try simp only [List.length_cons]) <;> omega) (by omega) (by omega) (hf1) (fun A hA => (up_neF _ _ _ hA).trans (hf2 A hA))
                · obtain ⟨b, r2, e1, es⟩ : ∃ b r, vs = b :: r ∧ s2 = (-b :: r, ts) := by rcases stp_inv hs with ⟨h, g⟩ | ⟨h, g⟩ | ⟨h, g⟩ | ⟨h, g⟩ | ⟨h, g⟩ | ⟨h, g⟩ | ⟨h, g⟩ | ⟨h, g⟩ | ⟨h, g⟩ | ⟨h, g⟩ <;> first | exact g | (exfalso; omega)
                  subst e1
                  subst es
                  rw [List.length_cons] at hz
                  have hVb : ∀ j : Int, j = (r2.length : Int) → slj MVal j = b := fun j hj => by rw [hj]; exact hV.1
                  have hIb : I33 b := hI.1 b (by simp)
                  have hIb2 := hIb
                  unfold I33 at hIb2
                  have hIr : ∀ x ∈ r2, I33 x := fun x hx => hI.1 x (by simp [hx])
                  refine au_aload_n dX2_summedUp_186 rfl ?_
                  refine au_getf (C := RX2) (T := TX2) (N := 35) in_X2 (by decide) rfl 21 (by decide) rfl rfl q1380 rfl dX2_summedUp_187 (v := au_r MVal) (congrArg au_q (fx_MO_21 hF)) ?_
                  refine au_iload dX2_summedUp_190 rfl ?_
                  refine au_iconst dX2_summedUp_192 rfl rfl ?_
                  refine au_isub dX2_summedUp_193 (by omega) (by omega) ?_
                  refine au_lald dX2_summedUp_194 rfl (by omega) (by show _ < ((330 : Nat) : Int); omega) (v := au_l (b)) (congrArg au_l (hVb _ (by omega))) ?_
                  refine au_lneg dX2_summedUp_195 (by omega) ?_
                  refine au_goto (tgt := 212) dX2_summedUp_196 (by decide) ?_
                  refine au_last dX2_summedUp_212 rfl (by decide) (by omega) (by show _ < ((330 : Nat) : Int); omega) (M' := (mi, sj, hi, (au_up slj MVal (z - 1) (-b)), r, nx)) (by rfl) ?_
                  refine au_goto (tgt := 400) dX2_summedUp_213 (by decide) ?_
                  refine au_iinc dX2_summedUp_400 rfl (show 7 < 10 by decide) (by omega) (by omega) (by decide) (by decide) ?_
                  show au_Go G _ _ 403 [some (au_r MO), some (au_i t), some (au_i q), some (au_i (705 * t + 1 + 4 * q)), some (au_i (705 * t + 97)), some (au_i z), some (au_i w), some (au_i (i + 1)), some (au_i o), some (au_i v)] [] (mi, sj, hi, (au_up slj MVal (z - 1) (-b)), r, nx) 0 0
                  refine au_goto (tgt := 38) dX2_summedUp_403 (by decide) ?_
                  exact ih _ _ _ _ _ sj _ _ _ hcd (by omega) hr (Vw_pu (by omega) hV.2) (hW) (⟨fun x hx => by rcases List.mem_cons.mp hx with hx | hx; (rw [hx]; exact (neg_bd hIb)); exact hIr x hx, fun x hx => by exact hI.2 x hx⟩) (by (try simp only [List.length_cons]) <;> omega) (by (try simp only [List.length_cons]) <;> omega) (by omega) (by omega) (hf1) (fun A hA => (up_neF _ _ _ hA).trans (hf2 A hA))
          · obtain ⟨b, a, r2, x, t2, e1, e2, es⟩ : ∃ b a r x t, vs = b :: a :: r ∧ ts = x :: t ∧ s2 = ((if x = 0 then b else a) :: r, t) := by rcases stp_inv hs with ⟨h, g⟩ | ⟨h, g⟩ | ⟨h, g⟩ | ⟨h, g⟩ | ⟨h, g⟩ | ⟨h, g⟩ | ⟨h, g⟩ | ⟨h, g⟩ | ⟨h, g⟩ | ⟨h, g⟩ <;> first | exact g | (exfalso; omega)
            subst e1
            subst es
            rw [List.length_cons, List.length_cons] at hz
            have hVb : ∀ j : Int, j = ((a :: r2).length : Int) → slj MVal j = b := fun j hj => by rw [hj]; exact hV.1
            have hVa : ∀ j : Int, j = (r2.length : Int) → slj MVal j = a := fun j hj => by rw [hj]; exact hV.2.1
            have hIb : I33 b := hI.1 b (by simp)
            have hIb2 := hIb
            unfold I33 at hIb2
            have hIa : I33 a := hI.1 a (by simp)
            have hIr : ∀ x ∈ r2, I33 x := fun x hx => hI.1 x (by simp [hx])
            subst e2
            rw [List.length_cons] at hw
            have hTx : ∀ j : Int, j = (t2.length : Int) → sj MTruth j = x := fun j hj => by rw [hj]; exact hW.1
            have hIx : x = 0 ∨ x = 1 := hI.2 x (by simp)
            have hIt : ∀ x ∈ t2, x = 0 ∨ x = 1 := fun x hx => hI.2 x (by simp [hx])
            refine au_iinc dX2_summedUp_125 rfl (show 5 < 10 by decide) (by omega) (by omega) (by decide) (by decide) ?_
            show au_Go G _ _ 128 [some (au_r MO), some (au_i t), some (au_i q), some (au_i (705 * t + 1 + 4 * q)), some (au_i (705 * t + 97)), some (au_i (z + (-1))), some (au_i w), some (au_i i), some (au_i o), some (au_i v)] [] (mi, sj, hi, slj, r, nx) 0 0
            refine au_iinc dX2_summedUp_128 rfl (show 6 < 10 by decide) (by omega) (by omega) (by decide) (by decide) ?_
            show au_Go G _ _ 131 [some (au_r MO), some (au_i t), some (au_i q), some (au_i (705 * t + 1 + 4 * q)), some (au_i (705 * t + 97)), some (au_i (z + (-1))), some (au_i (w + (-1))), some (au_i i), some (au_i o), some (au_i v)] [] (mi, sj, hi, slj, r, nx) 0 0
            refine au_aload_n dX2_summedUp_131 rfl ?_
            refine au_getf (C := RX2) (T := TX2) (N := 35) in_X2 (by decide) rfl 22 (by decide) rfl rfl q1381 rfl dX2_summedUp_132 (v := au_r MTruth) (congrArg au_q (fx_MO_22 hF)) ?_
            refine au_iload dX2_summedUp_135 rfl ?_
            refine au_zald dX2_summedUp_137 rfl (by omega) (by show _ < ((330 : Nat) : Int); omega) (v := au_i (x)) (congrArg au_i (hTx _ (by omega))) ?_
            refine au_if_ne (tgt := 400) dX2_summedUp_138 (by decide) (fun c138 => ?_) (fun c138 => ?_)
            · refine au_iinc dX2_summedUp_400 rfl (show 7 < 10 by decide) (by omega) (by omega) (by decide) (by decide) ?_
              show au_Go G _ _ 403 [some (au_r MO), some (au_i t), some (au_i q), some (au_i (705 * t + 1 + 4 * q)), some (au_i (705 * t + 97)), some (au_i (z + (-1))), some (au_i (w + (-1))), some (au_i (i + 1)), some (au_i o), some (au_i v)] [] (mi, sj, hi, slj, r, nx) 0 0
              refine au_goto (tgt := 38) dX2_summedUp_403 (by decide) ?_
              rw [if_neg c138] at hr
              exact ih _ _ _ _ _ sj slj _ _ hcd (by omega) hr (hV.2) (hW.2) (⟨fun x hx => by rcases List.mem_cons.mp hx with hx | hx; (rw [hx]; exact hIa); exact hIr x hx, fun x hx => by exact hIt x hx⟩) (by (try simp only [List.length_cons]) <;> omega) (by (try simp only [List.length_cons]) <;> omega) (by omega) (by omega) (hf1) (hf2)
            · refine au_aload_n dX2_summedUp_141 rfl ?_
              refine au_getf (C := RX2) (T := TX2) (N := 35) in_X2 (by decide) rfl 21 (by decide) rfl rfl q1380 rfl dX2_summedUp_142 (v := au_r MVal) (congrArg au_q (fx_MO_21 hF)) ?_
              refine au_iload dX2_summedUp_145 rfl ?_
              refine au_iconst dX2_summedUp_147 rfl rfl ?_
              refine au_isub dX2_summedUp_148 (by omega) (by omega) ?_
              refine au_aload_n dX2_summedUp_149 rfl ?_
              refine au_getf (C := RX2) (T := TX2) (N := 35) in_X2 (by decide) rfl 21 (by decide) rfl rfl q1380 rfl dX2_summedUp_150 (v := au_r MVal) (congrArg au_q (fx_MO_21 hF)) ?_
              refine au_iload dX2_summedUp_153 rfl ?_
              refine au_lald dX2_summedUp_155 rfl (by omega) (by show _ < ((330 : Nat) : Int); omega) (v := au_l (b)) (congrArg au_l (hVb _ (by rw [List.length_cons]; omega))) ?_
              refine au_last dX2_summedUp_156 rfl (by decide) (by omega) (by show _ < ((330 : Nat) : Int); omega) (M' := (mi, sj, hi, (au_up slj MVal ((z + (-1)) - 1) b), r, nx)) (by rfl) ?_
              refine au_goto (tgt := 400) dX2_summedUp_157 (by decide) ?_
              refine au_iinc dX2_summedUp_400 rfl (show 7 < 10 by decide) (by omega) (by omega) (by decide) (by decide) ?_
              show au_Go G _ _ 403 [some (au_r MO), some (au_i t), some (au_i q), some (au_i (705 * t + 1 + 4 * q)), some (au_i (705 * t + 97)), some (au_i (z + (-1))), some (au_i (w + (-1))), some (au_i (i + 1)), some (au_i o), some (au_i v)] [] (mi, sj, hi, (au_up slj MVal ((z + (-1)) - 1) b), r, nx) 0 0
              refine au_goto (tgt := 38) dX2_summedUp_403 (by decide) ?_
              rw [if_pos (by omega)] at hr
              exact ih _ _ _ _ _ sj _ _ _ hcd (by omega) hr (Vw_pu (by omega) hV.2.2) (hW.2) (⟨fun x hx => by rcases List.mem_cons.mp hx with hx | hx; (rw [hx]; exact hIb); exact hIr x hx, fun x hx => by exact hIt x hx⟩) (by (try simp only [List.length_cons]) <;> omega) (by (try simp only [List.length_cons]) <;> omega) (by omega) (by omega) (hf1) (fun A hA => (up_neF _ _ _ hA).trans (hf2 A hA))
        · refine au_aload_n dX2_summedUp_87 rfl ?_
          refine au_getf (C := RX2) (T := TX2) (N := 35) in_X2 (by decide) rfl 21 (by decide) rfl rfl q1380 rfl dX2_summedUp_88 (v := au_r MVal) (congrArg au_q (fx_MO_21 hF)) ?_
          refine au_iload dX2_summedUp_91 rfl ?_
          refine au_iload dX2_summedUp_93 rfl ?_
          refine au_if_ne (tgt := 104) dX2_summedUp_95 (by decide) (fun c95 => ?_) (fun c95 => ?_)
          · obtain ⟨g1, g2, es⟩ : 0 ≤ v ∧ v < 9 ∧ s2 = (nm v :: vs, ts) := by rcases stp_inv hs with ⟨h, g⟩ | ⟨h, g⟩ | ⟨h, g⟩ | ⟨h, g⟩ | ⟨h, g⟩ | ⟨h, g⟩ | ⟨h, g⟩ | ⟨h, g⟩ | ⟨h, g⟩ | ⟨h, g⟩ <;> first | exact g | (exfalso; omega)
            subst es
            refine au_aload_n dX2_summedUp_104 rfl ?_
            refine au_getf (C := RX2) (T := TX2) (N := 35) in_X2 (by decide) rfl 20 (by decide) rfl rfl q1379 rfl dX2_summedUp_105 (v := au_r MNamed) (congrArg au_q (fx_MO_20 hF)) ?_
            refine au_iload dX2_summedUp_108 rfl ?_
            refine au_iald dX2_summedUp_110 rfl (by omega) (by show _ < ((9 : Nat) : Int); omega) (v := au_i (nm v)) (congrArg au_i ((hsj _).trans (hnm v g1 g2))) ?_
            refine au_i2l dX2_summedUp_111 ?_
            refine au_last dX2_summedUp_112 rfl (by decide) (by omega) (by show _ < ((330 : Nat) : Int); omega) (M' := (mi, sj, hi, (au_up slj MVal z (nm v)), r, nx)) (by rfl) ?_
            refine au_iinc dX2_summedUp_113 rfl (show 5 < 10 by decide) (by omega) (by omega) (by decide) (by decide) ?_
            show au_Go G _ _ 116 [some (au_r MO), some (au_i t), some (au_i q), some (au_i (705 * t + 1 + 4 * q)), some (au_i (705 * t + 97)), some (au_i (z + 1)), some (au_i w), some (au_i i), some (au_i o), some (au_i v)] [] (mi, sj, hi, (au_up slj MVal z (nm v)), r, nx) 0 0
            refine au_goto (tgt := 400) dX2_summedUp_116 (by decide) ?_
            refine au_iinc dX2_summedUp_400 rfl (show 7 < 10 by decide) (by omega) (by omega) (by decide) (by decide) ?_
            show au_Go G _ _ 403 [some (au_r MO), some (au_i t), some (au_i q), some (au_i (705 * t + 1 + 4 * q)), some (au_i (705 * t + 97)), some (au_i (z + 1)), some (au_i w), some (au_i (i + 1)), some (au_i o), some (au_i v)] [] (mi, sj, hi, (au_up slj MVal z (nm v)), r, nx) 0 0
            refine au_goto (tgt := 38) dX2_summedUp_403 (by decide) ?_
            exact ih _ _ _ _ _ sj _ _ _ hcd (by omega) hr (Vw_pu (by omega) hV) (hW) (⟨fun x hx => by rcases List.mem_cons.mp hx with hx | hx; (rw [hx]; exact (hnI v g1 g2)); exact hI.1 x hx, fun x hx => by exact hI.2 x hx⟩) (by (try simp only [List.length_cons]) <;> omega) (by (try simp only [List.length_cons]) <;> omega) (by omega) (by omega) (hf1) (fun A hA => (up_neF _ _ _ hA).trans (hf2 A hA))
          · obtain ⟨g1, g2, es⟩ : 0 ≤ v ∧ v ≤ 9999 ∧ s2 = (v :: vs, ts) := by rcases stp_inv hs with ⟨h, g⟩ | ⟨h, g⟩ | ⟨h, g⟩ | ⟨h, g⟩ | ⟨h, g⟩ | ⟨h, g⟩ | ⟨h, g⟩ | ⟨h, g⟩ | ⟨h, g⟩ | ⟨h, g⟩ <;> first | exact g | (exfalso; omega)
            subst es
            refine au_iload dX2_summedUp_98 rfl ?_
            refine au_i2l dX2_summedUp_100 ?_
            refine au_goto (tgt := 112) dX2_summedUp_101 (by decide) ?_
            refine au_last dX2_summedUp_112 rfl (by decide) (by omega) (by show _ < ((330 : Nat) : Int); omega) (M' := (mi, sj, hi, (au_up slj MVal z v), r, nx)) (by rfl) ?_
            refine au_iinc dX2_summedUp_113 rfl (show 5 < 10 by decide) (by omega) (by omega) (by decide) (by decide) ?_
            show au_Go G _ _ 116 [some (au_r MO), some (au_i t), some (au_i q), some (au_i (705 * t + 1 + 4 * q)), some (au_i (705 * t + 97)), some (au_i (z + 1)), some (au_i w), some (au_i i), some (au_i o), some (au_i v)] [] (mi, sj, hi, (au_up slj MVal z v), r, nx) 0 0
            refine au_goto (tgt := 400) dX2_summedUp_116 (by decide) ?_
            refine au_iinc dX2_summedUp_400 rfl (show 7 < 10 by decide) (by omega) (by omega) (by decide) (by decide) ?_
            show au_Go G _ _ 403 [some (au_r MO), some (au_i t), some (au_i q), some (au_i (705 * t + 1 + 4 * q)), some (au_i (705 * t + 97)), some (au_i (z + 1)), some (au_i w), some (au_i (i + 1)), some (au_i o), some (au_i v)] [] (mi, sj, hi, (au_up slj MVal z v), r, nx) 0 0
            refine au_goto (tgt := 38) dX2_summedUp_403 (by decide) ?_
            exact ih _ _ _ _ _ sj _ _ _ hcd (by omega) hr (Vw_pu (by omega) hV) (hW) (⟨fun x hx => by rcases List.mem_cons.mp hx with hx | hx; (rw [hx]; exact (by unfold I33; omega)); exact hI.1 x hx, fun x hx => by exact hI.2 x hx⟩) (by (try simp only [List.length_cons]) <;> omega) (by (try simp only [List.length_cons]) <;> omega) (by omega) (by omega) (hf1) (fun A hA => (up_neF _ _ _ hA).trans (hf2 A hA))
  exact hl c0 lo 0 0 [] [] si sl none none hc0 hh1 hrun trivial trivial ⟨fun x hx => (by cases hx), fun x hx => (by cases hx)⟩ rfl rfl (by omega) hlo0 (fun A _ => rfl) (fun A _ => rfl)
