/-! THE MODEL: names, what a law says (printed by tools/m44.py) -/
set_option maxRecDepth 100000
set_option maxHeartbeats 4000000

/-- steps that come to f by names and ranks -/
def CcF (c : List (Int × Int)) (f : au_F) : Prop := ∀ nm rk : Int → Int, (∀ o, rk o = rnkF nm o) → runL nm rk c ([], []) = some ([f nm], [])
/-- a text of the model: its three laws -/
def TmAt (T : Int → Int) (t : Int) (Lw : au_Lw) : Prop :=
  (t = -1 ∧ ∀ l : Nat, l < 3 → Lw l = none) ∨ ((0 ≤ t ∧ t < 4) ∧ (0 ≤ T (705 * t) ∧ T (705 * t) ≤ 24) ∧ ∀ l : Nat, l < 3 → match Lw l with
    | none => ∀ k : Int, 0 ≤ k → k < T (705 * t) → T (705 * t + 1 + 4 * k) ≠ (l : Int)
    | some f => ∃ (q lo : Int) (c : List (Int × Int)), 0 ≤ q ∧ q < T (705 * t) ∧ T (705 * t + 1 + 4 * q) = (l : Int) ∧ (∀ k : Int, 0 ≤ k → k < q → T (705 * t + 1 + 4 * k) ≠ (l : Int)) ∧ T (705 * t + 1 + 4 * q + 1) = lo ∧ 0 ≤ lo ∧ T (705 * t + 1 + 4 * q + 2) = lo + (c.length : Int) ∧ lo + (c.length : Int) ≤ 304 ∧ CdAt T (705 * t + 97) lo c ∧ CcF c f)
theorem rkV_nm {B Pr : Int → Int} {n : Int} (hn : 0 ≤ n ∧ n ≤ 10) (day size who fr to days desk : Int) (o : Int) : rkV B n o = rnkF (nmF B Pr n day size who fr to days desk) o := by
  unfold rkV rnkF
  by_cases h : o < 0 ∨ 10 ≤ o
  · rw [if_pos h, if_pos (by omega)]
  · have e : nmF B Pr n day size who fr to days desk (9 + o) = if o < n then rank B o else 0 := by
      unfold nmF
      rw [if_neg (by omega), if_neg (by omega), if_neg (by omega), if_neg (by omega), if_neg (by omega), if_neg (by omega), if_neg (by omega), if_neg (by omega), if_neg (by omega), show 9 + o - 9 = o by omega]
    rw [if_neg h, e]
    by_cases h2 : o < n
    · rw [if_pos h2, if_neg (by omega)]
    · rw [if_neg h2, if_pos (by omega)]

theorem kX2_name (G : au_G) (who size fr to : Int) (mi si hi sl : au_A → Int → Int) (r : au_A → Int → Option au_A) (nx : Nat) (hF : Fix r) (n : Int) (hN : mi MA 0 = n) (B : Int → Int) (hE : ∀ o, 0 ≤ o → o < 10 → mi MA (90 + o) = B o) (hB : Bs B n) (Pr : Int → Int) (hPr : ∀ o, 0 ≤ o → o < 10 → mi MA (100 + o) = Pr o) (h0 : 0 ≤ who) (h1 : who < n) : au_Ctr G yX2_name cX2_name 5 none 1 0 0 [au_r MO, au_i who, au_i size, au_i fr, au_i to] (mi, si, hi, sl, r, nx) (fun rv M' => rv = none ∧ ∃ sj : au_A → Int → Int, M' = (mi, sj, hi, sl, r, nx) ∧ (∀ a, a ≠ MNamed → sj a = si a) ∧ ∀ k, 0 ≤ k → k < 9 → sj MNamed k = nmF B Pr n (mi MA 6) size who fr to 0 0 k) := by
  refine au_of (by decide) (Nat.le_of_ble_eq_true rfl) ?_
  have hb0 := hB.2.1
  have hb1 := hB.1
  have hn : 0 ≤ n ∧ n ≤ 10 := ⟨hb1, hb0⟩
  show au_Go G _ _ 0 [some (au_r MO), some (au_i who), some (au_i size), some (au_i fr), some (au_i to)] [] (mi, si, hi, sl, r, nx) 0 0
  refine au_aload_n dX2_name_0 rfl ?_
  refine au_getf (C := RX2) (T := TX2) (N := 35) in_X2 (by decide) rfl 20 (by decide) rfl rfl q1379 rfl dX2_name_1 (v := au_r MNamed) (congrArg au_q (fx_MO_20 hF)) ?_
  refine au_iconst dX2_name_4 rfl rfl ?_
  refine au_aload_n dX2_name_5 rfl ?_
  refine au_getf (C := RX2) (T := TX2) (N := 35) in_X2 (by decide) rfl 0 (by decide) rfl rfl q1359 rfl dX2_name_6 (v := au_r MA) (congrArg au_q (fx_MO_0 hF)) ?_
  refine au_bipush dX2_name_9 rfl rfl ?_
  refine au_iald dX2_name_11 rfl (by omega) (by show _ < ((4544 : Nat) : Int); omega) (v := au_i (mi MA 6)) (by rfl) ?_
  refine au_iast dX2_name_12 rfl (by decide) (by omega) (by show _ < ((9 : Nat) : Int); omega) (M' := (mi, (au_up si MNamed 0 (mi MA 6)), hi, sl, r, nx)) (by rfl) ?_
  refine au_aload_n dX2_name_13 rfl ?_
  refine au_getf (C := RX2) (T := TX2) (N := 35) in_X2 (by decide) rfl 20 (by decide) rfl rfl q1379 rfl dX2_name_14 (v := au_r MNamed) (congrArg au_q (fx_MO_20 hF)) ?_
  refine au_iconst dX2_name_17 rfl rfl ?_
  refine au_iload_n dX2_name_18 rfl ?_
  refine au_iast dX2_name_19 rfl (by decide) (by omega) (by show _ < ((9 : Nat) : Int); omega) (M' := (mi, (au_up (au_up si MNamed 0 (mi MA 6)) MNamed 1 size), hi, sl, r, nx)) (by rfl) ?_
  refine au_aload_n dX2_name_20 rfl ?_
  refine au_getf (C := RX2) (T := TX2) (N := 35) in_X2 (by decide) rfl 20 (by decide) rfl rfl q1379 rfl dX2_name_21 (v := au_r MNamed) (congrArg au_q (fx_MO_20 hF)) ?_
  refine au_iconst dX2_name_24 rfl rfl ?_
  refine au_iload_n dX2_name_25 rfl ?_
  refine au_iast dX2_name_26 rfl (by decide) (by omega) (by show _ < ((9 : Nat) : Int); omega) (M' := (mi, (au_up (au_up (au_up si MNamed 0 (mi MA 6)) MNamed 1 size) MNamed 2 who), hi, sl, r, nx)) (by rfl) ?_
  refine au_aload_n dX2_name_27 rfl ?_
  refine au_getf (C := RX2) (T := TX2) (N := 35) in_X2 (by decide) rfl 20 (by decide) rfl rfl q1379 rfl dX2_name_28 (v := au_r MNamed) (congrArg au_q (fx_MO_20 hF)) ?_
  refine au_iconst dX2_name_31 rfl rfl ?_
  refine au_aload_n dX2_name_32 rfl ?_
  refine au_getf (C := RX2) (T := TX2) (N := 35) in_X2 (by decide) rfl 0 (by decide) rfl rfl q1359 rfl dX2_name_33 (v := au_r MA) (congrArg au_q (fx_MO_0 hF)) ?_
  refine au_bipush dX2_name_36 rfl rfl ?_
  refine au_iload_n dX2_name_38 rfl ?_
  refine au_iadd dX2_name_39 (by omega) (by omega) ?_
  refine au_iald dX2_name_40 rfl (by omega) (by show _ < ((4544 : Nat) : Int); omega) (v := au_i (Pr who)) (congrArg au_i (hPr _ (by omega) (by omega))) ?_
  refine au_iast dX2_name_41 rfl (by decide) (by omega) (by show _ < ((9 : Nat) : Int); omega) (M' := (mi, (au_up (au_up (au_up (au_up si MNamed 0 (mi MA 6)) MNamed 1 size) MNamed 2 who) MNamed 3 (Pr who)), hi, sl, r, nx)) (by rfl) ?_
  refine au_aload_n dX2_name_42 rfl ?_
  refine au_getf (C := RX2) (T := TX2) (N := 35) in_X2 (by decide) rfl 20 (by decide) rfl rfl q1379 rfl dX2_name_43 (v := au_r MNamed) (congrArg au_q (fx_MO_20 hF)) ?_
  refine au_iconst dX2_name_46 rfl rfl ?_
  refine au_aload_n dX2_name_47 rfl ?_
  refine au_iload_n dX2_name_48 rfl ?_
  refine au_callVp (n := 1) (kX2_rankOf G who mi (au_up (au_up (au_up (au_up si MNamed 0 (mi MA 6)) MNamed 1 size) MNamed 2 who) MNamed 3 (Pr who)) hi sl r nx hF n hN B hE hB (by omega) (by omega)) (lw_V q1722 q1724 qs99 q134 q1725) rfl (by decide +kernel) (by decide) (T := TX2) (N := 35) rfl rfl rfl rfl (Nat.le_of_ble_eq_true rfl) (Nat.le_of_ble_eq_true rfl) (Nat.le_of_ble_eq_true rfl) (Nat.le_of_ble_eq_true rfl) (Nat.le_of_ble_eq_true rfl) dX2_name_49 ?_
  refine au_iast dX2_name_52 rfl (by decide) (by omega) (by show _ < ((9 : Nat) : Int); omega) (M' := (mi, (au_up (au_up (au_up (au_up (au_up si MNamed 0 (mi MA 6)) MNamed 1 size) MNamed 2 who) MNamed 3 (Pr who)) MNamed 4 (rank B who)), hi, sl, r, nx)) (by rfl) ?_
  refine au_aload_n dX2_name_53 rfl ?_
  refine au_getf (C := RX2) (T := TX2) (N := 35) in_X2 (by decide) rfl 20 (by decide) rfl rfl q1379 rfl dX2_name_54 (v := au_r MNamed) (congrArg au_q (fx_MO_20 hF)) ?_
  refine au_iconst dX2_name_57 rfl rfl ?_
  refine au_iload_n dX2_name_58 rfl ?_
  refine au_iast dX2_name_59 rfl (by decide) (by omega) (by show _ < ((9 : Nat) : Int); omega) (M' := (mi, (au_up (au_up (au_up (au_up (au_up (au_up si MNamed 0 (mi MA 6)) MNamed 1 size) MNamed 2 who) MNamed 3 (Pr who)) MNamed 4 (rank B who)) MNamed 5 fr), hi, sl, r, nx)) (by rfl) ?_
  refine au_aload_n dX2_name_60 rfl ?_
  refine au_getf (C := RX2) (T := TX2) (N := 35) in_X2 (by decide) rfl 20 (by decide) rfl rfl q1379 rfl dX2_name_61 (v := au_r MNamed) (congrArg au_q (fx_MO_20 hF)) ?_
  refine au_bipush dX2_name_64 rfl rfl ?_
  refine au_iload dX2_name_66 rfl ?_
  refine au_iast dX2_name_68 rfl (by decide) (by omega) (by show _ < ((9 : Nat) : Int); omega) (M' := (mi, (au_up (au_up (au_up (au_up (au_up (au_up (au_up si MNamed 0 (mi MA 6)) MNamed 1 size) MNamed 2 who) MNamed 3 (Pr who)) MNamed 4 (rank B who)) MNamed 5 fr) MNamed 6 to), hi, sl, r, nx)) (by rfl) ?_
  refine au_aload_n dX2_name_69 rfl ?_
  refine au_getf (C := RX2) (T := TX2) (N := 35) in_X2 (by decide) rfl 20 (by decide) rfl rfl q1379 rfl dX2_name_70 (v := au_r MNamed) (congrArg au_q (fx_MO_20 hF)) ?_
  refine au_bipush dX2_name_73 rfl rfl ?_
  refine au_iconst dX2_name_75 rfl rfl ?_
  refine au_iast dX2_name_76 rfl (by decide) (by omega) (by show _ < ((9 : Nat) : Int); omega) (M' := (mi, (au_up (au_up (au_up (au_up (au_up (au_up (au_up (au_up si MNamed 0 (mi MA 6)) MNamed 1 size) MNamed 2 who) MNamed 3 (Pr who)) MNamed 4 (rank B who)) MNamed 5 fr) MNamed 6 to) MNamed 7 0), hi, sl, r, nx)) (by rfl) ?_
  refine au_aload_n dX2_name_77 rfl ?_
  refine au_getf (C := RX2) (T := TX2) (N := 35) in_X2 (by decide) rfl 20 (by decide) rfl rfl q1379 rfl dX2_name_78 (v := au_r MNamed) (congrArg au_q (fx_MO_20 hF)) ?_
  refine au_bipush dX2_name_81 rfl rfl ?_
  refine au_iconst dX2_name_83 rfl rfl ?_
  refine au_iast dX2_name_84 rfl (by decide) (by omega) (by show _ < ((9 : Nat) : Int); omega) (M' := (mi, (au_up (au_up (au_up (au_up (au_up (au_up (au_up (au_up (au_up si MNamed 0 (mi MA 6)) MNamed 1 size) MNamed 2 who) MNamed 3 (Pr who)) MNamed 4 (rank B who)) MNamed 5 fr) MNamed 6 to) MNamed 7 0) MNamed 8 0), hi, sl, r, nx)) (by rfl) ?_
  refine au_vret dX2_name_85 rfl rfl (Nat.le_of_ble_eq_true rfl) (Nat.le_of_ble_eq_true rfl) ?_
  refine ⟨rfl, _, rfl, fun a ha => ?_, fun k k0 k1 => ?_⟩
  · funext q
    simp only [au_up]
    repeat rw [if_neg (fun z => ha z.1)]
  · simp only [au_up, nmF, true_and]
    rcases (show k = 0 ∨ k = 1 ∨ k = 2 ∨ k = 3 ∨ k = 4 ∨ k = 5 ∨ k = 6 ∨ k = 7 ∨ k = 8 by omega) with e | e | e | e | e | e | e | e | e <;> subst e <;> rfl
theorem kX2_says (G : au_G) (t w top : Int) (l : Nat) (Lw : au_Lw) (nm : Int → Int) (mi si hi sl : au_A → Int → Int) (r : au_A → Int → Option au_A) (nx : Nat) (hF : Fix r) (n : Int) (hN : mi MA 0 = n) (B : Int → Int) (hE : ∀ o, 0 ≤ o → o < 10 → mi MA (90 + o) = B o) (hB : Bs B n) (hT : TmAt (mi MT) t Lw) (hl : l < 3) (ht0 : 0 ≤ top) (ht1 : top ≤ 9999) (hnm : ∀ k, 0 ≤ k → k < 9 → si MNamed k = nm k) (hnI : ∀ k, 0 ≤ k → k < 9 → I33 (nm k)) (hrk : ∀ o, rkV B n o = rnkF nm o) : au_Ctr G yX2_says cX2_says 6 (some .int) 3 0 0 [au_r MO, au_i t, au_i (l : Int), au_i w, au_i top] (mi, si, hi, sl, r, nx) (fun rv M' => rv = some (au_i (lawV Lw l nm w top)) ∧ ∃ sj slj : au_A → Int → Int, M' = (mi, sj, hi, slj, r, nx) ∧ (∀ A, A ≠ MTruth → sj A = si A) ∧ ∀ A, A ≠ MVal → slj A = sl A) := by
  refine au_of (by decide) (Nat.le_of_ble_eq_true rfl) ?_
  have hb0 := hB.2.1
  have hb1 := hB.1
  unfold lawV
  show au_Go G _ _ 0 [some (au_r MO), some (au_i t), some (au_i (l : Int)), some (au_i w), some (au_i top), none] [] (mi, si, hi, sl, r, nx) 0 0
  rcases hT with ⟨rfl, h2⟩ | ⟨c1, c2, h3⟩
  · have h4 := h2 l hl
    rw [h4]
    refine au_iconst dX2_says_0 rfl rfl ?_
    refine au_istore dX2_says_1 (show 5 < 6 by decide) ?_
    show au_Go G _ _ 3 [some (au_r MO), some (au_i (-1)), some (au_i (l : Int)), some (au_i w), some (au_i top), some (au_i 0)] [] (mi, si, hi, sl, r, nx) 0 0
    refine au_iload_n dX2_says_3 rfl ?_
    refine au_if_lt (tgt := 63) dX2_says_4 (by decide) (fun c4 => ?_) (fun c4 => ?_)
    · refine au_iload_n dX2_says_63 rfl ?_
      refine au_i2l dX2_says_64 ?_
      refine au_iconst dX2_says_65 rfl rfl ?_
      refine au_iload dX2_says_66 rfl ?_
      refine au_callSp (n := 3) (kX2_cut G w 0 top (by omega) (by omega) (by omega) _) (lw_S q1764 q1765 q134 q1766) (by decide +kernel) rfl rfl rfl (Nat.le_of_ble_eq_true rfl) (Nat.le_of_ble_eq_true rfl) (Nat.le_of_ble_eq_true rfl) (Nat.le_of_ble_eq_true rfl) (Nat.le_of_ble_eq_true rfl) dX2_says_68 ?_
      exact au_iret dX2_says_71 rfl rfl (Nat.le_of_ble_eq_true rfl) (Nat.le_of_ble_eq_true rfl) (⟨rfl, si, sl, rfl, fun _ _ => rfl, fun _ _ => rfl⟩)
    · exact absurd c4 (by decide)
  · have h4 := h3 l hl
    cases hc : Lw l with
    | none =>
      rw [hc] at h4
      simp only at h4
      refine au_iconst dX2_says_0 rfl rfl ?_
      refine au_istore dX2_says_1 (show 5 < 6 by decide) ?_
      show au_Go G _ _ 3 [some (au_r MO), some (au_i t), some (au_i (l : Int)), some (au_i w), some (au_i top), some (au_i 0)] [] (mi, si, hi, sl, r, nx) 0 0
      have hl_ : ∀ (f_ : Nat) (j : Int), 0 ≤ j → j ≤ 25 → 100 - j < (f_ : Int) → au_Go G (yX2_says.cls, cX2_says, 6, (some .int), au_rm 3 0 0, yX2_says.name) (au_QM G (au_rm 3 0 0) (fun rv M' => rv = some (au_i (max 0 (min top (lawO none nm w)))) ∧ ∃ sj slj : au_A → Int → Int, M' = (mi, sj, hi, slj, r, nx) ∧ (∀ A, A ≠ MTruth → sj A = si A) ∧ ∀ A, A ≠ MVal → slj A = sl A)) 3 [some (au_r MO), some (au_i t), some (au_i (l : Int)), some (au_i w), some (au_i top), some (au_i (j))] [] (mi, si, hi, sl, r, nx) 0 0 := by
        intro f_
        induction f_ with
        | zero => intro j j0 j1 hf; exfalso; omega
        | succ f_ ih =>
          intro j j0 j1 hf
          refine au_iload_n dX2_says_3 rfl ?_
          refine au_if_lt (tgt := 63) dX2_says_4 (by decide) (fun c4 => ?_) (fun c4 => ?_)
          · exfalso; omega
          · refine au_iload dX2_says_7 rfl ?_
            refine au_aload_n dX2_says_9 rfl ?_
            refine au_getf (C := RX2) (T := TX2) (N := 35) in_X2 (by decide) rfl 2 (by decide) rfl rfl q1361 rfl dX2_says_10 (v := au_r MT) (congrArg au_q (fx_MO_2 hF)) ?_
            refine au_sipush dX2_says_13 rfl rfl ?_
            refine au_iload_n dX2_says_16 rfl ?_
            refine au_imul dX2_says_17 (by omega) (by omega) ?_
            refine au_iald dX2_says_18 rfl (by omega) (by show _ < ((2820 : Nat) : Int); omega) (v := au_i (mi MT (705 * t))) (by rfl) ?_
            refine au_icmp_ge (tgt := 63) dX2_says_19 (by decide) (fun c19 => ?_) (fun c19 => ?_)
            · refine au_iload_n dX2_says_63 rfl ?_
              refine au_i2l dX2_says_64 ?_
              refine au_iconst dX2_says_65 rfl rfl ?_
              refine au_iload dX2_says_66 rfl ?_
              refine au_callSp (n := 3) (kX2_cut G w 0 top (by omega) (by omega) (by omega) _) (lw_S q1764 q1765 q134 q1766) (by decide +kernel) rfl rfl rfl (Nat.le_of_ble_eq_true rfl) (Nat.le_of_ble_eq_true rfl) (Nat.le_of_ble_eq_true rfl) (Nat.le_of_ble_eq_true rfl) (Nat.le_of_ble_eq_true rfl) dX2_says_68 ?_
              exact au_iret dX2_says_71 rfl rfl (Nat.le_of_ble_eq_true rfl) (Nat.le_of_ble_eq_true rfl) (⟨rfl, si, sl, rfl, fun _ _ => rfl, fun _ _ => rfl⟩)
            · refine au_aload_n dX2_says_22 rfl ?_
              refine au_getf (C := RX2) (T := TX2) (N := 35) in_X2 (by decide) rfl 2 (by decide) rfl rfl q1361 rfl dX2_says_23 (v := au_r MT) (congrArg au_q (fx_MO_2 hF)) ?_
              refine au_sipush dX2_says_26 rfl rfl ?_
              refine au_iload_n dX2_says_29 rfl ?_
              refine au_imul dX2_says_30 (by omega) (by omega) ?_
              refine au_iconst dX2_says_31 rfl rfl ?_
              refine au_iadd dX2_says_32 (by omega) (by omega) ?_
              refine au_iconst dX2_says_33 rfl rfl ?_
              refine au_iload dX2_says_34 rfl ?_
              refine au_imul dX2_says_36 (by omega) (by omega) ?_
              refine au_iadd dX2_says_37 (by omega) (by omega) ?_
              refine au_iald dX2_says_38 rfl (by omega) (by show _ < ((2820 : Nat) : Int); omega) (v := au_i (mi MT (((705 * t) + 1) + (4 * j)))) (by rfl) ?_
              refine au_iload_n dX2_says_39 rfl ?_
              refine au_icmp_ne (tgt := 57) dX2_says_40 (by decide) (fun c40 => ?_) (fun c40 => ?_)
              · refine au_iinc dX2_says_57 rfl (show 5 < 6 by decide) (by omega) (by omega) (by decide) (by decide) ?_
                show au_Go G _ _ 60 [some (au_r MO), some (au_i t), some (au_i (l : Int)), some (au_i w), some (au_i top), some (au_i (j + 1))] [] (mi, si, hi, sl, r, nx) 0 0
                refine au_goto (tgt := 3) dX2_says_60 (by decide) ?_
                exact ih _ (by omega) (by omega) (by omega)
              · exact absurd (by omega) (h4 j j0 (by omega))
      exact hl_ 101 0 (by omega) (by omega) (by omega)
    | some f =>
      rw [hc] at h4
      obtain ⟨q, lo, c, h5, h5c, h5a, h5b, h6, h7, h8, h9, h10, h11⟩ := h4
      refine au_iconst dX2_says_0 rfl rfl ?_
      refine au_istore dX2_says_1 (show 5 < 6 by decide) ?_
      show au_Go G _ _ 3 [some (au_r MO), some (au_i t), some (au_i (l : Int)), some (au_i w), some (au_i top), some (au_i 0)] [] (mi, si, hi, sl, r, nx) 0 0
      have hl_ : ∀ (f_ : Nat) (j : Int), 0 ≤ j → j ≤ q → 100 - j < (f_ : Int) → au_Go G (yX2_says.cls, cX2_says, 6, (some .int), au_rm 3 0 0, yX2_says.name) (au_QM G (au_rm 3 0 0) (fun rv M' => rv = some (au_i (max 0 (min top (lawO (some f) nm w)))) ∧ ∃ sj slj : au_A → Int → Int, M' = (mi, sj, hi, slj, r, nx) ∧ (∀ A, A ≠ MTruth → sj A = si A) ∧ ∀ A, A ≠ MVal → slj A = sl A)) 3 [some (au_r MO), some (au_i t), some (au_i (l : Int)), some (au_i w), some (au_i top), some (au_i (j))] [] (mi, si, hi, sl, r, nx) 0 0 := by
        intro f_
        induction f_ with
        | zero => intro j j0 j1 hf; exfalso; omega
        | succ f_ ih =>
          intro j j0 j1 hf
          refine au_iload_n dX2_says_3 rfl ?_
          refine au_if_lt (tgt := 63) dX2_says_4 (by decide) (fun c4 => ?_) (fun c4 => ?_)
          · exfalso; omega
          · refine au_iload dX2_says_7 rfl ?_
            refine au_aload_n dX2_says_9 rfl ?_
            refine au_getf (C := RX2) (T := TX2) (N := 35) in_X2 (by decide) rfl 2 (by decide) rfl rfl q1361 rfl dX2_says_10 (v := au_r MT) (congrArg au_q (fx_MO_2 hF)) ?_
            refine au_sipush dX2_says_13 rfl rfl ?_
            refine au_iload_n dX2_says_16 rfl ?_
            refine au_imul dX2_says_17 (by omega) (by omega) ?_
            refine au_iald dX2_says_18 rfl (by omega) (by show _ < ((2820 : Nat) : Int); omega) (v := au_i (mi MT (705 * t))) (by rfl) ?_
            refine au_icmp_ge (tgt := 63) dX2_says_19 (by decide) (fun c19 => ?_) (fun c19 => ?_)
            · exfalso; omega
            · refine au_aload_n dX2_says_22 rfl ?_
              refine au_getf (C := RX2) (T := TX2) (N := 35) in_X2 (by decide) rfl 2 (by decide) rfl rfl q1361 rfl dX2_says_23 (v := au_r MT) (congrArg au_q (fx_MO_2 hF)) ?_
              refine au_sipush dX2_says_26 rfl rfl ?_
              refine au_iload_n dX2_says_29 rfl ?_
              refine au_imul dX2_says_30 (by omega) (by omega) ?_
              refine au_iconst dX2_says_31 rfl rfl ?_
              refine au_iadd dX2_says_32 (by omega) (by omega) ?_
              refine au_iconst dX2_says_33 rfl rfl ?_
              refine au_iload dX2_says_34 rfl ?_
              refine au_imul dX2_says_36 (by omega) (by omega) ?_
              refine au_iadd dX2_says_37 (by omega) (by omega) ?_
              refine au_iald dX2_says_38 rfl (by omega) (by show _ < ((2820 : Nat) : Int); omega) (v := au_i (mi MT (((705 * t) + 1) + (4 * j)))) (by rfl) ?_
              refine au_iload_n dX2_says_39 rfl ?_
              refine au_icmp_ne (tgt := 57) dX2_says_40 (by decide) (fun c40 => ?_) (fun c40 => ?_)
              · refine au_iinc dX2_says_57 rfl (show 5 < 6 by decide) (by omega) (by omega) (by decide) (by decide) ?_
                show au_Go G _ _ 60 [some (au_r MO), some (au_i t), some (au_i (l : Int)), some (au_i w), some (au_i top), some (au_i (j + 1))] [] (mi, si, hi, sl, r, nx) 0 0
                refine au_goto (tgt := 3) dX2_says_60 (by decide) ?_
                have hjq : j ≠ q := fun e => by subst e; exact c40 h5a
                exact ih _ (by omega) (by omega) (by omega)
              · have hjq : j = q := by
                  rcases (show j = q ∨ j < q by omega) with e | e
                  · exact e
                  · exact absurd (by omega) (h5b j j0 e)
                subst hjq
                refine au_aload_n dX2_says_43 rfl ?_
                refine au_iload_n dX2_says_44 rfl ?_
                refine au_iload dX2_says_45 rfl ?_
                refine au_callV (n := 2) (kX2_summedUp G t j lo _ (f nm) c nm mi si hi sl r nx hF n hN B hE hB ⟨c1.1, c1.2⟩ (by omega) h6 h8 h7 rfl h9 h10 hnm hnI (h11 _ _ hrk)) (lw_V q1738 q1740 qs103 q134 q1741) rfl (by decide +kernel) (by decide) (T := TX2) (N := 35) rfl rfl rfl rfl (Nat.le_of_ble_eq_true rfl) (Nat.le_of_ble_eq_true rfl) (Nat.le_of_ble_eq_true rfl) (Nat.le_of_ble_eq_true rfl) (Nat.le_of_ble_eq_true rfl) dX2_says_47 (fun rv_ M_ hp_ => ?_)
                obtain ⟨rfl, sj, slj, rfl, hf1, hf2⟩ := hp_
                show au_Go G _ _ 50 [some (au_r MO), some (au_i t), some (au_i (l : Int)), some (au_i w), some (au_i top), some (au_i j)] [au_l (f nm)] (mi, sj, hi, slj, r, nx) 0 0
                refine au_iconst dX2_says_50 rfl rfl ?_
                refine au_iload dX2_says_51 rfl ?_
                refine au_callSp (n := 3) (kX2_cut G (f nm) 0 top (by omega) (by omega) (by omega) _) (lw_S q1764 q1765 q134 q1766) (by decide +kernel) rfl rfl rfl (Nat.le_of_ble_eq_true rfl) (Nat.le_of_ble_eq_true rfl) (Nat.le_of_ble_eq_true rfl) (Nat.le_of_ble_eq_true rfl) (Nat.le_of_ble_eq_true rfl) dX2_says_53 ?_
                exact au_iret dX2_says_56 rfl rfl (Nat.le_of_ble_eq_true rfl) (Nat.le_of_ble_eq_true rfl) (⟨rfl, sj, slj, rfl, hf1, hf2⟩)
      exact hl_ 101 0 (by omega) (by omega) (by omega)
