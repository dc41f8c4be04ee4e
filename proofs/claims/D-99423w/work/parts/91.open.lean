/-! THE MODEL: what is open, what is compared (printed by tools/m91.py) -/
set_option maxRecDepth 100000
set_option maxHeartbeats 4000000

/-- what waits, the last first, as it lies from the pile's bottom on -/
def WtAt (w : Int → Int) : List Int → Prop
  | [] => True
  | x :: R => w (R.length : Int) = x ∧ WtAt w R
/-- where what is open at last lies -/
def opIx : List Int → Int
  | [] => -1
  | x :: R => if 40 ≤ x then (R.length : Int) else opIx R
theorem opIx_opn {w : Int → Int} : ∀ (W : List Int), WtAt w W → (opIx W = -1 ∧ opn W = -1) ∨ (0 ≤ opIx W ∧ opIx W < W.length ∧ w (opIx W) = opn W ∧ 40 ≤ opn W)
  | [], _ => Or.inl ⟨rfl, rfl⟩
  | x :: R, h => by
    by_cases c : 40 ≤ x
    · have e1 : opIx (x :: R) = (R.length : Int) := if_pos c
      have e2 : opn (x :: R) = x := if_pos c
      rw [e1, e2]
      exact Or.inr ⟨by omega, by rw [List.length_cons]; omega, h.1, c⟩
    · have e1 : opIx (x :: R) = opIx R := if_neg c
      have e2 : opn (x :: R) = opn R := if_neg c
      rw [e1, e2]
      rcases opIx_opn R h.2 with g | g
      · exact Or.inl g
      · exact Or.inr ⟨g.1, by rw [List.length_cons]; omega, g.2.2⟩

theorem kX2_openAt (G : au_G) (W : List Int) (mi si hi sl : au_A → Int → Int) (r : au_A → Int → Option au_A) (nx : Nat) (hF : Fix r) (hp : si MO 16 = (W.length : Int)) (hw : WtAt (si MWait) W) (hl : W.length ≤ 160) : au_Ctr G yX2_openAt cX2_openAt 2 (some .int) 0 0 0 [au_r MO] (mi, si, hi, sl, r, nx) (au_pure (au_i (opIx W)) (mi, si, hi, sl, r, nx)) := by
  refine au_of (by decide) (Nat.le_of_ble_eq_true rfl) ?_
  show au_Go G _ _ 0 [some (au_r MO), none] [] (mi, si, hi, sl, r, nx) 0 0
  refine au_aload_n dX2_openAt_0 rfl ?_
  refine au_getf (C := RX2) (T := TX2) (N := 35) in_X2 (by decide) rfl 16 (by decide) rfl rfl q1375 rfl dX2_openAt_1 (v := au_i (si MO 16)) (by rfl) ?_
  refine au_iconst dX2_openAt_4 rfl rfl ?_
  refine au_isub dX2_openAt_5 (by omega) (by omega) ?_
  refine au_istore_n dX2_openAt_6 (show 1 < 2 by decide) ?_
  show au_Go G _ _ 7 [some (au_r MO), some (au_i ((si MO 16) - 1))] [] (mi, si, hi, sl, r, nx) 0 0
  have hlp : ∀ R : List Int, WtAt (si MWait) R → R.length ≤ 160 → opIx R = opIx W → ∀ z : Int, z = (R.length : Int) - 1 → au_Go G (yX2_openAt.cls, cX2_openAt, 2, (some .int), au_rm 0 0 0, yX2_openAt.name) (au_QM G (au_rm 0 0 0) (au_pure (au_i (opIx W)) (mi, si, hi, sl, r, nx))) 7 [some (au_r MO), some (au_i z)] [] (mi, si, hi, sl, r, nx) 0 0 := by
    intro R
    induction R with
    | nil =>
      intro hr hln he z hz
      have hz : z = -1 := hz
      refine au_iload_n dX2_openAt_7 rfl ?_
      refine au_if_lt (tgt := 28) dX2_openAt_8 (by decide) (fun c8 => ?_) (fun c8 => ?_)
      · refine au_iload_n dX2_openAt_28 rfl ?_
        exact au_iret dX2_openAt_29 rfl rfl (Nat.le_of_ble_eq_true rfl) (Nat.le_of_ble_eq_true rfl) (by first | exact au_pe (hz.trans he) rfl | (exfalso; omega))
      · refine au_aload_n dX2_openAt_11 rfl ?_
        refine au_getf (C := RX2) (T := TX2) (N := 35) in_X2 (by decide) rfl 15 (by decide) rfl rfl q1374 rfl dX2_openAt_12 (v := au_r MWait) (congrArg au_q (fx_MO_15 hF)) ?_
        refine au_iload_n dX2_openAt_15 rfl ?_
        refine au_iald dX2_openAt_16 rfl (by omega) (by show _ < ((160 : Nat) : Int); omega) (v := au_i (si MWait z)) (by rfl) ?_
        refine au_bipush dX2_openAt_17 rfl rfl ?_
        refine au_icmp_ge (tgt := 28) dX2_openAt_19 (by decide) (fun c19 => ?_) (fun c19 => ?_)
        · refine au_iload_n dX2_openAt_28 rfl ?_
          exact au_iret dX2_openAt_29 rfl rfl (Nat.le_of_ble_eq_true rfl) (Nat.le_of_ble_eq_true rfl) (by first | exact au_pe (hz.trans he) rfl | (exfalso; omega))
        · refine au_iinc dX2_openAt_22 rfl (show 1 < 2 by decide) (by omega) (by omega) (by decide) (by decide) ?_
          show au_Go G _ _ 25 [some (au_r MO), some (au_i (z + (-1)))] [] (mi, si, hi, sl, r, nx) 0 0
          refine au_goto (tgt := 7) dX2_openAt_25 (by decide) ?_
          exfalso; omega
    | cons x R ih =>
      intro hr hln he z hz
      have hz : z = (R.length : Int) := by rw [hz, List.length_cons]; omega
      have hln' : R.length + 1 ≤ 160 := hln
      have hx : si MWait z = x := by rw [hz]; exact hr.1
      refine au_iload_n dX2_openAt_7 rfl ?_
      refine au_if_lt (tgt := 28) dX2_openAt_8 (by decide) (fun c8 => ?_) (fun c8 => ?_)
      · refine au_iload_n dX2_openAt_28 rfl ?_
        refine au_iret dX2_openAt_29 rfl rfl (Nat.le_of_ble_eq_true rfl) (Nat.le_of_ble_eq_true rfl) ?_
        first
        | (exfalso; omega)
        | exact au_pe (by rw [← he, hz]; exact (if_pos (by omega)).symm) rfl
      · refine au_aload_n dX2_openAt_11 rfl ?_
        refine au_getf (C := RX2) (T := TX2) (N := 35) in_X2 (by decide) rfl 15 (by decide) rfl rfl q1374 rfl dX2_openAt_12 (v := au_r MWait) (congrArg au_q (fx_MO_15 hF)) ?_
        refine au_iload_n dX2_openAt_15 rfl ?_
        refine au_iald dX2_openAt_16 rfl (by omega) (by show _ < ((160 : Nat) : Int); omega) (v := au_i (si MWait z)) (by rfl) ?_
        refine au_bipush dX2_openAt_17 rfl rfl ?_
        refine au_icmp_ge (tgt := 28) dX2_openAt_19 (by decide) (fun c19 => ?_) (fun c19 => ?_)
        · refine au_iload_n dX2_openAt_28 rfl ?_
          refine au_iret dX2_openAt_29 rfl rfl (Nat.le_of_ble_eq_true rfl) (Nat.le_of_ble_eq_true rfl) ?_
          first
          | (exfalso; omega)
          | exact au_pe (by rw [← he, hz]; exact (if_pos (by omega)).symm) rfl
        · refine au_iinc dX2_openAt_22 rfl (show 1 < 2 by decide) (by omega) (by omega) (by decide) (by decide) ?_
          show au_Go G _ _ 25 [some (au_r MO), some (au_i (z + (-1)))] [] (mi, si, hi, sl, r, nx) 0 0
          refine au_goto (tgt := 7) dX2_openAt_25 (by decide) ?_
          exact ih hr.2 (by omega) (by rw [← he]; exact (if_neg (by omega)).symm) _ (by omega)
  exact hlp W hw hl rfl _ (by omega)
theorem kX2_openNow (G : au_G) (W : List Int) (mi si hi sl : au_A → Int → Int) (r : au_A → Int → Option au_A) (nx : Nat) (hF : Fix r) (hp : si MO 16 = (W.length : Int)) (hw : WtAt (si MWait) W) (hl : W.length ≤ 160) : au_Ctr G yX2_openNow cX2_openNow 1 (some .int) 1 0 0 [au_r MO] (mi, si, hi, sl, r, nx) (au_pure (au_i (opn W)) (mi, si, hi, sl, r, nx)) := by
  refine au_of (by decide) (Nat.le_of_ble_eq_true rfl) ?_
  have hop := opIx_opn W hw
  show au_Go G _ _ 0 [some (au_r MO)] [] (mi, si, hi, sl, r, nx) 0 0
  refine au_aload_n dX2_openNow_0 rfl ?_
  refine au_callVp (n := 0) (kX2_openAt G W mi si hi sl r nx hF hp hw hl) (lw_V q1591 q1593 qs74 q134 q1594) rfl (by decide +kernel) (by decide) (T := TX2) (N := 35) rfl rfl rfl rfl (Nat.le_of_ble_eq_true rfl) (Nat.le_of_ble_eq_true rfl) (Nat.le_of_ble_eq_true rfl) (Nat.le_of_ble_eq_true rfl) (Nat.le_of_ble_eq_true rfl) dX2_openNow_1 ?_
  refine au_if_ge (tgt := 11) dX2_openNow_4 (by decide) (fun c4 => ?_) (fun c4 => ?_)
  · refine au_aload_n dX2_openNow_11 rfl ?_
    refine au_getf (C := RX2) (T := TX2) (N := 35) in_X2 (by decide) rfl 15 (by decide) rfl rfl q1374 rfl dX2_openNow_12 (v := au_r MWait) (congrArg au_q (fx_MO_15 hF)) ?_
    refine au_aload_n dX2_openNow_15 rfl ?_
    refine au_callVp (n := 0) (kX2_openAt G W mi si hi sl r nx hF hp hw hl) (lw_V q1591 q1593 qs74 q134 q1594) rfl (by decide +kernel) (by decide) (T := TX2) (N := 35) rfl rfl rfl rfl (Nat.le_of_ble_eq_true rfl) (Nat.le_of_ble_eq_true rfl) (Nat.le_of_ble_eq_true rfl) (Nat.le_of_ble_eq_true rfl) (Nat.le_of_ble_eq_true rfl) dX2_openNow_16 ?_
    refine au_iald dX2_openNow_19 rfl (by omega) (by show _ < ((160 : Nat) : Int); omega) (v := au_i (si MWait (opIx W))) (by rfl) ?_
    exact au_iret dX2_openNow_20 rfl rfl (Nat.le_of_ble_eq_true rfl) (Nat.le_of_ble_eq_true rfl) (by first | exact au_pe (by omega) rfl | exact au_pe (show si MWait (opIx W) = opn W by omega) rfl)
  · refine au_iconst dX2_openNow_7 rfl rfl ?_
    refine au_goto (tgt := 20) dX2_openNow_8 (by decide) ?_
    exact au_iret dX2_openNow_20 rfl rfl (Nat.le_of_ble_eq_true rfl) (Nat.le_of_ble_eq_true rfl) (by first | exact au_pe (by omega) rfl | exact au_pe (show si MWait (opIx W) = opn W by omega) rfl)
theorem kX2_isCompared (G : au_G) (W : List Int) (mi si hi sl : au_A → Int → Int) (r : au_A → Int → Option au_A) (nx : Nat) (hF : Fix r) (hp : si MO 16 = (W.length : Int)) (hw : WtAt (si MWait) W) (hl : W.length ≤ 160) : au_Ctr G yX2_isCompared cX2_isCompared 2 (some .boolean) 1 0 0 [au_r MO] (mi, si, hi, sl, r, nx) (au_pure (au_i (au_b (cmd W = true))) (mi, si, hi, sl, r, nx)) := by
  refine au_of (by decide) (Nat.le_of_ble_eq_true rfl) ?_
  show au_Go G _ _ 0 [some (au_r MO), none] [] (mi, si, hi, sl, r, nx) 0 0
  refine au_aload_n dX2_isCompared_0 rfl ?_
  refine au_getf (C := RX2) (T := TX2) (N := 35) in_X2 (by decide) rfl 16 (by decide) rfl rfl q1375 rfl dX2_isCompared_1 (v := au_i (si MO 16)) (by rfl) ?_
  refine au_iconst dX2_isCompared_4 rfl rfl ?_
  refine au_isub dX2_isCompared_5 (by omega) (by omega) ?_
  refine au_istore_n dX2_isCompared_6 (show 1 < 2 by decide) ?_
  show au_Go G _ _ 7 [some (au_r MO), some (au_i ((si MO 16) - 1))] [] (mi, si, hi, sl, r, nx) 0 0
  have hlp : ∀ R : List Int, WtAt (si MWait) R → R.length ≤ 160 → cmd R = cmd W → ∀ z : Int, z = (R.length : Int) - 1 → au_Go G (yX2_isCompared.cls, cX2_isCompared, 2, (some .boolean), au_rm 1 0 0, yX2_isCompared.name) (au_QM G (au_rm 1 0 0) (au_pure (au_i (au_b (cmd W = true))) (mi, si, hi, sl, r, nx))) 7 [some (au_r MO), some (au_i z)] [] (mi, si, hi, sl, r, nx) 0 0 := by
    intro R
    induction R with
    | nil =>
      intro hr hln he z hz
      have hz : z = -1 := hz
      refine au_iload_n dX2_isCompared_7 rfl ?_
      refine au_if_lt (tgt := 30) dX2_isCompared_8 (by decide) (fun c8 => ?_) (fun c8 => ?_)
      · refine au_iload_n dX2_isCompared_30 rfl ?_
        refine au_if_lt (tgt := 51) dX2_isCompared_31 (by decide) (fun c31 => ?_) (fun c31 => ?_)
        · refine au_iconst dX2_isCompared_51 rfl rfl ?_
          exact au_zret dX2_isCompared_52 rfl (Or.inl rfl) rfl (Nat.le_of_ble_eq_true rfl) (Nat.le_of_ble_eq_true rfl) (by first | exact au_pf (by rw [← he]; exact fun y => Bool.noConfusion y) rfl | (exfalso; omega))
        · refine au_aload_n dX2_isCompared_34 rfl ?_
          refine au_getf (C := RX2) (T := TX2) (N := 35) in_X2 (by decide) rfl 15 (by decide) rfl rfl q1374 rfl dX2_isCompared_35 (v := au_r MWait) (congrArg au_q (fx_MO_15 hF)) ?_
          refine au_iload_n dX2_isCompared_38 rfl ?_
          refine au_iald dX2_isCompared_39 rfl (by omega) (by show _ < ((160 : Nat) : Int); omega) (v := au_i (si MWait z)) (by rfl) ?_
          refine au_callSp (n := 1) (kX2_rank G (si MWait z) _) (lw_S q1599 q1600 q134 q1601) (by decide +kernel) rfl rfl rfl (Nat.le_of_ble_eq_true rfl) (Nat.le_of_ble_eq_true rfl) (Nat.le_of_ble_eq_true rfl) (Nat.le_of_ble_eq_true rfl) (Nat.le_of_ble_eq_true rfl) dX2_isCompared_40 ?_
          refine au_iconst dX2_isCompared_43 rfl rfl ?_
          refine au_icmp_ne (tgt := 51) dX2_isCompared_44 (by decide) (fun c44 => ?_) (fun c44 => ?_)
          · refine au_iconst dX2_isCompared_51 rfl rfl ?_
            exact au_zret dX2_isCompared_52 rfl (Or.inl rfl) rfl (Nat.le_of_ble_eq_true rfl) (Nat.le_of_ble_eq_true rfl) (by first | exact au_pf (by rw [← he]; exact fun y => Bool.noConfusion y) rfl | (exfalso; omega))
          · refine au_iconst dX2_isCompared_47 rfl rfl ?_
            refine au_goto (tgt := 52) dX2_isCompared_48 (by decide) ?_
            exact au_zret dX2_isCompared_52 rfl (Or.inr rfl) rfl (Nat.le_of_ble_eq_true rfl) (Nat.le_of_ble_eq_true rfl) (by first | exact au_pf (by rw [← he]; exact fun y => Bool.noConfusion y) rfl | (exfalso; omega))
      · refine au_aload_n dX2_isCompared_11 rfl ?_
        refine au_getf (C := RX2) (T := TX2) (N := 35) in_X2 (by decide) rfl 15 (by decide) rfl rfl q1374 rfl dX2_isCompared_12 (v := au_r MWait) (congrArg au_q (fx_MO_15 hF)) ?_
        refine au_iload_n dX2_isCompared_15 rfl ?_
        refine au_iald dX2_isCompared_16 rfl (by omega) (by show _ < ((160 : Nat) : Int); omega) (v := au_i (si MWait z)) (by rfl) ?_
        refine au_callSp (n := 1) (kX2_rank G (si MWait z) _) (lw_S q1599 q1600 q134 q1601) (by decide +kernel) rfl rfl rfl (Nat.le_of_ble_eq_true rfl) (Nat.le_of_ble_eq_true rfl) (Nat.le_of_ble_eq_true rfl) (Nat.le_of_ble_eq_true rfl) (Nat.le_of_ble_eq_true rfl) dX2_isCompared_17 ?_
        refine au_iconst dX2_isCompared_20 rfl rfl ?_
        refine au_icmp_le (tgt := 30) dX2_isCompared_21 (by decide) (fun c21 => ?_) (fun c21 => ?_)
        · refine au_iload_n dX2_isCompared_30 rfl ?_
          refine au_if_lt (tgt := 51) dX2_isCompared_31 (by decide) (fun c31 => ?_) (fun c31 => ?_)
          · refine au_iconst dX2_isCompared_51 rfl rfl ?_
            exact au_zret dX2_isCompared_52 rfl (Or.inl rfl) rfl (Nat.le_of_ble_eq_true rfl) (Nat.le_of_ble_eq_true rfl) (by first | exact au_pf (by rw [← he]; exact fun y => Bool.noConfusion y) rfl | (exfalso; omega))
          · refine au_aload_n dX2_isCompared_34 rfl ?_
            refine au_getf (C := RX2) (T := TX2) (N := 35) in_X2 (by decide) rfl 15 (by decide) rfl rfl q1374 rfl dX2_isCompared_35 (v := au_r MWait) (congrArg au_q (fx_MO_15 hF)) ?_
            refine au_iload_n dX2_isCompared_38 rfl ?_
            refine au_iald dX2_isCompared_39 rfl (by omega) (by show _ < ((160 : Nat) : Int); omega) (v := au_i (si MWait z)) (by rfl) ?_
            refine au_callSp (n := 1) (kX2_rank G (si MWait z) _) (lw_S q1599 q1600 q134 q1601) (by decide +kernel) rfl rfl rfl (Nat.le_of_ble_eq_true rfl) (Nat.le_of_ble_eq_true rfl) (Nat.le_of_ble_eq_true rfl) (Nat.le_of_ble_eq_true rfl) (Nat.le_of_ble_eq_true rfl) dX2_isCompared_40 ?_
            refine au_iconst dX2_isCompared_43 rfl rfl ?_
            refine au_icmp_ne (tgt := 51) dX2_isCompared_44 (by decide) (fun c44 => ?_) (fun c44 => ?_)
            · refine au_iconst dX2_isCompared_51 rfl rfl ?_
              exact au_zret dX2_isCompared_52 rfl (Or.inl rfl) rfl (Nat.le_of_ble_eq_true rfl) (Nat.le_of_ble_eq_true rfl) (by first | exact au_pf (by rw [← he]; exact fun y => Bool.noConfusion y) rfl | (exfalso; omega))
            · refine au_iconst dX2_isCompared_47 rfl rfl ?_
              refine au_goto (tgt := 52) dX2_isCompared_48 (by decide) ?_
              exact au_zret dX2_isCompared_52 rfl (Or.inr rfl) rfl (Nat.le_of_ble_eq_true rfl) (Nat.le_of_ble_eq_true rfl) (by first | exact au_pf (by rw [← he]; exact fun y => Bool.noConfusion y) rfl | (exfalso; omega))
        · refine au_iinc dX2_isCompared_24 rfl (show 1 < 2 by decide) (by omega) (by omega) (by decide) (by decide) ?_
          show au_Go G _ _ 27 [some (au_r MO), some (au_i (z + (-1)))] [] (mi, si, hi, sl, r, nx) 0 0
          refine au_goto (tgt := 7) dX2_isCompared_27 (by decide) ?_
          exfalso; omega
    | cons x R ih =>
      intro hr hln he z hz
      have hz : z = (R.length : Int) := by rw [hz, List.length_cons]; omega
      have hln' : R.length + 1 ≤ 160 := hln
      have hx : si MWait z = x := by rw [hz]; exact hr.1
      refine au_iload_n dX2_isCompared_7 rfl ?_
      refine au_if_lt (tgt := 30) dX2_isCompared_8 (by decide) (fun c8 => ?_) (fun c8 => ?_)
      · refine au_iload_n dX2_isCompared_30 rfl ?_
        refine au_if_lt (tgt := 51) dX2_isCompared_31 (by decide) (fun c31 => ?_) (fun c31 => ?_)
        · refine au_iconst dX2_isCompared_51 rfl rfl ?_
          refine au_zret dX2_isCompared_52 rfl (Or.inl rfl) rfl (Nat.le_of_ble_eq_true rfl) (Nat.le_of_ble_eq_true rfl) ?_
          first
          | (exfalso; omega)
          | exact au_pt (by rw [← he]; show (if 4 < wRk x then cmd R else decide (wRk x = 4)) = true; rw [if_neg (by omega)]; exact decide_eq_true (by omega)) rfl
          | exact au_pf (by rw [← he]; show ¬ (if 4 < wRk x then cmd R else decide (wRk x = 4)) = true; rw [if_neg (by omega)]; exact fun y => absurd (of_decide_eq_true y) (by omega)) rfl
        · refine au_aload_n dX2_isCompared_34 rfl ?_
          refine au_getf (C := RX2) (T := TX2) (N := 35) in_X2 (by decide) rfl 15 (by decide) rfl rfl q1374 rfl dX2_isCompared_35 (v := au_r MWait) (congrArg au_q (fx_MO_15 hF)) ?_
          refine au_iload_n dX2_isCompared_38 rfl ?_
          refine au_iald dX2_isCompared_39 rfl (by omega) (by show _ < ((160 : Nat) : Int); omega) (v := au_i (x)) (congrArg au_i hx) ?_
          refine au_callSp (n := 1) (kX2_rank G x _) (lw_S q1599 q1600 q134 q1601) (by decide +kernel) rfl rfl rfl (Nat.le_of_ble_eq_true rfl) (Nat.le_of_ble_eq_true rfl) (Nat.le_of_ble_eq_true rfl) (Nat.le_of_ble_eq_true rfl) (Nat.le_of_ble_eq_true rfl) dX2_isCompared_40 ?_
          refine au_iconst dX2_isCompared_43 rfl rfl ?_
          refine au_icmp_ne (tgt := 51) dX2_isCompared_44 (by decide) (fun c44 => ?_) (fun c44 => ?_)
          · refine au_iconst dX2_isCompared_51 rfl rfl ?_
            refine au_zret dX2_isCompared_52 rfl (Or.inl rfl) rfl (Nat.le_of_ble_eq_true rfl) (Nat.le_of_ble_eq_true rfl) ?_
            first
            | (exfalso; omega)
            | exact au_pt (by rw [← he]; show (if 4 < wRk x then cmd R else decide (wRk x = 4)) = true; rw [if_neg (by omega)]; exact decide_eq_true (by omega)) rfl
            | exact au_pf (by rw [← he]; show ¬ (if 4 < wRk x then cmd R else decide (wRk x = 4)) = true; rw [if_neg (by omega)]; exact fun y => absurd (of_decide_eq_true y) (by omega)) rfl
          · refine au_iconst dX2_isCompared_47 rfl rfl ?_
            refine au_goto (tgt := 52) dX2_isCompared_48 (by decide) ?_
            refine au_zret dX2_isCompared_52 rfl (Or.inr rfl) rfl (Nat.le_of_ble_eq_true rfl) (Nat.le_of_ble_eq_true rfl) ?_
            first
            | (exfalso; omega)
            | exact au_pt (by rw [← he]; show (if 4 < wRk x then cmd R else decide (wRk x = 4)) = true; rw [if_neg (by omega)]; exact decide_eq_true (by omega)) rfl
            | exact au_pf (by rw [← he]; show ¬ (if 4 < wRk x then cmd R else decide (wRk x = 4)) = true; rw [if_neg (by omega)]; exact fun y => absurd (of_decide_eq_true y) (by omega)) rfl
      · refine au_aload_n dX2_isCompared_11 rfl ?_
        refine au_getf (C := RX2) (T := TX2) (N := 35) in_X2 (by decide) rfl 15 (by decide) rfl rfl q1374 rfl dX2_isCompared_12 (v := au_r MWait) (congrArg au_q (fx_MO_15 hF)) ?_
        refine au_iload_n dX2_isCompared_15 rfl ?_
        refine au_iald dX2_isCompared_16 rfl (by omega) (by show _ < ((160 : Nat) : Int); omega) (v := au_i (x)) (congrArg au_i hx) ?_
        refine au_callSp (n := 1) (kX2_rank G x _) (lw_S q1599 q1600 q134 q1601) (by decide +kernel) rfl rfl rfl (Nat.le_of_ble_eq_true rfl) (Nat.le_of_ble_eq_true rfl) (Nat.le_of_ble_eq_true rfl) (Nat.le_of_ble_eq_true rfl) (Nat.le_of_ble_eq_true rfl) dX2_isCompared_17 ?_
        refine au_iconst dX2_isCompared_20 rfl rfl ?_
        refine au_icmp_le (tgt := 30) dX2_isCompared_21 (by decide) (fun c21 => ?_) (fun c21 => ?_)
        · refine au_iload_n dX2_isCompared_30 rfl ?_
          refine au_if_lt (tgt := 51) dX2_isCompared_31 (by decide) (fun c31 => ?_) (fun c31 => ?_)
          · refine au_iconst dX2_isCompared_51 rfl rfl ?_
            refine au_zret dX2_isCompared_52 rfl (Or.inl rfl) rfl (Nat.le_of_ble_eq_true rfl) (Nat.le_of_ble_eq_true rfl) ?_
            first
            | (exfalso; omega)
            | exact au_pt (by rw [← he]; show (if 4 < wRk x then cmd R else decide (wRk x = 4)) = true; rw [if_neg (by omega)]; exact decide_eq_true (by omega)) rfl
            | exact au_pf (by rw [← he]; show ¬ (if 4 < wRk x then cmd R else decide (wRk x = 4)) = true; rw [if_neg (by omega)]; exact fun y => absurd (of_decide_eq_true y) (by omega)) rfl
          · refine au_aload_n dX2_isCompared_34 rfl ?_
            refine au_getf (C := RX2) (T := TX2) (N := 35) in_X2 (by decide) rfl 15 (by decide) rfl rfl q1374 rfl dX2_isCompared_35 (v := au_r MWait) (congrArg au_q (fx_MO_15 hF)) ?_
            refine au_iload_n dX2_isCompared_38 rfl ?_
            refine au_iald dX2_isCompared_39 rfl (by omega) (by show _ < ((160 : Nat) : Int); omega) (v := au_i (x)) (congrArg au_i hx) ?_
            refine au_callSp (n := 1) (kX2_rank G x _) (lw_S q1599 q1600 q134 q1601) (by decide +kernel) rfl rfl rfl (Nat.le_of_ble_eq_true rfl) (Nat.le_of_ble_eq_true rfl) (Nat.le_of_ble_eq_true rfl) (Nat.le_of_ble_eq_true rfl) (Nat.le_of_ble_eq_true rfl) dX2_isCompared_40 ?_
            refine au_iconst dX2_isCompared_43 rfl rfl ?_
            refine au_icmp_ne (tgt := 51) dX2_isCompared_44 (by decide) (fun c44 => ?_) (fun c44 => ?_)
            · refine au_iconst dX2_isCompared_51 rfl rfl ?_
              refine au_zret dX2_isCompared_52 rfl (Or.inl rfl) rfl (Nat.le_of_ble_eq_true rfl) (Nat.le_of_ble_eq_true rfl) ?_
              first
              | (exfalso; omega)
              | exact au_pt (by rw [← he]; show (if 4 < wRk x then cmd R else decide (wRk x = 4)) = true; rw [if_neg (by omega)]; exact decide_eq_true (by omega)) rfl
              | exact au_pf (by rw [← he]; show ¬ (if 4 < wRk x then cmd R else decide (wRk x = 4)) = true; rw [if_neg (by omega)]; exact fun y => absurd (of_decide_eq_true y) (by omega)) rfl
            · refine au_iconst dX2_isCompared_47 rfl rfl ?_
              refine au_goto (tgt := 52) dX2_isCompared_48 (by decide) ?_
              refine au_zret dX2_isCompared_52 rfl (Or.inr rfl) rfl (Nat.le_of_ble_eq_true rfl) (Nat.le_of_ble_eq_true rfl) ?_
              first
              | (exfalso; omega)
              | exact au_pt (by rw [← he]; show (if 4 < wRk x then cmd R else decide (wRk x = 4)) = true; rw [if_neg (by omega)]; exact decide_eq_true (by omega)) rfl
              | exact au_pf (by rw [← he]; show ¬ (if 4 < wRk x then cmd R else decide (wRk x = 4)) = true; rw [if_neg (by omega)]; exact fun y => absurd (of_decide_eq_true y) (by omega)) rfl
        · refine au_iinc dX2_isCompared_24 rfl (show 1 < 2 by decide) (by omega) (by omega) (by decide) (by decide) ?_
          show au_Go G _ _ 27 [some (au_r MO), some (au_i (z + (-1)))] [] (mi, si, hi, sl, r, nx) 0 0
          refine au_goto (tgt := 7) dX2_isCompared_27 (by decide) ?_
          exact ih hr.2 (by omega) (by rw [← he]; exact (if_pos (by omega)).symm) _ (by omega)
  exact hlp W hw hl rfl _ (by omega)
theorem kX2_isAskAhead (G : au_G) (W : List Int) (mi si hi sl : au_A → Int → Int) (r : au_A → Int → Option au_A) (nx : Nat) (hF : Fix r) (hp : si MO 16 = (W.length : Int)) (hw : WtAt (si MWait) W) (hl : W.length ≤ 160) : au_Ctr G yX2_isAskAhead cX2_isAskAhead 1 (some .boolean) 2 0 0 [au_r MO] (mi, si, hi, sl, r, nx) (au_pure (au_i (au_b (ahd W = true))) (mi, si, hi, sl, r, nx)) := by
  refine au_of (by decide) (Nat.le_of_ble_eq_true rfl) ?_
  show au_Go G _ _ 0 [some (au_r MO)] [] (mi, si, hi, sl, r, nx) 0 0
  by_cases hne : W = []
  · have ho : opn W = -1 := by rw [hne]; rfl
    have hf : ahd W = false := by rw [hne]; rfl
    refine au_aload_n dX2_isAskAhead_0 rfl ?_
    refine au_callVp (n := 0) (kX2_openNow G W mi si hi sl r nx hF hp hw hl) (lw_V q1587 q1589 qs73 q134 q1590) rfl (by decide +kernel) (by decide) (T := TX2) (N := 35) rfl rfl rfl rfl (Nat.le_of_ble_eq_true rfl) (Nat.le_of_ble_eq_true rfl) (Nat.le_of_ble_eq_true rfl) (Nat.le_of_ble_eq_true rfl) (Nat.le_of_ble_eq_true rfl) dX2_isAskAhead_1 ?_
    refine au_bipush dX2_isAskAhead_4 rfl rfl ?_
    refine au_icmp_ne (tgt := 51) dX2_isAskAhead_6 (by decide) (fun c6 => ?_) (fun c6 => ?_)
    · refine au_iconst dX2_isAskAhead_51 rfl rfl ?_
      exact au_zret dX2_isAskAhead_52 rfl (Or.inl rfl) rfl (Nat.le_of_ble_eq_true rfl) (Nat.le_of_ble_eq_true rfl) (by first | exact au_pf (by rw [hf]; decide) rfl | (exfalso; omega))
    · refine au_aload_n dX2_isAskAhead_9 rfl ?_
      refine au_getf (C := RX2) (T := TX2) (N := 35) in_X2 (by decide) rfl 15 (by decide) rfl rfl q1374 rfl dX2_isAskAhead_10 (v := au_r MWait) (congrArg au_q (fx_MO_15 hF)) ?_
      refine au_aload_n dX2_isAskAhead_13 rfl ?_
      refine au_getf (C := RX2) (T := TX2) (N := 35) in_X2 (by decide) rfl 16 (by decide) rfl rfl q1375 rfl dX2_isAskAhead_14 (v := au_i (si MO 16)) (by rfl) ?_
      refine au_iconst dX2_isAskAhead_17 rfl rfl ?_
      refine au_isub dX2_isAskAhead_18 (by omega) (by omega) ?_
      refine au_iald dX2_isAskAhead_19 rfl (by omega) (by show _ < ((160 : Nat) : Int); omega) (v := au_i (si MWait ((si MO 16) - 1))) (by rfl) ?_
      refine au_bipush dX2_isAskAhead_20 rfl rfl ?_
      refine au_icmp_ge (tgt := 47) dX2_isAskAhead_22 (by decide) (fun c22 => ?_) (fun c22 => ?_)
      · refine au_iconst dX2_isAskAhead_47 rfl rfl ?_
        refine au_goto (tgt := 52) dX2_isAskAhead_48 (by decide) ?_
        exact au_zret dX2_isAskAhead_52 rfl (Or.inr rfl) rfl (Nat.le_of_ble_eq_true rfl) (Nat.le_of_ble_eq_true rfl) (by first | exact au_pf (by rw [hf]; decide) rfl | (exfalso; omega))
      · refine au_aload_n dX2_isAskAhead_25 rfl ?_
        refine au_getf (C := RX2) (T := TX2) (N := 35) in_X2 (by decide) rfl 15 (by decide) rfl rfl q1374 rfl dX2_isAskAhead_26 (v := au_r MWait) (congrArg au_q (fx_MO_15 hF)) ?_
        refine au_aload_n dX2_isAskAhead_29 rfl ?_
        refine au_getf (C := RX2) (T := TX2) (N := 35) in_X2 (by decide) rfl 16 (by decide) rfl rfl q1375 rfl dX2_isAskAhead_30 (v := au_i (si MO 16)) (by rfl) ?_
        refine au_iconst dX2_isAskAhead_33 rfl rfl ?_
        refine au_isub dX2_isAskAhead_34 (by omega) (by omega) ?_
        refine au_iald dX2_isAskAhead_35 rfl (by omega) (by show _ < ((160 : Nat) : Int); omega) (v := au_i (si MWait ((si MO 16) - 1))) (by rfl) ?_
        refine au_callSp (n := 1) (kX2_rank G (si MWait ((si MO 16) - 1)) _) (lw_S q1599 q1600 q134 q1601) (by decide +kernel) rfl rfl rfl (Nat.le_of_ble_eq_true rfl) (Nat.le_of_ble_eq_true rfl) (Nat.le_of_ble_eq_true rfl) (Nat.le_of_ble_eq_true rfl) (Nat.le_of_ble_eq_true rfl) dX2_isAskAhead_36 ?_
        refine au_iconst dX2_isAskAhead_39 rfl rfl ?_
        refine au_iconst dX2_isAskAhead_40 rfl rfl ?_
        refine au_callSp (n := 3) (kX2_isIn G (wRk ((si MWait ((si MO 16) - 1)))) 1 3 (mi, si, hi, sl, r, nx)) (lw_S q1475 q1476 q134 q1477) (by decide +kernel) rfl rfl rfl (Nat.le_of_ble_eq_true rfl) (Nat.le_of_ble_eq_true rfl) (Nat.le_of_ble_eq_true rfl) (Nat.le_of_ble_eq_true rfl) (Nat.le_of_ble_eq_true rfl) dX2_isAskAhead_41 ?_
        refine au_if_eq (tgt := 51) dX2_isAskAhead_44 (by decide) (fun c44 => ?_) (fun c44 => ?_)
        · have c44 := au_b0 c44
          refine au_iconst dX2_isAskAhead_51 rfl rfl ?_
          exact au_zret dX2_isAskAhead_52 rfl (Or.inl rfl) rfl (Nat.le_of_ble_eq_true rfl) (Nat.le_of_ble_eq_true rfl) (by first | exact au_pf (by rw [hf]; decide) rfl | (exfalso; omega))
        · have c44 := au_b1 c44
          refine au_iconst dX2_isAskAhead_47 rfl rfl ?_
          refine au_goto (tgt := 52) dX2_isAskAhead_48 (by decide) ?_
          exact au_zret dX2_isAskAhead_52 rfl (Or.inr rfl) rfl (Nat.le_of_ble_eq_true rfl) (Nat.le_of_ble_eq_true rfl) (by first | exact au_pf (by rw [hf]; decide) rfl | (exfalso; omega))
  · obtain ⟨x, R, e⟩ : ∃ x R, W = x :: R := List.exists_cons_of_ne_nil hne
    have hln : W.length = R.length + 1 := by rw [e]; rfl
    have hx : si MWait (si MO 16 - 1) = x := by
      have hw1 := hw
      rw [e] at hw1
      rw [hp, hln, show (((R.length + 1 : Nat)) : Int) - 1 = (R.length : Int) by omega]
      exact hw1.1
    have ha : ahd W = (decide (opn W = 42) && decide (40 ≤ x ∨ (1 ≤ wRk x ∧ wRk x ≤ 3))) := by rw [e]; rfl
    refine au_aload_n dX2_isAskAhead_0 rfl ?_
    refine au_callVp (n := 0) (kX2_openNow G W mi si hi sl r nx hF hp hw hl) (lw_V q1587 q1589 qs73 q134 q1590) rfl (by decide +kernel) (by decide) (T := TX2) (N := 35) rfl rfl rfl rfl (Nat.le_of_ble_eq_true rfl) (Nat.le_of_ble_eq_true rfl) (Nat.le_of_ble_eq_true rfl) (Nat.le_of_ble_eq_true rfl) (Nat.le_of_ble_eq_true rfl) dX2_isAskAhead_1 ?_
    refine au_bipush dX2_isAskAhead_4 rfl rfl ?_
    refine au_icmp_ne (tgt := 51) dX2_isAskAhead_6 (by decide) (fun c6 => ?_) (fun c6 => ?_)
    · refine au_iconst dX2_isAskAhead_51 rfl rfl ?_
      refine au_zret dX2_isAskAhead_52 rfl (Or.inl rfl) rfl (Nat.le_of_ble_eq_true rfl) (Nat.le_of_ble_eq_true rfl) ?_
      first
      | exact au_pt (by rw [ha, Bool.and_eq_true]; exact ⟨decide_eq_true (by omega), decide_eq_true (by omega)⟩) rfl
      | exact au_pf (fun y : ahd W = true => by
          rw [ha, Bool.and_eq_true] at y
          have y1 := of_decide_eq_true y.1
          have y2 := of_decide_eq_true y.2
          omega) rfl
    · refine au_aload_n dX2_isAskAhead_9 rfl ?_
      refine au_getf (C := RX2) (T := TX2) (N := 35) in_X2 (by decide) rfl 15 (by decide) rfl rfl q1374 rfl dX2_isAskAhead_10 (v := au_r MWait) (congrArg au_q (fx_MO_15 hF)) ?_
      refine au_aload_n dX2_isAskAhead_13 rfl ?_
      refine au_getf (C := RX2) (T := TX2) (N := 35) in_X2 (by decide) rfl 16 (by decide) rfl rfl q1375 rfl dX2_isAskAhead_14 (v := au_i (si MO 16)) (by rfl) ?_
      refine au_iconst dX2_isAskAhead_17 rfl rfl ?_
      refine au_isub dX2_isAskAhead_18 (by omega) (by omega) ?_
      refine au_iald dX2_isAskAhead_19 rfl (by omega) (by show _ < ((160 : Nat) : Int); omega) (v := au_i (x)) (congrArg au_i hx) ?_
      refine au_bipush dX2_isAskAhead_20 rfl rfl ?_
      refine au_icmp_ge (tgt := 47) dX2_isAskAhead_22 (by decide) (fun c22 => ?_) (fun c22 => ?_)
      · refine au_iconst dX2_isAskAhead_47 rfl rfl ?_
        refine au_goto (tgt := 52) dX2_isAskAhead_48 (by decide) ?_
        refine au_zret dX2_isAskAhead_52 rfl (Or.inr rfl) rfl (Nat.le_of_ble_eq_true rfl) (Nat.le_of_ble_eq_true rfl) ?_
        first
        | exact au_pt (by rw [ha, Bool.and_eq_true]; exact ⟨decide_eq_true (by omega), decide_eq_true (by omega)⟩) rfl
        | exact au_pf (fun y : ahd W = true => by
            rw [ha, Bool.and_eq_true] at y
            have y1 := of_decide_eq_true y.1
            have y2 := of_decide_eq_true y.2
            omega) rfl
      · refine au_aload_n dX2_isAskAhead_25 rfl ?_
        refine au_getf (C := RX2) (T := TX2) (N := 35) in_X2 (by decide) rfl 15 (by decide) rfl rfl q1374 rfl dX2_isAskAhead_26 (v := au_r MWait) (congrArg au_q (fx_MO_15 hF)) ?_
        refine au_aload_n dX2_isAskAhead_29 rfl ?_
        refine au_getf (C := RX2) (T := TX2) (N := 35) in_X2 (by decide) rfl 16 (by decide) rfl rfl q1375 rfl dX2_isAskAhead_30 (v := au_i (si MO 16)) (by rfl) ?_
        refine au_iconst dX2_isAskAhead_33 rfl rfl ?_
        refine au_isub dX2_isAskAhead_34 (by omega) (by omega) ?_
        refine au_iald dX2_isAskAhead_35 rfl (by omega) (by show _ < ((160 : Nat) : Int); omega) (v := au_i (x)) (congrArg au_i hx) ?_
        refine au_callSp (n := 1) (kX2_rank G x _) (lw_S q1599 q1600 q134 q1601) (by decide +kernel) rfl rfl rfl (Nat.le_of_ble_eq_true rfl) (Nat.le_of_ble_eq_true rfl) (Nat.le_of_ble_eq_true rfl) (Nat.le_of_ble_eq_true rfl) (Nat.le_of_ble_eq_true rfl) dX2_isAskAhead_36 ?_
        refine au_iconst dX2_isAskAhead_39 rfl rfl ?_
        refine au_iconst dX2_isAskAhead_40 rfl rfl ?_
        refine au_callSp (n := 3) (kX2_isIn G (wRk (x)) 1 3 (mi, si, hi, sl, r, nx)) (lw_S q1475 q1476 q134 q1477) (by decide +kernel) rfl rfl rfl (Nat.le_of_ble_eq_true rfl) (Nat.le_of_ble_eq_true rfl) (Nat.le_of_ble_eq_true rfl) (Nat.le_of_ble_eq_true rfl) (Nat.le_of_ble_eq_true rfl) dX2_isAskAhead_41 ?_
        refine au_if_eq (tgt := 51) dX2_isAskAhead_44 (by decide) (fun c44 => ?_) (fun c44 => ?_)
        · have c44 := au_b0 c44
          refine au_iconst dX2_isAskAhead_51 rfl rfl ?_
          refine au_zret dX2_isAskAhead_52 rfl (Or.inl rfl) rfl (Nat.le_of_ble_eq_true rfl) (Nat.le_of_ble_eq_true rfl) ?_
          first
          | exact au_pt (by rw [ha, Bool.and_eq_true]; exact ⟨decide_eq_true (by omega), decide_eq_true (by omega)⟩) rfl
          | exact au_pf (fun y : ahd W = true => by
              rw [ha, Bool.and_eq_true] at y
              have y1 := of_decide_eq_true y.1
              have y2 := of_decide_eq_true y.2
              omega) rfl
        · have c44 := au_b1 c44
          refine au_iconst dX2_isAskAhead_47 rfl rfl ?_
          refine au_goto (tgt := 52) dX2_isAskAhead_48 (by decide) ?_
          refine au_zret dX2_isAskAhead_52 rfl (Or.inr rfl) rfl (Nat.le_of_ble_eq_true rfl) (Nat.le_of_ble_eq_true rfl) ?_
          first
          | exact au_pt (by rw [ha, Bool.and_eq_true]; exact ⟨decide_eq_true (by omega), decide_eq_true (by omega)⟩) rfl
          | exact au_pf (fun y : ahd W = true => by
              rw [ha, Bool.and_eq_true] at y
              have y1 := of_decide_eq_true y.1
              have y2 := of_decide_eq_true y.2
              omega) rfl
