/-! LAWS of ApologyUp (printed by tools/m40.py) -/
set_option maxRecDepth 100000
set_option maxHeartbeats 4000000

abbrev au_Lw : Type := Nat → Option au_F
/-- how a text lies in the heap: its three laws -/
def TxAt (r : au_A → Int → Option au_A) (hi : au_A → Int → Int) (d : Nat) (t : au_A) (Lw : au_Lw) : Prop :=
  t.2.2 = 4 ∧ ∃ la : Nat, r t 0 = some (la, 3, 46) ∧ ∀ l : Nat, l < 3 → match Lw l with
    | none => r (la, 3, 46) (l : Int) = none
    | some f => ∃ s, r (la, 3, 46) (l : Int) = some s ∧ sk s ∧ au_X r hi d s f
/-- a text, or none is chosen -/
def TxN (r : au_A → Int → Option au_A) (hi : au_A → Int → Int) (d : Nat) (t : au_A) (Lw : au_Lw) : Prop := TxAt r hi d t Lw ∨ (t = (190, 0, 60) ∧ Lw = fun _ => none)
def lawO (o : Option au_F) (nm : Int → Int) (wo : Int) : Int := match o with
  | none => wo
  | some f => f nm
/-- what a law says, kept within -/
def lawV (Lw : au_Lw) (l : Nat) (nm : Int → Int) (wo top : Int) : Int := max 0 (min top (lawO (Lw l) nm wo))
/-- the names -/
def nmF (B Pr : Int → Int) (n day size who fr to days desk : Int) : Int → Int := fun k =>
  if k = 0 then day else if k = 1 then size else if k = 2 then who else if k = 3 then Pr who else if k = 4 then rank B who else if k = 5 then fr else if k = 6 then to else if k = 7 then days else if k = 8 then desk else if k - 9 < n then rank B (k - 9) else 0
theorem up_at' (m : au_A → Int → Int) (a : au_A) {j k : Int} (v : Int) (h : k = j) : au_up m a j v a k = v := if_pos ⟨rfl, h⟩

theorem kX0_held (G : au_G) (v lo hh : Int) (M : au_M) (h0 : -2147483648 ≤ lo) (h1 : lo ≤ hh) (h2 : hh ≤ 2147483647) : au_Ctr G yX0_held cX0_held 4 (some .int) 1 0 0 [au_l v, au_i lo, au_i hh] M (au_pure (au_i (max lo (min hh v))) M) := by
  refine au_of (by decide) (Nat.le_of_ble_eq_true rfl) ?_
  show au_Go G _ _ 0 [some (au_l v), none, some (au_i lo), some (au_i hh)] [] M 0 0
  refine au_iload_n dX0_held_0 rfl ?_
  refine au_i2l dX0_held_1 ?_
  refine au_iload_n dX0_held_2 rfl ?_
  refine au_i2l dX0_held_3 ?_
  refine au_lload_n dX0_held_4 rfl ?_
  refine au_lmin q1038 q1030 q144 q1031 rfl rfl (Nat.le_of_ble_eq_true rfl) (Nat.le_of_ble_eq_true rfl) (Nat.le_of_ble_eq_true rfl) (Nat.le_of_ble_eq_true rfl) (Nat.le_of_ble_eq_true rfl) dX0_held_5 ?_
  show au_Go G _ _ 8 [some (au_l v), none, some (au_i lo), some (au_i hh)] [au_l (min hh v), au_l lo] M 0 0
  refine au_lmax q1039 q1033 q144 q1034 rfl rfl (Nat.le_of_ble_eq_true rfl) (Nat.le_of_ble_eq_true rfl) (Nat.le_of_ble_eq_true rfl) (Nat.le_of_ble_eq_true rfl) (Nat.le_of_ble_eq_true rfl) dX0_held_8 ?_
  show au_Go G _ _ 11 [some (au_l v), none, some (au_i lo), some (au_i hh)] [au_l (max lo (min hh v))] M 0 0
  refine au_l2i dX0_held_11 (by omega) (by omega) ?_
  exact au_iret dX0_held_12 rfl rfl (Nat.le_of_ble_eq_true rfl) (Nat.le_of_ble_eq_true rfl) (⟨rfl, rfl⟩)
theorem kX0_law (G : au_G) (d l : Nat) (t : au_A) (w top : Int) (Lw : au_Lw) (mi si hi sl : au_A → Int → Int) (r : au_A → Int → Option au_A) (nx : Nat) (hF : Fix r) (hIC : ICm mi) (nm : Int → Int) (hnm : ∀ k, 0 ≤ k → k < 19 → si XNames k = nm k) (hn : ∀ k, 0 ≤ k → k < 19 → I32 (nm k)) (hT : TxN r hi d t Lw) (hl : l < 3) (h0 : 0 ≤ top) (h1 : top ≤ 9999) : au_Ctr G yX0_law cX0_law 6 (some .int) (d + 5) 0 0 [au_r XO, au_r t, au_i (l : Int), au_i w, au_i 0, au_i top] (mi, si, hi, sl, r, nx) (au_pure (au_i (lawV Lw l nm w top)) (mi, si, hi, sl, r, nx)) := by
  refine au_of (by decide) (Nat.le_of_ble_eq_true rfl) ?_
  obtain ⟨p, q0, kd⟩ := t
  rcases hT with hT | ⟨ht, rfl⟩
  rotate_left
  · cases ht
    show au_Go G _ _ 0 [some (au_r XO), some (au_r (190, 0, 60)), some (au_i (l : Int)), some (au_i w), some (au_i 0), some (au_i top)] [] (mi, si, hi, sl, r, nx) 0 0
    refine au_aload_n dX0_law_0 rfl ?_
    refine au_getKN (a := (190, 0, 60)) (v := au_r (191, 3, 60)) ⟨by decide, rfl⟩ au_old.nothing ⟨by decide, rfl⟩ rfl q398 dX0_law_1 ?_
    refine au_iload_n dX0_law_4 rfl ?_
    refine au_aldK (a := (191, 3, 60)) (v := au_n) (N := 3) ⟨by decide, rfl⟩ au_old.nolaw (by omega) (by omega) rfl trivial dX0_law_5 ?_
    refine au_ifnonnullN dX0_law_6 ?_
    refine au_iload_n dX0_law_9 rfl ?_
    refine au_i2l dX0_law_10 ?_
    refine au_goto (tgt := 29) dX0_law_11 (by decide) ?_
    refine au_iload dX0_law_29 rfl ?_
    refine au_iload dX0_law_31 rfl ?_
    refine au_callSp (n := 3) (kX0_held G w 0 top _ (by omega) (by omega) (by omega)) (lw_S q1035 q1036 q130 q1037) (by decide +kernel) rfl rfl rfl (Nat.le_of_ble_eq_true rfl) (by show _ ≤ d + 5; omega) (by show _ ≤ 80 * (d + 5); omega) (Nat.le_of_ble_eq_true rfl) (Nat.le_of_ble_eq_true rfl) dX0_law_33 ?_
    exact au_iret dX0_law_36 rfl rfl (Nat.le_of_ble_eq_true rfl) (Nat.le_of_ble_eq_true rfl) (⟨rfl, rfl⟩)
  obtain ⟨ht, la, h3, h4⟩ := hT
  have ht : kd = 4 := ht
  subst ht
  have h5 := h4 l hl
  unfold lawV
  show au_Go G _ _ 0 [some (au_r XO), some (au_r (p, q0, 4)), some (au_i (l : Int)), some (au_i w), some (au_i 0), some (au_i top)] [] (mi, si, hi, sl, r, nx) 0 0
  cases hc : Lw l with
  | none =>
    rw [hc] at h5
    refine au_aload_n dX0_law_0 rfl ?_
    refine au_getN (C := RX4) (T := TX4) (N := 3) in_X4 (show 4 < 40 by decide) rfl 0 (by decide) rfl rfl q398 rfl dX0_law_1 (v := au_r (la, 3, 46)) (congrArg au_q (h3)) ?_
    refine au_iload_n dX0_law_4 rfl ?_
    refine au_aald dX0_law_5 (show 44 ≤ 46 by decide) (show 46 ≤ 48 by decide) (by omega) (by show _ < ((3 : Nat) : Int); omega) (v := au_n) (congrArg au_q (h5)) ?_
    refine au_ifnonnullN dX0_law_6 ?_
    refine au_iload_n dX0_law_9 rfl ?_
    refine au_i2l dX0_law_10 ?_
    refine au_goto (tgt := 29) dX0_law_11 (by decide) ?_
    refine au_iload dX0_law_29 rfl ?_
    refine au_iload dX0_law_31 rfl ?_
    refine au_callSp (n := 3) (kX0_held G w 0 top _ (by omega) (by omega) (by omega)) (lw_S q1035 q1036 q130 q1037) (by decide +kernel) rfl rfl rfl (Nat.le_of_ble_eq_true rfl) (by show _ ≤ d + 5; omega) (by show _ ≤ 80 * (d + 5); omega) (Nat.le_of_ble_eq_true rfl) (Nat.le_of_ble_eq_true rfl) dX0_law_33 ?_
    exact au_iret dX0_law_36 rfl rfl (Nat.le_of_ble_eq_true rfl) (Nat.le_of_ble_eq_true rfl) (⟨rfl, rfl⟩)
  | some f =>
    rw [hc] at h5
    obtain ⟨s, h6, h7, h8⟩ := h5
    have hsc := (au_X.answers (G := G) (sl := sl) (nx := nx) hIC hnm hn _ _ _ h8).1 h7
    have hbd := (au_X.bd hn _ _ _ h8).1 h7
    unfold I33 at hbd
    refine au_aload_n dX0_law_0 rfl ?_
    refine au_getN (C := RX4) (T := TX4) (N := 3) in_X4 (show 4 < 40 by decide) rfl 0 (by decide) rfl rfl q398 rfl dX0_law_1 (v := au_r (la, 3, 46)) (congrArg au_q (h3)) ?_
    refine au_iload_n dX0_law_4 rfl ?_
    refine au_aald dX0_law_5 (show 44 ≤ 46 by decide) (show 46 ≤ 48 by decide) (by omega) (by show _ < ((3 : Nat) : Int); omega) (v := au_r s) (congrArg au_q (h6)) ?_
    refine au_ifnonnull (tgt := 14) dX0_law_6 (by decide) ?_
    refine au_aload_n dX0_law_14 rfl ?_
    refine au_getN (C := RX4) (T := TX4) (N := 3) in_X4 (show 4 < 40 by decide) rfl 0 (by decide) rfl rfl q398 rfl dX0_law_15 (v := au_r (la, 3, 46)) (congrArg au_q (h3)) ?_
    refine au_iload_n dX0_law_18 rfl ?_
    refine au_aald dX0_law_19 (show 44 ≤ 46 by decide) (show 46 ≤ 48 by decide) (by omega) (by show _ < ((3 : Nat) : Int); omega) (v := au_r s) (congrArg au_q (h6)) ?_
    refine au_aload_n dX0_law_20 rfl ?_
    refine au_getf (C := RX0) (T := TX0) (N := 15) in_X0 (by decide) rfl 6 (by decide) rfl rfl q251 rfl dX0_law_21 (v := au_r XNames) (congrArg au_q (fx_XO_6 hF)) ?_
    refine hsc _ _ _ _ _ _ _ _ _ q931 dX0_law_24 (Nat.le_of_ble_eq_true rfl) (by show _ ≤ d + 5; omega) (by show _ ≤ 80 * (d + 5); omega) (Nat.le_of_ble_eq_true rfl) (Nat.le_of_ble_eq_true rfl) ?_
    show au_Go G _ _ 29 [some (au_r XO), some (au_r (p, q0, 4)), some (au_i (l : Int)), some (au_i w), some (au_i 0), some (au_i top)] [au_l (f nm)] (mi, si, hi, sl, r, nx) 0 0
    refine au_iload dX0_law_29 rfl ?_
    refine au_iload dX0_law_31 rfl ?_
    refine au_callSp (n := 3) (kX0_held G (f nm) 0 top _ (by omega) (by omega) (by omega)) (lw_S q1035 q1036 q130 q1037) (by decide +kernel) rfl rfl rfl (Nat.le_of_ble_eq_true rfl) (by show _ ≤ d + 5; omega) (by show _ ≤ 80 * (d + 5); omega) (Nat.le_of_ble_eq_true rfl) (Nat.le_of_ble_eq_true rfl) dX0_law_33 ?_
    exact au_iret dX0_law_36 rfl rfl (Nat.le_of_ble_eq_true rfl) (Nat.le_of_ble_eq_true rfl) (⟨rfl, rfl⟩)
theorem kX0_namesOf (G : au_G) (day size who fr to : Int) (mi si hi sl : au_A → Int → Int) (r : au_A → Int → Option au_A) (nx : Nat) (hF : Fix r) (n : Int) (hN : mi XNn 0 = n) (B : Int → Int) (hE : ∀ o, 0 ≤ o → o < 10 → mi XNboss o = B o) (hB : Bs B n) (Pr : Int → Int) (hPr : ∀ o, 0 ≤ o → o < 10 → mi XNpride o = Pr o) (h0 : 0 ≤ who) (h1 : who < n) : au_Ctr G yX0_namesOf cX0_namesOf 7 none 2 0 0 [au_r XO, au_i day, au_i who, au_i size, au_i fr, au_i to] (mi, si, hi, sl, r, nx) (fun rv M' => rv = none ∧ ∃ sj : au_A → Int → Int, M' = (mi, sj, hi, sl, r, nx) ∧ (∀ a, a ≠ XNames → sj a = si a) ∧ ∀ k, 0 ≤ k → k < 19 → k ≠ 7 → k ≠ 8 → sj XNames k = nmF B Pr n day size who fr to 0 0 k) := by
  refine au_of (by decide) (Nat.le_of_ble_eq_true rfl) ?_
  have hb0 := hB.2.1
  have hb1 := hB.1
  have hn : 0 ≤ n ∧ n ≤ 10 := ⟨hb1, hb0⟩
  show au_Go G _ _ 0 [some (au_r XO), some (au_i day), some (au_i who), some (au_i size), some (au_i fr), some (au_i to), none] [] (mi, si, hi, sl, r, nx) 0 0
  refine au_aload_n dX0_namesOf_0 rfl ?_
  refine au_getf (C := RX0) (T := TX0) (N := 15) in_X0 (by decide) rfl 6 (by decide) rfl rfl q251 rfl dX0_namesOf_1 (v := au_r XNames) (congrArg au_q (fx_XO_6 hF)) ?_
  refine au_iconst dX0_namesOf_4 rfl rfl ?_
  refine au_iload_n dX0_namesOf_5 rfl ?_
  refine au_iast dX0_namesOf_6 rfl (by decide) (by omega) (by show _ < ((19 : Nat) : Int); omega) (M' := (mi, (au_up si XNames 0 day), hi, sl, r, nx)) (by rfl) ?_
  refine au_aload_n dX0_namesOf_7 rfl ?_
  refine au_getf (C := RX0) (T := TX0) (N := 15) in_X0 (by decide) rfl 6 (by decide) rfl rfl q251 rfl dX0_namesOf_8 (v := au_r XNames) (congrArg au_q (fx_XO_6 hF)) ?_
  refine au_iconst dX0_namesOf_11 rfl rfl ?_
  refine au_iload_n dX0_namesOf_12 rfl ?_
  refine au_iast dX0_namesOf_13 rfl (by decide) (by omega) (by show _ < ((19 : Nat) : Int); omega) (M' := (mi, (au_up (au_up si XNames 0 day) XNames 1 size), hi, sl, r, nx)) (by rfl) ?_
  refine au_aload_n dX0_namesOf_14 rfl ?_
  refine au_getf (C := RX0) (T := TX0) (N := 15) in_X0 (by decide) rfl 6 (by decide) rfl rfl q251 rfl dX0_namesOf_15 (v := au_r XNames) (congrArg au_q (fx_XO_6 hF)) ?_
  refine au_iconst dX0_namesOf_18 rfl rfl ?_
  refine au_iload_n dX0_namesOf_19 rfl ?_
  refine au_iast dX0_namesOf_20 rfl (by decide) (by omega) (by show _ < ((19 : Nat) : Int); omega) (M' := (mi, (au_up (au_up (au_up si XNames 0 day) XNames 1 size) XNames 2 who), hi, sl, r, nx)) (by rfl) ?_
  refine au_aload_n dX0_namesOf_21 rfl ?_
  refine au_getf (C := RX0) (T := TX0) (N := 15) in_X0 (by decide) rfl 6 (by decide) rfl rfl q251 rfl dX0_namesOf_22 (v := au_r XNames) (congrArg au_q (fx_XO_6 hF)) ?_
  refine au_iconst dX0_namesOf_25 rfl rfl ?_
  refine au_aload_n dX0_namesOf_26 rfl ?_
  refine au_getf (C := RX0) (T := TX0) (N := 15) in_X0 (by decide) rfl 0 (by decide) rfl rfl q245 rfl dX0_namesOf_27 (v := au_r XN) (congrArg au_q (fx_XO_0 hF)) ?_
  refine au_getN (C := RX1) (T := TX1) (N := 11) in_X1 (by decide) rfl 3 (by decide) rfl rfl q193 rfl dX0_namesOf_30 (v := au_r XNpride) (congrArg au_q (fx_XN_3 hF)) ?_
  refine au_iload_n dX0_namesOf_33 rfl ?_
  refine au_iald dX0_namesOf_34 rfl (by omega) (by show _ < ((10 : Nat) : Int); omega) (v := au_i (Pr who)) (congrArg au_i (hPr _ (by omega) (by omega))) ?_
  refine au_iast dX0_namesOf_35 rfl (by decide) (by omega) (by show _ < ((19 : Nat) : Int); omega) (M' := (mi, (au_up (au_up (au_up (au_up si XNames 0 day) XNames 1 size) XNames 2 who) XNames 3 (Pr who)), hi, sl, r, nx)) (by rfl) ?_
  refine au_aload_n dX0_namesOf_36 rfl ?_
  refine au_getf (C := RX0) (T := TX0) (N := 15) in_X0 (by decide) rfl 6 (by decide) rfl rfl q251 rfl dX0_namesOf_37 (v := au_r XNames) (congrArg au_q (fx_XO_6 hF)) ?_
  refine au_iconst dX0_namesOf_40 rfl rfl ?_
  refine au_aload_n dX0_namesOf_41 rfl ?_
  refine au_iload_n dX0_namesOf_42 rfl ?_
  refine au_callVp (n := 1) (kX0_rankOf G who mi (au_up (au_up (au_up (au_up si XNames 0 day) XNames 1 size) XNames 2 who) XNames 3 (Pr who)) hi sl r nx hF n hN B hE hB (by omega) (by omega)) (lw_V q916 q918 qs29 q130 q919) rfl (by decide +kernel) (by decide) (T := TX0) (N := 15) rfl rfl rfl rfl (Nat.le_of_ble_eq_true rfl) (Nat.le_of_ble_eq_true rfl) (Nat.le_of_ble_eq_true rfl) (Nat.le_of_ble_eq_true rfl) (Nat.le_of_ble_eq_true rfl) dX0_namesOf_43 ?_
  refine au_iast dX0_namesOf_46 rfl (by decide) (by omega) (by show _ < ((19 : Nat) : Int); omega) (M' := (mi, (au_up (au_up (au_up (au_up (au_up si XNames 0 day) XNames 1 size) XNames 2 who) XNames 3 (Pr who)) XNames 4 (rank B who)), hi, sl, r, nx)) (by rfl) ?_
  refine au_aload_n dX0_namesOf_47 rfl ?_
  refine au_getf (C := RX0) (T := TX0) (N := 15) in_X0 (by decide) rfl 6 (by decide) rfl rfl q251 rfl dX0_namesOf_48 (v := au_r XNames) (congrArg au_q (fx_XO_6 hF)) ?_
  refine au_iconst dX0_namesOf_51 rfl rfl ?_
  refine au_iload dX0_namesOf_52 rfl ?_
  refine au_iast dX0_namesOf_54 rfl (by decide) (by omega) (by show _ < ((19 : Nat) : Int); omega) (M' := (mi, (au_up (au_up (au_up (au_up (au_up (au_up si XNames 0 day) XNames 1 size) XNames 2 who) XNames 3 (Pr who)) XNames 4 (rank B who)) XNames 5 fr), hi, sl, r, nx)) (by rfl) ?_
  refine au_aload_n dX0_namesOf_55 rfl ?_
  refine au_getf (C := RX0) (T := TX0) (N := 15) in_X0 (by decide) rfl 6 (by decide) rfl rfl q251 rfl dX0_namesOf_56 (v := au_r XNames) (congrArg au_q (fx_XO_6 hF)) ?_
  refine au_bipush dX0_namesOf_59 rfl rfl ?_
  refine au_iload dX0_namesOf_61 rfl ?_
  refine au_iast dX0_namesOf_63 rfl (by decide) (by omega) (by show _ < ((19 : Nat) : Int); omega) (M' := (mi, (au_up (au_up (au_up (au_up (au_up (au_up (au_up si XNames 0 day) XNames 1 size) XNames 2 who) XNames 3 (Pr who)) XNames 4 (rank B who)) XNames 5 fr) XNames 6 to), hi, sl, r, nx)) (by rfl) ?_
  refine au_iconst dX0_namesOf_64 rfl rfl ?_
  refine au_istore dX0_namesOf_65 (show 6 < 7 by decide) ?_
  show au_Go G _ _ 67 [some (au_r XO), some (au_i day), some (au_i who), some (au_i size), some (au_i fr), some (au_i to), some (au_i 0)] [] (mi, (au_up (au_up (au_up (au_up (au_up (au_up (au_up si XNames 0 day) XNames 1 size) XNames 2 who) XNames 3 (Pr who)) XNames 4 (rank B who)) XNames 5 fr) XNames 6 to), hi, sl, r, nx) 0 0
  have hl : ∀ (f : Nat) (j : Nat) (sj : au_A → Int → Int), j ≤ 10 → (∀ a, a ≠ XNames → sj a = si a) → (∀ k, 0 ≤ k → k < 9 + (j : Int) → k ≠ 7 → k ≠ 8 → sj XNames k = nmF B Pr n day size who fr to 0 0 k) → 10 - j < f → au_Go G (yX0_namesOf.cls, cX0_namesOf, 7, none, au_rm 2 0 0, yX0_namesOf.name) (au_QM G (au_rm 2 0 0) (fun rv M' => rv = none ∧ ∃ sj : au_A → Int → Int, M' = (mi, sj, hi, sl, r, nx) ∧ (∀ a, a ≠ XNames → sj a = si a) ∧ ∀ k, 0 ≤ k → k < 19 → k ≠ 7 → k ≠ 8 → sj XNames k = nmF B Pr n day size who fr to 0 0 k)) 67 [some (au_r XO), some (au_i day), some (au_i who), some (au_i size), some (au_i fr), some (au_i to), some (au_i ((j : Int)))] [] (mi, sj, hi, sl, r, nx) 0 0 := by
    intro f
    induction f with
    | zero => intro j sj hj g1 g2 hf; exfalso; omega
    | succ f ih =>
      intro j sj hj g1 g2 hf
      refine au_iload dX0_namesOf_67 rfl ?_
      refine au_bipush dX0_namesOf_69 rfl rfl ?_
      refine au_icmp_ge (tgt := 109) dX0_namesOf_71 (by decide) (fun c71 => ?_) (fun c71 => ?_)
      · exact au_vret dX0_namesOf_109 rfl rfl (Nat.le_of_ble_eq_true rfl) (Nat.le_of_ble_eq_true rfl) (⟨rfl, sj, rfl, g1, fun k k0 k1 k7 k8 => g2 k k0 (by omega) k7 k8⟩)
      · refine au_aload_n dX0_namesOf_74 rfl ?_
        refine au_getf (C := RX0) (T := TX0) (N := 15) in_X0 (by decide) rfl 6 (by decide) rfl rfl q251 rfl dX0_namesOf_75 (v := au_r XNames) (congrArg au_q (fx_XO_6 hF)) ?_
        refine au_bipush dX0_namesOf_78 rfl rfl ?_
        refine au_iload dX0_namesOf_80 rfl ?_
        refine au_iadd dX0_namesOf_82 (by omega) (by omega) ?_
        refine au_aload_n dX0_namesOf_83 rfl ?_
        refine au_iload dX0_namesOf_84 rfl ?_
        refine au_callVp (n := 1) (kX0_isOfficer G (j : Int) mi sj hi sl r nx hF n hN hn ) (lw_V q296 q298 qs0 q130 q299) rfl (by decide +kernel) (by decide) (T := TX0) (N := 15) rfl rfl rfl rfl (Nat.le_of_ble_eq_true rfl) (Nat.le_of_ble_eq_true rfl) (Nat.le_of_ble_eq_true rfl) (Nat.le_of_ble_eq_true rfl) (Nat.le_of_ble_eq_true rfl) dX0_namesOf_86 ?_
        refine au_if_eq (tgt := 101) dX0_namesOf_89 (by decide) (fun c89 => ?_) (fun c89 => ?_)
        · have c89 := au_b0 c89
          refine au_iconst dX0_namesOf_101 rfl rfl ?_
          refine au_iast dX0_namesOf_102 rfl (by decide) (by omega) (by show _ < ((19 : Nat) : Int); omega) (M' := (mi, (au_up sj XNames (9 + (j : Int)) 0), hi, sl, r, nx)) (by rfl) ?_
          refine au_iinc dX0_namesOf_103 rfl (show 6 < 7 by decide) (by omega) (by omega) (by decide) (by decide) ?_
          show au_Go G _ _ 106 [some (au_r XO), some (au_i day), some (au_i who), some (au_i size), some (au_i fr), some (au_i to), some (au_i ((j : Int) + 1))] [] (mi, (au_up sj XNames (9 + (j : Int)) 0), hi, sl, r, nx) 0 0
          refine au_goto (tgt := 67) dX0_namesOf_106 (by decide) ?_
          refine ih (j + 1) _ (by omega) (fun a ha => ?_) (fun k k0 k1 k7 k8 => ?_) (by omega)
          · rw [← g1 a ha]; funext q; exact au_up_ne _ _ (fun z => ha z.1)
          · by_cases e : k = 9 + (j : Int)
            · subst e
              refine (up_at' _ _ _ rfl).trans ?_
              unfold nmF
              rw [if_neg (by omega), if_neg (by omega), if_neg (by omega), if_neg (by omega), if_neg (by omega), if_neg (by omega), if_neg (by omega), if_neg (by omega), if_neg (by omega), show 9 + (j : Int) - 9 = (j : Int) by omega]
              first
              | rw [if_pos (by omega)]
              | rw [if_neg (by omega)]
            · exact (au_up_ne _ _ (fun z => e z.2)).trans (g2 k k0 (by omega) k7 k8)
        · have c89 := au_b1 c89
          refine au_aload_n dX0_namesOf_92 rfl ?_
          refine au_iload dX0_namesOf_93 rfl ?_
          refine au_callVp (n := 1) (kX0_rankOf G (j : Int) mi sj hi sl r nx hF n hN B hE hB (by omega) (by omega)) (lw_V q916 q918 qs29 q130 q919) rfl (by decide +kernel) (by decide) (T := TX0) (N := 15) rfl rfl rfl rfl (Nat.le_of_ble_eq_true rfl) (Nat.le_of_ble_eq_true rfl) (Nat.le_of_ble_eq_true rfl) (Nat.le_of_ble_eq_true rfl) (Nat.le_of_ble_eq_true rfl) dX0_namesOf_95 ?_
          refine au_goto (tgt := 102) dX0_namesOf_98 (by decide) ?_
          refine au_iast dX0_namesOf_102 rfl (by decide) (by omega) (by show _ < ((19 : Nat) : Int); omega) (M' := (mi, (au_up sj XNames (9 + (j : Int)) (rank B (j : Int))), hi, sl, r, nx)) (by rfl) ?_
          refine au_iinc dX0_namesOf_103 rfl (show 6 < 7 by decide) (by omega) (by omega) (by decide) (by decide) ?_
          show au_Go G _ _ 106 [some (au_r XO), some (au_i day), some (au_i who), some (au_i size), some (au_i fr), some (au_i to), some (au_i ((j : Int) + 1))] [] (mi, (au_up sj XNames (9 + (j : Int)) (rank B (j : Int))), hi, sl, r, nx) 0 0
          refine au_goto (tgt := 67) dX0_namesOf_106 (by decide) ?_
          refine ih (j + 1) _ (by omega) (fun a ha => ?_) (fun k k0 k1 k7 k8 => ?_) (by omega)
          · rw [← g1 a ha]; funext q; exact au_up_ne _ _ (fun z => ha z.1)
          · by_cases e : k = 9 + (j : Int)
            · subst e
              refine (up_at' _ _ _ rfl).trans ?_
              unfold nmF
              rw [if_neg (by omega), if_neg (by omega), if_neg (by omega), if_neg (by omega), if_neg (by omega), if_neg (by omega), if_neg (by omega), if_neg (by omega), if_neg (by omega), show 9 + (j : Int) - 9 = (j : Int) by omega]
              first
              | rw [if_pos (by omega)]
              | rw [if_neg (by omega)]
            · exact (au_up_ne _ _ (fun z => e z.2)).trans (g2 k k0 (by omega) k7 k8)
  refine hl 11 0 _ (by omega) (fun a ha => ?_) (fun k k0 k1 k7 k8 => ?_) (by omega)
  · funext q
    simp only [au_up]
    repeat rw [if_neg (fun z => ha z.1)]
  · simp only [au_up, nmF, true_and]
    rcases (show k = 0 ∨ k = 1 ∨ k = 2 ∨ k = 3 ∨ k = 4 ∨ k = 5 ∨ k = 6 by omega) with e | e | e | e | e | e | e <;> subst e <;> rfl
