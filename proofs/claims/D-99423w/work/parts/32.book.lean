/-! THE BOOK of a row (printed by tools/m32.py) -/
set_option maxRecDepth 100000
set_option maxHeartbeats 4000000

/-- a page of the book: day, apology, what, size -/
def pgF (d a w s : Int) : Int → Int := fun j => if j = 3 then s else if j = 2 then w else if j = 1 then a else if j = 0 then d else 0
/-- room in the book: the oldest page goes when it is full -/
def wr1 (R : Int → Int) : Int → Int := if R 83 = 30 then up1 (mv1 R R 88 84 116) 83 29 else R
/-- a page written -/
def wr2 (R : Int → Int) (a w : Int) : Int → Int := up1 (mv1 (pgF (R 0) a w (R (3 + 7 * a + 3))) R 0 (84 + 4 * R 83) 4) 83 (R 83 + 1)
def wrF (R : Int → Int) (a w : Int) : Int → Int := wr2 (wr1 R) a w
theorem wr1_83 (R : Int → Int) (h0 : 0 ≤ R 83) (h1 : R 83 ≤ 30) : 0 ≤ wr1 R 83 ∧ wr1 R 83 < 30 := by
  unfold wr1
  split
  · rw [up1_self]; omega
  · omega
theorem wr1_lo (R : Int → Int) {j : Int} (h : j < 83) : wr1 R j = R j := by
  unfold wr1
  split
  · rw [up1_ne _ _ (by omega)]
    unfold mv1
    rw [if_neg (by omega)]
  · rfl
theorem wr2_lo (R : Int → Int) (a w : Int) (h0 : 0 ≤ R 83) {j : Int} (h : j < 83) : wr2 R a w j = R j := by
  unfold wr2
  rw [up1_ne _ _ (by omega)]
  unfold mv1
  rw [if_neg (by omega)]
theorem wrF_lo (R : Int → Int) (a w : Int) (h0 : 0 ≤ R 83) (h1 : R 83 ≤ 30) {j : Int} (h : j < 83) : wrF R a w j = R j := by
  unfold wrF
  rw [wr2_lo _ _ _ (wr1_83 R h0 h1).1 h, wr1_lo R h]
theorem wrF_83 (R : Int → Int) (a w : Int) (h0 : 0 ≤ R 83) (h1 : R 83 ≤ 30) : 0 ≤ wrF R a w 83 ∧ wrF R a w 83 ≤ 30 := by
  have h2 := wr1_83 R h0 h1
  unfold wrF
  generalize wr1 R = S at h2 ⊢
  unfold wr2
  rw [up1_self]
  omega

theorem kX0_writes (G : au_G) (a w : Int) (q : Nat) (hq : q = 1003 ∨ q = 1107) (mi si hi sl : au_A → Int → Int) (r : au_A → Int → Option au_A) (nx : Nat) (hnx : 1126 ≤ nx) (h0 : 0 ≤ a) (h1 : a < 10) (h2 : 0 ≤ (mi (q, 204, 40)) 83) (h3 : (mi (q, 204, 40)) 83 ≤ 30) : au_Ctr G yX0_writes cX0_writes 4 none 1 1 4 [au_r (q, 204, 40), au_i a, au_i w] (mi, si, hi, sl, r, nx) (fun rv M' => rv = none ∧ ∃ sj : au_A → Int → Int, M' = (rowS mi (q, 204, 40) (wrF (mi (q, 204, 40)) a w), sj, hi, sl, r, nx + 1)) := by
  refine au_of (by decide) (Nat.le_of_ble_eq_true rfl) ?_
  have h28 : ∀ m1 : au_A → Int → Int, 0 ≤ m1 (q, 204, 40) 83 → m1 (q, 204, 40) 83 < 30 → (∀ S, rowS m1 (q, 204, 40) S = rowS mi (q, 204, 40) S) → wr2 (m1 (q, 204, 40)) a w = wrF (mi (q, 204, 40)) a w → au_Go G (yX0_writes.cls, cX0_writes, 4, none, au_rm 1 1 4, yX0_writes.name) (au_QM G (au_rm 1 1 4) (fun rv M' => rv = none ∧ ∃ sj : au_A → Int → Int, M' = (rowS mi (q, 204, 40) (wrF (mi (q, 204, 40)) a w), sj, hi, sl, r, nx + 1))) 28 [some (au_r (q, 204, 40)), some (au_i a), some (au_i w), none] [] (m1, si, hi, sl, r, nx) 0 0 := by
    intro m1 g0 g1 hmi hw
    refine au_iconst dX0_writes_28 rfl rfl ?_
    refine au_newi dX0_writes_29 (by decide) (by decide) (by omega) (Nat.le_of_ble_eq_true rfl) (Nat.le_of_ble_eq_true rfl) ?_
    show au_Go G _ _ 31 [some (au_r (q, 204, 40)), some (au_i a), some (au_i w), none] [au_r (nx, 4, 40)] (m1, (au_zr si (nx, 4, 40) 0), hi, sl, r, nx + 1) 1 4
    refine au_dup dX0_writes_31 rfl ?_
    refine au_iconst dX0_writes_32 rfl rfl ?_
    refine au_aload_n dX0_writes_33 rfl ?_
    refine au_iconst dX0_writes_34 rfl rfl ?_
    refine au_iald dX0_writes_35 rfl (by omega) (by show _ < ((204 : Nat) : Int); omega) (v := au_i (m1 (q, 204, 40) 0)) (congrArg au_i (au_gi_m (au_reg_row hq _))) ?_
    refine au_iast dX0_writes_36 rfl (by show 1000 ≤ _; omega) (by omega) (by show _ < ((4 : Nat) : Int); omega) (M' := (m1, (au_up (au_zr si (nx, 4, 40) 0) (nx, 4, 40) 0 (m1 (q, 204, 40) 0)), hi, sl, r, nx + 1)) (au_wv_s (au_reg_dyn (by omega) _)) ?_
    refine au_dup dX0_writes_37 rfl ?_
    refine au_iconst dX0_writes_38 rfl rfl ?_
    refine au_iload_n dX0_writes_39 rfl ?_
    refine au_iast dX0_writes_40 rfl (by show 1000 ≤ _; omega) (by omega) (by show _ < ((4 : Nat) : Int); omega) (M' := (m1, (au_up (au_up (au_zr si (nx, 4, 40) 0) (nx, 4, 40) 0 (m1 (q, 204, 40) 0)) (nx, 4, 40) 1 a), hi, sl, r, nx + 1)) (au_wv_s (au_reg_dyn (by omega) _)) ?_
    refine au_dup dX0_writes_41 rfl ?_
    refine au_iconst dX0_writes_42 rfl rfl ?_
    refine au_iload_n dX0_writes_43 rfl ?_
    refine au_iast dX0_writes_44 rfl (by show 1000 ≤ _; omega) (by omega) (by show _ < ((4 : Nat) : Int); omega) (M' := (m1, (au_up (au_up (au_up (au_zr si (nx, 4, 40) 0) (nx, 4, 40) 0 (m1 (q, 204, 40) 0)) (nx, 4, 40) 1 a) (nx, 4, 40) 2 w), hi, sl, r, nx + 1)) (au_wv_s (au_reg_dyn (by omega) _)) ?_
    refine au_dup dX0_writes_45 rfl ?_
    refine au_iconst dX0_writes_46 rfl rfl ?_
    refine au_aload_n dX0_writes_47 rfl ?_
    refine au_iload_n dX0_writes_48 rfl ?_
    refine au_iconst dX0_writes_49 rfl rfl ?_
    refine au_callSp (n := 2) (kX0_at G a 3 (m1, (au_up (au_up (au_up (au_zr si (nx, 4, 40) 0) (nx, 4, 40) 0 (m1 (q, 204, 40) 0)) (nx, 4, 40) 1 a) (nx, 4, 40) 2 w), hi, sl, r, nx + 1) (by omega) (by omega) (by omega) (by omega)) (lw_S q898 q899 q130 q900) (by decide +kernel) rfl rfl rfl (Nat.le_of_ble_eq_true rfl) (Nat.le_of_ble_eq_true rfl) (Nat.le_of_ble_eq_true rfl) (Nat.le_of_ble_eq_true rfl) (Nat.le_of_ble_eq_true rfl) dX0_writes_50 ?_
    refine au_iald dX0_writes_53 rfl (by omega) (by show _ < ((204 : Nat) : Int); omega) (v := au_i (m1 (q, 204, 40) (3 + 7 * a + 3))) (congrArg au_i (au_gi_m (au_reg_row hq _))) ?_
    refine au_iast dX0_writes_54 rfl (by show 1000 ≤ _; omega) (by omega) (by show _ < ((4 : Nat) : Int); omega) (M' := (m1, (au_up (au_up (au_up (au_up (au_zr si (nx, 4, 40) 0) (nx, 4, 40) 0 (m1 (q, 204, 40) 0)) (nx, 4, 40) 1 a) (nx, 4, 40) 2 w) (nx, 4, 40) 3 (m1 (q, 204, 40) (3 + 7 * a + 3))), hi, sl, r, nx + 1)) (au_wv_s (au_reg_dyn (by omega) _)) ?_
    refine au_astore_n dX0_writes_55 (show 3 < 4 by decide) ?_
    show au_Go G _ _ 56 [some (au_r (q, 204, 40)), some (au_i a), some (au_i w), some (au_r (nx, 4, 40))] [] (m1, (au_up (au_up (au_up (au_up (au_zr si (nx, 4, 40) 0) (nx, 4, 40) 0 (m1 (q, 204, 40) 0)) (nx, 4, 40) 1 a) (nx, 4, 40) 2 w) (nx, 4, 40) 3 (m1 (q, 204, 40) (3 + 7 * a + 3))), hi, sl, r, nx + 1) 1 4
    refine au_aload_n dX0_writes_56 rfl ?_
    refine au_iconst dX0_writes_57 rfl rfl ?_
    refine au_aload_n dX0_writes_58 rfl ?_
    refine au_bipush dX0_writes_59 rfl rfl ?_
    refine au_iconst dX0_writes_61 rfl rfl ?_
    refine au_aload_n dX0_writes_62 rfl ?_
    refine au_bipush dX0_writes_63 rfl rfl ?_
    refine au_iald dX0_writes_65 rfl (by omega) (by show _ < ((204 : Nat) : Int); omega) (v := au_i (m1 (q, 204, 40) 83)) (congrArg au_i (au_gi_m (au_reg_row hq _))) ?_
    refine au_imul dX0_writes_66 (by omega) (by omega) ?_
    refine au_iadd dX0_writes_67 (by omega) (by omega) ?_
    refine au_iconst dX0_writes_68 rfl rfl ?_
    refine au_copy_sm (a := (nx, 4, 40)) (b := (q, 204, 40)) q1054 q241 q240 q133 rfl rfl rfl (fun _ => au_reg_dyn (by omega) _) (au_reg_row hq) (by show 1000 ≤ q; omega) (by omega) (by omega) (by omega) (by show _ ≤ ((4 : Nat) : Int); omega) (by show _ ≤ ((204 : Nat) : Int); omega) (Nat.le_of_ble_eq_true rfl) (Nat.le_of_ble_eq_true rfl) (by decide) dX0_writes_69 ?_
    show au_Go G _ _ 72 [some (au_r (q, 204, 40)), some (au_i a), some (au_i w), some (au_r (nx, 4, 40))] [] ((au_cp (au_up (au_up (au_up (au_up (au_zr si (nx, 4, 40) 0) (nx, 4, 40) 0 (m1 (q, 204, 40) 0)) (nx, 4, 40) 1 a) (nx, 4, 40) 2 w) (nx, 4, 40) 3 (m1 (q, 204, 40) (3 + 7 * a + 3))) m1 (nx, 4, 40) 0 (q, 204, 40) (84 + (4 * (m1 (q, 204, 40) 83))) 4), (au_up (au_up (au_up (au_up (au_zr si (nx, 4, 40) 0) (nx, 4, 40) 0 (m1 (q, 204, 40) 0)) (nx, 4, 40) 1 a) (nx, 4, 40) 2 w) (nx, 4, 40) 3 (m1 (q, 204, 40) (3 + 7 * a + 3))), hi, sl, r, nx + 1) 1 4
    have e83 : (au_cp (au_up (au_up (au_up (au_up (au_zr si (nx, 4, 40) 0) (nx, 4, 40) 0 (m1 (q, 204, 40) 0)) (nx, 4, 40) 1 a) (nx, 4, 40) 2 w) (nx, 4, 40) 3 (m1 (q, 204, 40) (3 + 7 * a + 3))) m1 (nx, 4, 40) 0 (q, 204, 40) (84 + (4 * (m1 (q, 204, 40) 83))) 4) (q, 204, 40) 83 = m1 (q, 204, 40) 83 := by rw [au_cp_b, if_neg (by omega)]
    refine au_aload_n dX0_writes_72 rfl ?_
    refine au_bipush dX0_writes_73 rfl rfl ?_
    refine au_dup2 dX0_writes_75 rfl rfl ?_
    refine au_iald dX0_writes_76 rfl (by omega) (by show _ < ((204 : Nat) : Int); omega) (v := au_i (m1 (q, 204, 40) 83)) (congrArg au_i ((au_gi_m (au_reg_row hq _)).trans e83)) ?_
    refine au_iconst dX0_writes_77 rfl rfl ?_
    refine au_iadd dX0_writes_78 (by omega) (by omega) ?_
    refine au_iast dX0_writes_79 rfl (by show 1000 ≤ q; omega) (by omega) (by show _ < ((204 : Nat) : Int); omega) (M' := ((au_up (au_cp (au_up (au_up (au_up (au_up (au_zr si (nx, 4, 40) 0) (nx, 4, 40) 0 (m1 (q, 204, 40) 0)) (nx, 4, 40) 1 a) (nx, 4, 40) 2 w) (nx, 4, 40) 3 (m1 (q, 204, 40) (3 + 7 * a + 3))) m1 (nx, 4, 40) 0 (q, 204, 40) (84 + (4 * (m1 (q, 204, 40) 83))) 4) (q, 204, 40) 83 ((m1 (q, 204, 40) 83) + 1)), (au_up (au_up (au_up (au_up (au_zr si (nx, 4, 40) 0) (nx, 4, 40) 0 (m1 (q, 204, 40) 0)) (nx, 4, 40) 1 a) (nx, 4, 40) 2 w) (nx, 4, 40) 3 (m1 (q, 204, 40) (3 + 7 * a + 3))), hi, sl, r, nx + 1)) (au_wv_m (au_reg_row hq _)) ?_
    refine au_vret dX0_writes_80 rfl rfl (Nat.le_of_ble_eq_true rfl) (Nat.le_of_ble_eq_true rfl) ?_
    refine ⟨rfl, (au_up (au_up (au_up (au_up (au_zr si (nx, 4, 40) 0) (nx, 4, 40) 0 (m1 (q, 204, 40) 0)) (nx, 4, 40) 1 a) (nx, 4, 40) 2 w) (nx, 4, 40) 3 (m1 (q, 204, 40) (3 + 7 * a + 3))), ?_⟩
    rw [au_cp_row, au_up_row, rowS_selfF, rowS_rowS, hmi]
    refine congrArg (fun z => ((rowS mi (q, 204, 40) z, (au_up (au_up (au_up (au_up (au_zr si (nx, 4, 40) 0) (nx, 4, 40) 0 (m1 (q, 204, 40) 0)) (nx, 4, 40) 1 a) (nx, 4, 40) 2 w) (nx, 4, 40) 3 (m1 (q, 204, 40) (3 + 7 * a + 3))), hi, sl, r, nx + 1) : au_M)) ?_
    rw [← hw]
    unfold wr2
    have hpg : (au_up (au_up (au_up (au_up (au_zr si (nx, 4, 40) 0) (nx, 4, 40) 0 (m1 (q, 204, 40) 0)) (nx, 4, 40) 1 a) (nx, 4, 40) 2 w) (nx, 4, 40) 3 (m1 (q, 204, 40) (3 + 7 * a + 3))) (nx, 4, 40) = pgF (m1 (q, 204, 40) 0) a w (m1 (q, 204, 40) (3 + 7 * a + 3)) := by
      funext j
      simp only [au_up, au_zr, pgF, true_and, if_true]
    rw [hpg]
  show au_Go G _ _ 0 [some (au_r (q, 204, 40)), some (au_i a), some (au_i w), none] [] (mi, si, hi, sl, r, nx) 0 0
  refine au_aload_n dX0_writes_0 rfl ?_
  refine au_bipush dX0_writes_1 rfl rfl ?_
  refine au_iald dX0_writes_3 rfl (by omega) (by show _ < ((204 : Nat) : Int); omega) (v := au_i (mi (q, 204, 40) 83)) (congrArg au_i (au_gi_m (au_reg_row hq _))) ?_
  refine au_bipush dX0_writes_4 rfl rfl ?_
  refine au_icmp_ne (tgt := 28) dX0_writes_6 (by decide) (fun c6 => ?_) (fun c6 => ?_)
  · first
    | exact h28 mi h2 (by omega) (fun _ => rfl) (by unfold wrF wr1; rw [if_neg c6])
    | (have e1 : au_cp mi mi (q, 204, 40) 88 (q, 204, 40) 84 116 = rowS mi (q, 204, 40) (mv1 (mi (q, 204, 40)) (mi (q, 204, 40)) 88 84 116) := au_cp_row mi mi _ _ _ _ _
       rw [e1, au_up_row, rowS_selfF, rowS_rowS]
       refine h28 _ (by rw [rowS_self, up1_self]; omega) (by rw [rowS_self, up1_self]; omega) (fun S => rowS_rowS _ _ _ _) ?_
       unfold wrF wr1
       rw [if_pos c6, rowS_selfF]
       rw [show (30 : Int) - 1 = 29 from rfl])
  · refine au_aload_n dX0_writes_9 rfl ?_
    refine au_bipush dX0_writes_10 rfl rfl ?_
    refine au_aload_n dX0_writes_12 rfl ?_
    refine au_bipush dX0_writes_13 rfl rfl ?_
    refine au_bipush dX0_writes_15 rfl rfl ?_
    refine au_copy_mm (a := (q, 204, 40)) (b := (q, 204, 40)) q1054 q241 q240 q133 rfl rfl rfl (au_reg_row hq) (au_reg_row hq) (by show 1000 ≤ q; omega) (by omega) (by omega) (by omega) (by show _ ≤ ((204 : Nat) : Int); omega) (by show _ ≤ ((204 : Nat) : Int); omega) (Nat.le_of_ble_eq_true rfl) (Nat.le_of_ble_eq_true rfl) (by decide) dX0_writes_17 ?_
    show au_Go G _ _ 20 [some (au_r (q, 204, 40)), some (au_i a), some (au_i w), none] [] ((au_cp mi mi (q, 204, 40) 88 (q, 204, 40) 84 116), si, hi, sl, r, nx) 0 0
    refine au_aload_n dX0_writes_20 rfl ?_
    refine au_bipush dX0_writes_21 rfl rfl ?_
    refine au_dup2 dX0_writes_23 rfl rfl ?_
    refine au_iald dX0_writes_24 rfl (by omega) (by show _ < ((204 : Nat) : Int); omega) (v := au_i (30)) (congrArg au_i ((au_gi_m (au_reg_row hq _)).trans ((au_cp_b mi mi (q, 204, 40) (q, 204, 40) 88 84 116 83).trans ((if_neg (by omega)).trans c6)))) ?_
    refine au_iconst dX0_writes_25 rfl rfl ?_
    refine au_isub dX0_writes_26 (by omega) (by omega) ?_
    refine au_iast dX0_writes_27 rfl (by show 1000 ≤ q; omega) (by omega) (by show _ < ((204 : Nat) : Int); omega) (M' := ((au_up (au_cp mi mi (q, 204, 40) 88 (q, 204, 40) 84 116) (q, 204, 40) 83 (30 - 1)), si, hi, sl, r, nx)) (au_wv_m (au_reg_row hq _)) ?_
    first
    | exact h28 mi h2 (by omega) (fun _ => rfl) (by unfold wrF wr1; rw [if_neg c6])
    | (have e1 : au_cp mi mi (q, 204, 40) 88 (q, 204, 40) 84 116 = rowS mi (q, 204, 40) (mv1 (mi (q, 204, 40)) (mi (q, 204, 40)) 88 84 116) := au_cp_row mi mi _ _ _ _ _
       rw [e1, au_up_row, rowS_selfF, rowS_rowS]
       refine h28 _ (by rw [rowS_self, up1_self]; omega) (by rw [rowS_self, up1_self]; omega) (fun S => rowS_rowS _ _ _ _) ?_
       unfold wrF wr1
       rw [if_pos c6, rowS_selfF]
       rw [show (30 : Int) - 1 = 29 from rfl])
/-- two merged: the one keeps what comes of both, the other is done with -/
def mgF (R : Int → Int) (a b : Int) : Int → Int := wrF (up1 (up1 (up1 R (3 + 7 * a + 3) (min 9999 (max (R (3 + 7 * a + 3)) (R (3 + 7 * b + 3)) + min (R (3 + 7 * a + 3)) (R (3 + 7 * b + 3)) / 2))) (3 + 7 * b + 3) 0) (3 + 7 * b + 4) 2) b 3
theorem kX0_merges (G : au_G) (a b : Int) (q : Nat) (hq : q = 1003 ∨ q = 1107) (mi si hi sl : au_A → Int → Int) (r : au_A → Int → Option au_A) (nx : Nat) (hnx : 1126 ≤ nx) (h0 : 0 ≤ a) (h1 : a < b) (h1b : b < 10) (h2 : 0 ≤ (mi (q, 204, 40)) 83) (h3 : (mi (q, 204, 40)) 83 ≤ 30) (h4 : 0 ≤ (mi (q, 204, 40)) (3 + 7 * a + 3) ∧ (mi (q, 204, 40)) (3 + 7 * a + 3) ≤ 9999) (h5 : 0 ≤ (mi (q, 204, 40)) (3 + 7 * b + 3) ∧ (mi (q, 204, 40)) (3 + 7 * b + 3) ≤ 9999) : au_Ctr G yX0_merges cX0_merges 5 none 2 1 4 [au_r (q, 204, 40), au_i a, au_i b] (mi, si, hi, sl, r, nx) (fun rv M' => rv = none ∧ ∃ sj : au_A → Int → Int, M' = (rowS mi (q, 204, 40) (mgF (mi (q, 204, 40)) a b), sj, hi, sl, r, nx + 1)) := by
  refine au_of (by decide) (Nat.le_of_ble_eq_true rfl) ?_
  show au_Go G _ _ 0 [some (au_r (q, 204, 40)), some (au_i a), some (au_i b), none, none] [] (mi, si, hi, sl, r, nx) 0 0
  refine au_aload_n dX0_merges_0 rfl ?_
  refine au_iload_n dX0_merges_1 rfl ?_
  refine au_iconst dX0_merges_2 rfl rfl ?_
  refine au_callSp (n := 2) (kX0_at G a 3 (mi, si, hi, sl, r, nx) (by omega) (by omega) (by omega) (by omega)) (lw_S q898 q899 q130 q900) (by decide +kernel) rfl rfl rfl (Nat.le_of_ble_eq_true rfl) (Nat.le_of_ble_eq_true rfl) (Nat.le_of_ble_eq_true rfl) (Nat.le_of_ble_eq_true rfl) (Nat.le_of_ble_eq_true rfl) dX0_merges_3 ?_
  refine au_iald dX0_merges_6 rfl (by omega) (by show _ < ((204 : Nat) : Int); omega) (v := au_i ((mi (q, 204, 40)) (3 + 7 * a + 3))) (congrArg au_i (au_gi_m (au_reg_row hq _))) ?_
  refine au_istore_n dX0_merges_7 (show 3 < 5 by decide) ?_
  show au_Go G _ _ 8 [some (au_r (q, 204, 40)), some (au_i a), some (au_i b), some (au_i ((mi (q, 204, 40)) (3 + 7 * a + 3))), none] [] (mi, si, hi, sl, r, nx) 0 0
  refine au_aload_n dX0_merges_8 rfl ?_
  refine au_iload_n dX0_merges_9 rfl ?_
  refine au_iconst dX0_merges_10 rfl rfl ?_
  refine au_callSp (n := 2) (kX0_at G b 3 (mi, si, hi, sl, r, nx) (by omega) (by omega) (by omega) (by omega)) (lw_S q898 q899 q130 q900) (by decide +kernel) rfl rfl rfl (Nat.le_of_ble_eq_true rfl) (Nat.le_of_ble_eq_true rfl) (Nat.le_of_ble_eq_true rfl) (Nat.le_of_ble_eq_true rfl) (Nat.le_of_ble_eq_true rfl) dX0_merges_11 ?_
  refine au_iald dX0_merges_14 rfl (by omega) (by show _ < ((204 : Nat) : Int); omega) (v := au_i ((mi (q, 204, 40)) (3 + 7 * b + 3))) (congrArg au_i (au_gi_m (au_reg_row hq _))) ?_
  refine au_istore dX0_merges_15 (show 4 < 5 by decide) ?_
  show au_Go G _ _ 17 [some (au_r (q, 204, 40)), some (au_i a), some (au_i b), some (au_i ((mi (q, 204, 40)) (3 + 7 * a + 3))), some (au_i ((mi (q, 204, 40)) (3 + 7 * b + 3)))] [] (mi, si, hi, sl, r, nx) 0 0
  refine au_aload_n dX0_merges_17 rfl ?_
  refine au_iload_n dX0_merges_18 rfl ?_
  refine au_iconst dX0_merges_19 rfl rfl ?_
  refine au_callSp (n := 2) (kX0_at G a 3 (mi, si, hi, sl, r, nx) (by omega) (by omega) (by omega) (by omega)) (lw_S q898 q899 q130 q900) (by decide +kernel) rfl rfl rfl (Nat.le_of_ble_eq_true rfl) (Nat.le_of_ble_eq_true rfl) (Nat.le_of_ble_eq_true rfl) (Nat.le_of_ble_eq_true rfl) (Nat.le_of_ble_eq_true rfl) dX0_merges_20 ?_
  refine au_sipush dX0_merges_23 rfl rfl ?_
  refine au_iload_n dX0_merges_26 rfl ?_
  refine au_iload dX0_merges_27 rfl ?_
  refine au_mmax q1069 q646 q144 q647 rfl rfl (Nat.le_of_ble_eq_true rfl) (Nat.le_of_ble_eq_true rfl) (Nat.le_of_ble_eq_true rfl) (Nat.le_of_ble_eq_true rfl) (Nat.le_of_ble_eq_true rfl) dX0_merges_29 ?_
  show au_Go G _ _ 32 [some (au_r (q, 204, 40)), some (au_i a), some (au_i b), some (au_i ((mi (q, 204, 40)) (3 + 7 * a + 3))), some (au_i ((mi (q, 204, 40)) (3 + 7 * b + 3)))] [au_i (max ((mi (q, 204, 40)) (3 + 7 * a + 3)) ((mi (q, 204, 40)) (3 + 7 * b + 3))), au_i 9999, au_i (3 + 7 * a + 3), au_r (q, 204, 40)] (mi, si, hi, sl, r, nx) 0 0
  refine au_iload_n dX0_merges_32 rfl ?_
  refine au_iload dX0_merges_33 rfl ?_
  refine au_mmin q1043 q476 q144 q477 rfl rfl (Nat.le_of_ble_eq_true rfl) (Nat.le_of_ble_eq_true rfl) (Nat.le_of_ble_eq_true rfl) (Nat.le_of_ble_eq_true rfl) (Nat.le_of_ble_eq_true rfl) dX0_merges_35 ?_
  show au_Go G _ _ 38 [some (au_r (q, 204, 40)), some (au_i a), some (au_i b), some (au_i ((mi (q, 204, 40)) (3 + 7 * a + 3))), some (au_i ((mi (q, 204, 40)) (3 + 7 * b + 3)))] [au_i (min ((mi (q, 204, 40)) (3 + 7 * a + 3)) ((mi (q, 204, 40)) (3 + 7 * b + 3))), au_i (max ((mi (q, 204, 40)) (3 + 7 * a + 3)) ((mi (q, 204, 40)) (3 + 7 * b + 3))), au_i 9999, au_i (3 + 7 * a + 3), au_r (q, 204, 40)] (mi, si, hi, sl, r, nx) 0 0
  refine au_iconst dX0_merges_38 rfl rfl ?_
  refine au_idiv dX0_merges_39 (by omega) (by omega) ?_
  refine au_iadd dX0_merges_40 (by omega) (by omega) ?_
  refine au_mmin q1043 q476 q144 q477 rfl rfl (Nat.le_of_ble_eq_true rfl) (Nat.le_of_ble_eq_true rfl) (Nat.le_of_ble_eq_true rfl) (Nat.le_of_ble_eq_true rfl) (Nat.le_of_ble_eq_true rfl) dX0_merges_41 ?_
  show au_Go G _ _ 44 [some (au_r (q, 204, 40)), some (au_i a), some (au_i b), some (au_i ((mi (q, 204, 40)) (3 + 7 * a + 3))), some (au_i ((mi (q, 204, 40)) (3 + 7 * b + 3)))] [au_i (min 9999 ((max ((mi (q, 204, 40)) (3 + 7 * a + 3)) ((mi (q, 204, 40)) (3 + 7 * b + 3))) + ((min ((mi (q, 204, 40)) (3 + 7 * a + 3)) ((mi (q, 204, 40)) (3 + 7 * b + 3))) / 2))), au_i (3 + 7 * a + 3), au_r (q, 204, 40)] (mi, si, hi, sl, r, nx) 0 0
  refine au_iast dX0_merges_44 rfl (by show 1000 ≤ _; omega) (by omega) (by show _ < ((204 : Nat) : Int); omega) (M' := ((au_up mi (q, 204, 40) (3 + 7 * a + 3) (min 9999 ((max ((mi (q, 204, 40)) (3 + 7 * a + 3)) ((mi (q, 204, 40)) (3 + 7 * b + 3))) + ((min ((mi (q, 204, 40)) (3 + 7 * a + 3)) ((mi (q, 204, 40)) (3 + 7 * b + 3))) / 2)))), si, hi, sl, r, nx)) (au_wv_m (au_reg_row hq _)) ?_
  rw [au_up_row mi (q, 204, 40) (3 + 7 * a + 3) (min 9999 ((max ((mi (q, 204, 40)) (3 + 7 * a + 3)) ((mi (q, 204, 40)) (3 + 7 * b + 3))) + ((min ((mi (q, 204, 40)) (3 + 7 * a + 3)) ((mi (q, 204, 40)) (3 + 7 * b + 3))) / 2)))]
  refine au_aload_n dX0_merges_45 rfl ?_
  refine au_iload_n dX0_merges_46 rfl ?_
  refine au_iconst dX0_merges_47 rfl rfl ?_
  refine au_callSp (n := 2) (kX0_at G b 3 ((rowS mi (q, 204, 40) (up1 (mi (q, 204, 40)) (3 + 7 * a + 3) (min 9999 ((max ((mi (q, 204, 40)) (3 + 7 * a + 3)) ((mi (q, 204, 40)) (3 + 7 * b + 3))) + ((min ((mi (q, 204, 40)) (3 + 7 * a + 3)) ((mi (q, 204, 40)) (3 + 7 * b + 3))) / 2))))), si, hi, sl, r, nx) (by omega) (by omega) (by omega) (by omega)) (lw_S q898 q899 q130 q900) (by decide +kernel) rfl rfl rfl (Nat.le_of_ble_eq_true rfl) (Nat.le_of_ble_eq_true rfl) (Nat.le_of_ble_eq_true rfl) (Nat.le_of_ble_eq_true rfl) (Nat.le_of_ble_eq_true rfl) dX0_merges_48 ?_
  refine au_iconst dX0_merges_51 rfl rfl ?_
  refine au_iast dX0_merges_52 rfl (by show 1000 ≤ _; omega) (by omega) (by show _ < ((204 : Nat) : Int); omega) (M' := ((au_up (rowS mi (q, 204, 40) (up1 (mi (q, 204, 40)) (3 + 7 * a + 3) (min 9999 ((max ((mi (q, 204, 40)) (3 + 7 * a + 3)) ((mi (q, 204, 40)) (3 + 7 * b + 3))) + ((min ((mi (q, 204, 40)) (3 + 7 * a + 3)) ((mi (q, 204, 40)) (3 + 7 * b + 3))) / 2))))) (q, 204, 40) (3 + 7 * b + 3) 0), si, hi, sl, r, nx)) (au_wv_m (au_reg_row hq _)) ?_
  rw [au_up_row (rowS mi (q, 204, 40) (up1 (mi (q, 204, 40)) (3 + 7 * a + 3) (min 9999 ((max ((mi (q, 204, 40)) (3 + 7 * a + 3)) ((mi (q, 204, 40)) (3 + 7 * b + 3))) + ((min ((mi (q, 204, 40)) (3 + 7 * a + 3)) ((mi (q, 204, 40)) (3 + 7 * b + 3))) / 2))))) (q, 204, 40) (3 + 7 * b + 3) 0, rowS_selfF, rowS_rowS]
  refine au_aload_n dX0_merges_53 rfl ?_
  refine au_iload_n dX0_merges_54 rfl ?_
  refine au_iconst dX0_merges_55 rfl rfl ?_
  refine au_callSp (n := 2) (kX0_at G b 4 ((rowS mi (q, 204, 40) (up1 (up1 (mi (q, 204, 40)) (3 + 7 * a + 3) (min 9999 ((max ((mi (q, 204, 40)) (3 + 7 * a + 3)) ((mi (q, 204, 40)) (3 + 7 * b + 3))) + ((min ((mi (q, 204, 40)) (3 + 7 * a + 3)) ((mi (q, 204, 40)) (3 + 7 * b + 3))) / 2)))) (3 + 7 * b + 3) 0)), si, hi, sl, r, nx) (by omega) (by omega) (by omega) (by omega)) (lw_S q898 q899 q130 q900) (by decide +kernel) rfl rfl rfl (Nat.le_of_ble_eq_true rfl) (Nat.le_of_ble_eq_true rfl) (Nat.le_of_ble_eq_true rfl) (Nat.le_of_ble_eq_true rfl) (Nat.le_of_ble_eq_true rfl) dX0_merges_56 ?_
  refine au_iconst dX0_merges_59 rfl rfl ?_
  refine au_iast dX0_merges_60 rfl (by show 1000 ≤ _; omega) (by omega) (by show _ < ((204 : Nat) : Int); omega) (M' := ((au_up (rowS mi (q, 204, 40) (up1 (up1 (mi (q, 204, 40)) (3 + 7 * a + 3) (min 9999 ((max ((mi (q, 204, 40)) (3 + 7 * a + 3)) ((mi (q, 204, 40)) (3 + 7 * b + 3))) + ((min ((mi (q, 204, 40)) (3 + 7 * a + 3)) ((mi (q, 204, 40)) (3 + 7 * b + 3))) / 2)))) (3 + 7 * b + 3) 0)) (q, 204, 40) (3 + 7 * b + 4) 2), si, hi, sl, r, nx)) (au_wv_m (au_reg_row hq _)) ?_
  rw [au_up_row (rowS mi (q, 204, 40) (up1 (up1 (mi (q, 204, 40)) (3 + 7 * a + 3) (min 9999 ((max ((mi (q, 204, 40)) (3 + 7 * a + 3)) ((mi (q, 204, 40)) (3 + 7 * b + 3))) + ((min ((mi (q, 204, 40)) (3 + 7 * a + 3)) ((mi (q, 204, 40)) (3 + 7 * b + 3))) / 2)))) (3 + 7 * b + 3) 0)) (q, 204, 40) (3 + 7 * b + 4) 2, rowS_selfF, rowS_rowS]
  refine au_aload_n dX0_merges_61 rfl ?_
  refine au_iload_n dX0_merges_62 rfl ?_
  refine au_iconst dX0_merges_63 rfl rfl ?_
  obtain ⟨R3, hR3⟩ : ∃ z, z = (up1 (up1 (up1 (mi (q, 204, 40)) (3 + 7 * a + 3) (min 9999 ((max ((mi (q, 204, 40)) (3 + 7 * a + 3)) ((mi (q, 204, 40)) (3 + 7 * b + 3))) + ((min ((mi (q, 204, 40)) (3 + 7 * a + 3)) ((mi (q, 204, 40)) (3 + 7 * b + 3))) / 2)))) (3 + 7 * b + 3) 0) (3 + 7 * b + 4) 2) := ⟨_, rfl⟩
  rw [← hR3]
  have f83 : R3 83 = mi (q, 204, 40) 83 := by rw [hR3]; exact (up1_ne _ _ (by omega)).trans ((up1_ne _ _ (by omega)).trans (up1_ne _ _ (by omega)))
  refine au_callS (n := 3) (kX0_writes G b 3 q hq (rowS mi (q, 204, 40) R3) si hi sl r nx hnx (by omega) (by omega) (by rw [rowS_self]; omega) (by rw [rowS_self]; omega)) (lw_S q1051 q1052 q130 q1053) (by decide +kernel) rfl rfl rfl (Nat.le_of_ble_eq_true rfl) (Nat.le_of_ble_eq_true rfl) (Nat.le_of_ble_eq_true rfl) (Nat.le_of_ble_eq_true rfl) (Nat.le_of_ble_eq_true rfl) dX0_merges_64 (fun rv_ M_ hp_ => ?_)
  obtain ⟨rfl, sj1_64, rfl⟩ := hp_
  rw [rowS_selfF, rowS_rowS]
  show au_Go G _ _ 67 [some (au_r (q, 204, 40)), some (au_i a), some (au_i b), some (au_i ((mi (q, 204, 40)) (3 + 7 * a + 3))), some (au_i ((mi (q, 204, 40)) (3 + 7 * b + 3)))] [] ((rowS mi (q, 204, 40) (wrF R3 b 3)), sj1_64, hi, sl, r, nx + 1) 1 4
  exact au_vret dX0_merges_67 rfl rfl (Nat.le_of_ble_eq_true rfl) (Nat.le_of_ble_eq_true rfl) (⟨rfl, _, by rw [hR3]; rfl⟩)
