/-! THE ROW: copies, draws, what it takes to go on, of both systems (printed by tools/m31.py) -/
set_option maxRecDepth 100000
set_option maxHeartbeats 4000000

/-- an array of the main memory replaced -/
def rowS (mi : au_A → Int → Int) (a : au_A) (R : Int → Int) : au_A → Int → Int := fun c j => if c = a then R j else mi c j
theorem rowS_self (mi : au_A → Int → Int) (a : au_A) (R : Int → Int) (j : Int) : rowS mi a R a j = R j := if_pos rfl
theorem rowS_selfF (mi : au_A → Int → Int) (a : au_A) (R : Int → Int) : rowS mi a R a = R := by
  funext j
  exact if_pos rfl
theorem rowS_ne (mi : au_A → Int → Int) {a c : au_A} (R : Int → Int) (j : Int) (h : c ≠ a) : rowS mi a R c j = mi c j := if_neg h
theorem rowS_neF (mi : au_A → Int → Int) {a c : au_A} (R : Int → Int) (h : c ≠ a) : rowS mi a R c = mi c := by
  funext j
  exact if_neg h
theorem rowS_rowS (mi : au_A → Int → Int) (a : au_A) (R R' : Int → Int) : rowS (rowS mi a R) a R' = rowS mi a R' := by
  funext c j
  unfold rowS
  split <;> rfl
theorem rowS_id (mi : au_A → Int → Int) (a : au_A) : rowS mi a (mi a) = mi := by
  funext c j
  unfold rowS
  split
  · rename_i h; rw [h]
  · rfl
/-- a place of a row written -/
def up1 (R : Int → Int) (j v : Int) : Int → Int := fun k => if k = j then v else R k
theorem up1_self (R : Int → Int) (j v : Int) : up1 R j v j = v := if_pos rfl
theorem up1_ne (R : Int → Int) {j k : Int} (v : Int) (h : k ≠ j) : up1 R j v k = R k := if_neg h
theorem au_up_row (mi : au_A → Int → Int) (a : au_A) (j v : Int) : au_up mi a j v = rowS mi a (up1 (mi a) j v) := by
  funext c k
  unfold au_up rowS up1
  by_cases h : c = a
  · subst h
    by_cases h2 : k = j
    · rw [if_pos ⟨rfl, h2⟩, if_pos rfl, if_pos h2]
    · rw [if_neg (fun q => h2 q.2), if_pos rfl, if_neg h2]
  · rw [if_neg (fun q => h q.1), if_neg h]
/-- a row's stretch moved -/
def mv1 (R S : Int → Int) (sp dp n : Int) : Int → Int := fun k => if dp ≤ k ∧ k < dp + n then R (sp + (k - dp)) else S k
theorem au_cp_row (f mi : au_A → Int → Int) (a b : au_A) (sp dp n : Int) : au_cp f mi a sp b dp n = rowS mi b (mv1 (f a) (mi b) sp dp n) := by
  funext c k
  unfold au_cp rowS mv1
  by_cases h : c = b
  · subst h
    by_cases h2 : dp ≤ k ∧ k < dp + n
    · rw [if_pos ⟨rfl, h2⟩, if_pos rfl, if_pos h2]
    · rw [if_neg (fun q => h2 q.2), if_pos rfl, if_neg h2]
  · rw [if_neg (fun q => h q.1), if_neg h]

theorem kX1_copy (G : au_G) (p q n m : Nat) (mi si hi sl : au_A → Int → Int) (r : au_A → Int → Option au_A) (nx : Nat) (hp : ∀ j, au_reg (p, n, 40) j = 0) (hq : ∀ j, au_reg (q, m, 40) j = 0) (hnew : 1000 ≤ q) (hn : n ≤ m) (hn2 : n < 100000) : au_Ctr G yX1_copy cX1_copy 2 none 1 0 0 [au_r (p, n, 40), au_r (q, m, 40)] (mi, si, hi, sl, r, nx) (fun rv M' => rv = none ∧ M' = (rowS mi (q, m, 40) (mv1 (mi (p, n, 40)) (mi (q, m, 40)) 0 0 (n : Int)), si, hi, sl, r, nx)) := by
  refine au_of (by decide) (Nat.le_of_ble_eq_true rfl) ?_
  rw [← au_cp_row]
  show au_Go G _ _ 0 [some (au_r (p, n, 40)), some (au_r (q, m, 40))] [] (mi, si, hi, sl, r, nx) 0 0
  refine au_aload_n dX1_copy_0 rfl ?_
  refine au_iconst dX1_copy_1 rfl rfl ?_
  refine au_aload_n dX1_copy_2 rfl ?_
  refine au_iconst dX1_copy_3 rfl rfl ?_
  refine au_aload_n dX1_copy_4 rfl ?_
  refine au_alen dX1_copy_5 (show 40 ≤ 40 by decide) (show 40 ≤ 48 by decide) (show n < 2147483648 by omega) ?_
  show au_Go G _ _ 6 [some (au_r (p, n, 40)), some (au_r (q, m, 40))] [au_i (n : Int), au_i 0, au_r (q, m, 40), au_i 0, au_r (p, n, 40)] (mi, si, hi, sl, r, nx) 0 0
  refine au_copy_mm (a := (p, n, 40)) (b := (q, m, 40)) q239 q241 q240 q133 rfl rfl rfl hp hq hnew (by omega) (by omega) (by omega) (by show _ ≤ ((n : Nat) : Int); omega) (by show _ ≤ ((m : Nat) : Int); omega) (Nat.le_of_ble_eq_true rfl) (Nat.le_of_ble_eq_true rfl) (by decide) dX1_copy_6 ?_
  show au_Go G _ _ 9 [some (au_r (p, n, 40)), some (au_r (q, m, 40))] [] ((au_cp mi mi (p, n, 40) 0 (q, m, 40) 0 (n : Int)), si, hi, sl, r, nx) 0 0
  exact au_vret dX1_copy_9 rfl rfl (Nat.le_of_ble_eq_true rfl) (Nat.le_of_ble_eq_true rfl) (⟨rfl, rfl⟩)
theorem kX1_copy_s (G : au_G) (p q n m : Nat) (mi si hi sl : au_A → Int → Int) (r : au_A → Int → Option au_A) (nx : Nat) (hp : ∀ j, au_reg (p, n, 40) j = 1) (hq : ∀ j, au_reg (q, m, 40) j = 1) (hnew : 1000 ≤ q) (hn : n ≤ m) (hn2 : n < 100000) : au_Ctr G yX1_copy cX1_copy 2 none 1 0 0 [au_r (p, n, 40), au_r (q, m, 40)] (mi, si, hi, sl, r, nx) (fun rv M' => rv = none ∧ M' = (mi, au_cp si si (p, n, 40) 0 (q, m, 40) 0 (n : Int), hi, sl, r, nx)) := by
  refine au_of (by decide) (Nat.le_of_ble_eq_true rfl) ?_
  show au_Go G _ _ 0 [some (au_r (p, n, 40)), some (au_r (q, m, 40))] [] (mi, si, hi, sl, r, nx) 0 0
  refine au_aload_n dX1_copy_0 rfl ?_
  refine au_iconst dX1_copy_1 rfl rfl ?_
  refine au_aload_n dX1_copy_2 rfl ?_
  refine au_iconst dX1_copy_3 rfl rfl ?_
  refine au_aload_n dX1_copy_4 rfl ?_
  refine au_alen dX1_copy_5 (show 40 ≤ 40 by decide) (show 40 ≤ 48 by decide) (show n < 2147483648 by omega) ?_
  show au_Go G _ _ 6 [some (au_r (p, n, 40)), some (au_r (q, m, 40))] [au_i (n : Int), au_i 0, au_r (q, m, 40), au_i 0, au_r (p, n, 40)] (mi, si, hi, sl, r, nx) 0 0
  refine au_copy_ss (a := (p, n, 40)) (b := (q, m, 40)) q239 q241 q240 q133 rfl rfl rfl hp hq hnew (by omega) (by omega) (by omega) (by show _ ≤ ((n : Nat) : Int); omega) (by show _ ≤ ((m : Nat) : Int); omega) (Nat.le_of_ble_eq_true rfl) (Nat.le_of_ble_eq_true rfl) (by decide) dX1_copy_6 ?_
  show au_Go G _ _ 9 [some (au_r (p, n, 40)), some (au_r (q, m, 40))] [] (mi, (au_cp si si (p, n, 40) 0 (q, m, 40) 0 (n : Int)), hi, sl, r, nx) 0 0
  exact au_vret dX1_copy_9 rfl rfl (Nat.le_of_ble_eq_true rfl) (Nat.le_of_ble_eq_true rfl) (⟨rfl, rfl⟩)
theorem kX0_draws (G : au_G) (q : Nat) (hq : q = 1003 ∨ q = 1107) (mi si hi sl : au_A → Int → Int) (r : au_A → Int → Option au_A) (nx : Nat) (h0 : 0 ≤ (mi (q, 204, 40)) 1) (h1 : (mi (q, 204, 40)) 1 < 30539) : au_Ctr G yX0_draws cX0_draws 1 none 0 0 0 [au_r (q, 204, 40)] (mi, si, hi, sl, r, nx) (fun rv M' => rv = none ∧ M' = (rowS mi (q, 204, 40) (up1 (mi (q, 204, 40)) 1 (((mi (q, 204, 40)) 1 * 421 + 307) % 30539)), si, hi, sl, r, nx)) := by
  refine au_of (by decide) (Nat.le_of_ble_eq_true rfl) ?_
  rw [← au_up_row]
  show au_Go G _ _ 0 [some (au_r (q, 204, 40))] [] (mi, si, hi, sl, r, nx) 0 0
  refine au_aload_n dX0_draws_0 rfl ?_
  refine au_iconst dX0_draws_1 rfl rfl ?_
  refine au_aload_n dX0_draws_2 rfl ?_
  refine au_iconst dX0_draws_3 rfl rfl ?_
  refine au_iald dX0_draws_4 rfl (by omega) (by show _ < ((204 : Nat) : Int); omega) (v := au_i (mi (q, 204, 40) 1)) (congrArg au_i (au_gi_m (au_reg_row hq _))) ?_
  refine au_sipush dX0_draws_5 rfl rfl ?_
  refine au_imul dX0_draws_8 (by omega) (by omega) ?_
  refine au_sipush dX0_draws_9 rfl rfl ?_
  refine au_iadd dX0_draws_12 (by omega) (by omega) ?_
  refine au_sipush dX0_draws_13 rfl rfl ?_
  refine au_irem dX0_draws_16 (by omega) (by omega) ?_
  refine au_iast dX0_draws_17 rfl (by show 1000 ≤ q; omega) (by omega) (by show _ < ((204 : Nat) : Int); omega) (M' := ((au_up mi (q, 204, 40) 1 ((((mi (q, 204, 40) 1) * 421) + 307) % 30539)), si, hi, sl, r, nx)) (au_wv_m (au_reg_row hq _)) ?_
  exact au_vret dX0_draws_18 rfl rfl (Nat.le_of_ble_eq_true rfl) (Nat.le_of_ble_eq_true rfl) (⟨rfl, rfl⟩)
theorem kX0_grows (G : au_G) (a b : Int) (q : Nat) (hq : q = 1003 ∨ q = 1107) (mi si hi sl : au_A → Int → Int) (r : au_A → Int → Option au_A) (nx : Nat) (h0 : 0 ≤ a) (h1 : a < 10) (h2 : 0 ≤ (mi (q, 204, 40)) (3 + 7 * a + 3) ∧ (mi (q, 204, 40)) (3 + 7 * a + 3) ≤ 9999) (h3 : 0 ≤ b ∧ b ≤ 9999) : au_Ctr G yX0_grows cX0_grows 3 none 1 0 0 [au_r (q, 204, 40), au_i a, au_i b] (mi, si, hi, sl, r, nx) (fun rv M' => rv = none ∧ M' = (rowS mi (q, 204, 40) (up1 (mi (q, 204, 40)) (3 + 7 * a + 3) (min 9999 ((mi (q, 204, 40)) (3 + 7 * a + 3) + b))), si, hi, sl, r, nx)) := by
  refine au_of (by decide) (Nat.le_of_ble_eq_true rfl) ?_
  rw [← au_up_row]
  show au_Go G _ _ 0 [some (au_r (q, 204, 40)), some (au_i a), some (au_i b)] [] (mi, si, hi, sl, r, nx) 0 0
  refine au_aload_n dX0_grows_0 rfl ?_
  refine au_iload_n dX0_grows_1 rfl ?_
  refine au_iconst dX0_grows_2 rfl rfl ?_
  refine au_callSp (n := 2) (kX0_at G a 3 (mi, si, hi, sl, r, nx) (by omega) (by omega) (by omega) (by omega)) (lw_S q898 q899 q130 q900) (by decide +kernel) rfl rfl rfl (Nat.le_of_ble_eq_true rfl) (Nat.le_of_ble_eq_true rfl) (Nat.le_of_ble_eq_true rfl) (Nat.le_of_ble_eq_true rfl) (Nat.le_of_ble_eq_true rfl) dX0_grows_3 ?_
  refine au_sipush dX0_grows_6 rfl rfl ?_
  refine au_aload_n dX0_grows_9 rfl ?_
  refine au_iload_n dX0_grows_10 rfl ?_
  refine au_iconst dX0_grows_11 rfl rfl ?_
  refine au_callSp (n := 2) (kX0_at G a 3 (mi, si, hi, sl, r, nx) (by omega) (by omega) (by omega) (by omega)) (lw_S q898 q899 q130 q900) (by decide +kernel) rfl rfl rfl (Nat.le_of_ble_eq_true rfl) (Nat.le_of_ble_eq_true rfl) (Nat.le_of_ble_eq_true rfl) (Nat.le_of_ble_eq_true rfl) (Nat.le_of_ble_eq_true rfl) dX0_grows_12 ?_
  refine au_iald dX0_grows_15 rfl (by omega) (by show _ < ((204 : Nat) : Int); omega) (v := au_i (mi (q, 204, 40) (3 + 7 * a + 3))) (congrArg au_i (au_gi_m (au_reg_row hq _))) ?_
  refine au_iload_n dX0_grows_16 rfl ?_
  refine au_iadd dX0_grows_17 (by omega) (by omega) ?_
  refine au_mmin q1043 q476 q144 q477 rfl rfl (Nat.le_of_ble_eq_true rfl) (Nat.le_of_ble_eq_true rfl) (Nat.le_of_ble_eq_true rfl) (Nat.le_of_ble_eq_true rfl) (Nat.le_of_ble_eq_true rfl) dX0_grows_18 ?_
  show au_Go G _ _ 21 [some (au_r (q, 204, 40)), some (au_i a), some (au_i b)] [au_i (min 9999 ((mi (q, 204, 40) (3 + 7 * a + 3)) + b)), au_i (3 + 7 * a + 3), au_r (q, 204, 40)] (mi, si, hi, sl, r, nx) 0 0
  refine au_iast dX0_grows_21 rfl (by show 1000 ≤ q; omega) (by omega) (by show _ < ((204 : Nat) : Int); omega) (M' := ((au_up mi (q, 204, 40) (3 + 7 * a + 3) (min 9999 ((mi (q, 204, 40) (3 + 7 * a + 3)) + b))), si, hi, sl, r, nx)) (au_wv_m (au_reg_row hq _)) ?_
  exact au_vret dX0_grows_22 rfl rfl (Nat.le_of_ble_eq_true rfl) (Nat.le_of_ble_eq_true rfl) (⟨rfl, rfl⟩)
theorem kX0_waits (G : au_G) (a : Int) (q : Nat) (hq : q = 1003 ∨ q = 1107) (mi si hi sl : au_A → Int → Int) (r : au_A → Int → Option au_A) (nx : Nat) (h0 : 0 ≤ a) (h1 : a < 10) (h2 : 0 ≤ (mi (q, 204, 40)) (3 + 7 * a + 2) ∧ (mi (q, 204, 40)) (3 + 7 * a + 2) < 10) : au_Ctr G yX0_waits cX0_waits 2 (some .boolean) 1 0 0 [au_r (q, 204, 40), au_i a] (mi, si, hi, sl, r, nx) (au_pure (au_i (au_b ((mi (q, 204, 40)) 0 < (mi (q, 204, 40)) (3 + 7 * a + 6) ∨ (mi (q, 204, 40)) 0 < (mi (q, 204, 40)) (73 + (mi (q, 204, 40)) (3 + 7 * a + 2))))) (mi, si, hi, sl, r, nx)) := by
  refine au_of (by decide) (Nat.le_of_ble_eq_true rfl) ?_
  show au_Go G _ _ 0 [some (au_r (q, 204, 40)), some (au_i a)] [] (mi, si, hi, sl, r, nx) 0 0
  refine au_aload_n dX0_waits_0 rfl ?_
  refine au_iconst dX0_waits_1 rfl rfl ?_
  refine au_iald dX0_waits_2 rfl (by omega) (by show _ < ((204 : Nat) : Int); omega) (v := au_i (mi (q, 204, 40) 0)) (congrArg au_i (au_gi_m (au_reg_row hq _))) ?_
  refine au_aload_n dX0_waits_3 rfl ?_
  refine au_iload_n dX0_waits_4 rfl ?_
  refine au_bipush dX0_waits_5 rfl rfl ?_
  refine au_callSp (n := 2) (kX0_at G a 6 (mi, si, hi, sl, r, nx) (by omega) (by omega) (by omega) (by omega)) (lw_S q898 q899 q130 q900) (by decide +kernel) rfl rfl rfl (Nat.le_of_ble_eq_true rfl) (Nat.le_of_ble_eq_true rfl) (Nat.le_of_ble_eq_true rfl) (Nat.le_of_ble_eq_true rfl) (Nat.le_of_ble_eq_true rfl) dX0_waits_7 ?_
  refine au_iald dX0_waits_10 rfl (by omega) (by show _ < ((204 : Nat) : Int); omega) (v := au_i (mi (q, 204, 40) (3 + 7 * a + 6))) (congrArg au_i (au_gi_m (au_reg_row hq _))) ?_
  refine au_icmp_lt (tgt := 32) dX0_waits_11 (by decide) (fun c11 => ?_) (fun c11 => ?_)
  · refine au_iconst dX0_waits_32 rfl rfl ?_
    refine au_goto (tgt := 37) dX0_waits_33 (by decide) ?_
    exact au_zret dX0_waits_37 rfl (Or.inr rfl) rfl (Nat.le_of_ble_eq_true rfl) (Nat.le_of_ble_eq_true rfl) (au_pt (by omega) rfl)
  · refine au_aload_n dX0_waits_14 rfl ?_
    refine au_iconst dX0_waits_15 rfl rfl ?_
    refine au_iald dX0_waits_16 rfl (by omega) (by show _ < ((204 : Nat) : Int); omega) (v := au_i (mi (q, 204, 40) 0)) (congrArg au_i (au_gi_m (au_reg_row hq _))) ?_
    refine au_aload_n dX0_waits_17 rfl ?_
    refine au_bipush dX0_waits_18 rfl rfl ?_
    refine au_aload_n dX0_waits_20 rfl ?_
    refine au_iload_n dX0_waits_21 rfl ?_
    refine au_iconst dX0_waits_22 rfl rfl ?_
    refine au_callSp (n := 2) (kX0_at G a 2 (mi, si, hi, sl, r, nx) (by omega) (by omega) (by omega) (by omega)) (lw_S q898 q899 q130 q900) (by decide +kernel) rfl rfl rfl (Nat.le_of_ble_eq_true rfl) (Nat.le_of_ble_eq_true rfl) (Nat.le_of_ble_eq_true rfl) (Nat.le_of_ble_eq_true rfl) (Nat.le_of_ble_eq_true rfl) dX0_waits_23 ?_
    refine au_iald dX0_waits_26 rfl (by omega) (by show _ < ((204 : Nat) : Int); omega) (v := au_i (mi (q, 204, 40) (3 + 7 * a + 2))) (congrArg au_i (au_gi_m (au_reg_row hq _))) ?_
    refine au_iadd dX0_waits_27 (by omega) (by omega) ?_
    refine au_iald dX0_waits_28 rfl (by omega) (by show _ < ((204 : Nat) : Int); omega) (v := au_i (mi (q, 204, 40) (73 + (mi (q, 204, 40) (3 + 7 * a + 2))))) (congrArg au_i (au_gi_m (au_reg_row hq _))) ?_
    refine au_icmp_ge (tgt := 36) dX0_waits_29 (by decide) (fun c29 => ?_) (fun c29 => ?_)
    · refine au_iconst dX0_waits_36 rfl rfl ?_
      exact au_zret dX0_waits_37 rfl (Or.inl rfl) rfl (Nat.le_of_ble_eq_true rfl) (Nat.le_of_ble_eq_true rfl) (au_pf (by omega) rfl)
    · refine au_iconst dX0_waits_32 rfl rfl ?_
      refine au_goto (tgt := 37) dX0_waits_33 (by decide) ?_
      exact au_zret dX0_waits_37 rfl (Or.inr rfl) rfl (Nat.le_of_ble_eq_true rfl) (Nat.le_of_ble_eq_true rfl) (au_pt (by omega) rfl)
theorem kX0_doMeet (G : au_G) (a b : Int) (q : Nat) (hq : q = 1003 ∨ q = 1107) (mi si hi sl : au_A → Int → Int) (r : au_A → Int → Option au_A) (nx : Nat) (h0 : 0 ≤ a) (h1 : a < 10) (h2 : 0 ≤ b) (h3 : b < 10) : au_Ctr G yX0_doMeet cX0_doMeet 3 (some .boolean) 1 0 0 [au_r (q, 204, 40), au_i a, au_i b] (mi, si, hi, sl, r, nx) (au_pure (au_i (au_b ((mi (q, 204, 40)) (3 + 7 * a + 4) = 0 ∧ (mi (q, 204, 40)) (3 + 7 * b + 4) = 0 ∧ (mi (q, 204, 40)) (3 + 7 * a + 1) = (mi (q, 204, 40)) (3 + 7 * b + 1) ∧ (mi (q, 204, 40)) (3 + 7 * a + 2) = (mi (q, 204, 40)) (3 + 7 * b + 2)))) (mi, si, hi, sl, r, nx)) := by
  refine au_of (by decide) (Nat.le_of_ble_eq_true rfl) ?_
  show au_Go G _ _ 0 [some (au_r (q, 204, 40)), some (au_i a), some (au_i b)] [] (mi, si, hi, sl, r, nx) 0 0
  refine au_aload_n dX0_doMeet_0 rfl ?_
  refine au_iload_n dX0_doMeet_1 rfl ?_
  refine au_iconst dX0_doMeet_2 rfl rfl ?_
  refine au_callSp (n := 2) (kX0_at G a 4 (mi, si, hi, sl, r, nx) (by omega) (by omega) (by omega) (by omega)) (lw_S q898 q899 q130 q900) (by decide +kernel) rfl rfl rfl (Nat.le_of_ble_eq_true rfl) (Nat.le_of_ble_eq_true rfl) (Nat.le_of_ble_eq_true rfl) (Nat.le_of_ble_eq_true rfl) (Nat.le_of_ble_eq_true rfl) dX0_doMeet_3 ?_
  refine au_iald dX0_doMeet_6 rfl (by omega) (by show _ < ((204 : Nat) : Int); omega) (v := au_i (mi (q, 204, 40) (3 + 7 * a + 4))) (congrArg au_i (au_gi_m (au_reg_row hq _))) ?_
  refine au_if_ne (tgt := 58) dX0_doMeet_7 (by decide) (fun c7 => ?_) (fun c7 => ?_)
  · refine au_iconst dX0_doMeet_58 rfl rfl ?_
    exact au_zret dX0_doMeet_59 rfl (Or.inl rfl) rfl (Nat.le_of_ble_eq_true rfl) (Nat.le_of_ble_eq_true rfl) (au_pf (by omega) rfl)
  · refine au_aload_n dX0_doMeet_10 rfl ?_
    refine au_iload_n dX0_doMeet_11 rfl ?_
    refine au_iconst dX0_doMeet_12 rfl rfl ?_
    refine au_callSp (n := 2) (kX0_at G b 4 (mi, si, hi, sl, r, nx) (by omega) (by omega) (by omega) (by omega)) (lw_S q898 q899 q130 q900) (by decide +kernel) rfl rfl rfl (Nat.le_of_ble_eq_true rfl) (Nat.le_of_ble_eq_true rfl) (Nat.le_of_ble_eq_true rfl) (Nat.le_of_ble_eq_true rfl) (Nat.le_of_ble_eq_true rfl) dX0_doMeet_13 ?_
    refine au_iald dX0_doMeet_16 rfl (by omega) (by show _ < ((204 : Nat) : Int); omega) (v := au_i (mi (q, 204, 40) (3 + 7 * b + 4))) (congrArg au_i (au_gi_m (au_reg_row hq _))) ?_
    refine au_if_ne (tgt := 58) dX0_doMeet_17 (by decide) (fun c17 => ?_) (fun c17 => ?_)
    · refine au_iconst dX0_doMeet_58 rfl rfl ?_
      exact au_zret dX0_doMeet_59 rfl (Or.inl rfl) rfl (Nat.le_of_ble_eq_true rfl) (Nat.le_of_ble_eq_true rfl) (au_pf (by omega) rfl)
    · refine au_aload_n dX0_doMeet_20 rfl ?_
      refine au_iload_n dX0_doMeet_21 rfl ?_
      refine au_iconst dX0_doMeet_22 rfl rfl ?_
      refine au_callSp (n := 2) (kX0_at G a 1 (mi, si, hi, sl, r, nx) (by omega) (by omega) (by omega) (by omega)) (lw_S q898 q899 q130 q900) (by decide +kernel) rfl rfl rfl (Nat.le_of_ble_eq_true rfl) (Nat.le_of_ble_eq_true rfl) (Nat.le_of_ble_eq_true rfl) (Nat.le_of_ble_eq_true rfl) (Nat.le_of_ble_eq_true rfl) dX0_doMeet_23 ?_
      refine au_iald dX0_doMeet_26 rfl (by omega) (by show _ < ((204 : Nat) : Int); omega) (v := au_i (mi (q, 204, 40) (3 + 7 * a + 1))) (congrArg au_i (au_gi_m (au_reg_row hq _))) ?_
      refine au_aload_n dX0_doMeet_27 rfl ?_
      refine au_iload_n dX0_doMeet_28 rfl ?_
      refine au_iconst dX0_doMeet_29 rfl rfl ?_
      refine au_callSp (n := 2) (kX0_at G b 1 (mi, si, hi, sl, r, nx) (by omega) (by omega) (by omega) (by omega)) (lw_S q898 q899 q130 q900) (by decide +kernel) rfl rfl rfl (Nat.le_of_ble_eq_true rfl) (Nat.le_of_ble_eq_true rfl) (Nat.le_of_ble_eq_true rfl) (Nat.le_of_ble_eq_true rfl) (Nat.le_of_ble_eq_true rfl) dX0_doMeet_30 ?_
      refine au_iald dX0_doMeet_33 rfl (by omega) (by show _ < ((204 : Nat) : Int); omega) (v := au_i (mi (q, 204, 40) (3 + 7 * b + 1))) (congrArg au_i (au_gi_m (au_reg_row hq _))) ?_
      refine au_icmp_ne (tgt := 58) dX0_doMeet_34 (by decide) (fun c34 => ?_) (fun c34 => ?_)
      · refine au_iconst dX0_doMeet_58 rfl rfl ?_
        exact au_zret dX0_doMeet_59 rfl (Or.inl rfl) rfl (Nat.le_of_ble_eq_true rfl) (Nat.le_of_ble_eq_true rfl) (au_pf (by omega) rfl)
      · refine au_aload_n dX0_doMeet_37 rfl ?_
        refine au_iload_n dX0_doMeet_38 rfl ?_
        refine au_iconst dX0_doMeet_39 rfl rfl ?_
        refine au_callSp (n := 2) (kX0_at G a 2 (mi, si, hi, sl, r, nx) (by omega) (by omega) (by omega) (by omega)) (lw_S q898 q899 q130 q900) (by decide +kernel) rfl rfl rfl (Nat.le_of_ble_eq_true rfl) (Nat.le_of_ble_eq_true rfl) (Nat.le_of_ble_eq_true rfl) (Nat.le_of_ble_eq_true rfl) (Nat.le_of_ble_eq_true rfl) dX0_doMeet_40 ?_
        refine au_iald dX0_doMeet_43 rfl (by omega) (by show _ < ((204 : Nat) : Int); omega) (v := au_i (mi (q, 204, 40) (3 + 7 * a + 2))) (congrArg au_i (au_gi_m (au_reg_row hq _))) ?_
        refine au_aload_n dX0_doMeet_44 rfl ?_
        refine au_iload_n dX0_doMeet_45 rfl ?_
        refine au_iconst dX0_doMeet_46 rfl rfl ?_
        refine au_callSp (n := 2) (kX0_at G b 2 (mi, si, hi, sl, r, nx) (by omega) (by omega) (by omega) (by omega)) (lw_S q898 q899 q130 q900) (by decide +kernel) rfl rfl rfl (Nat.le_of_ble_eq_true rfl) (Nat.le_of_ble_eq_true rfl) (Nat.le_of_ble_eq_true rfl) (Nat.le_of_ble_eq_true rfl) (Nat.le_of_ble_eq_true rfl) dX0_doMeet_47 ?_
        refine au_iald dX0_doMeet_50 rfl (by omega) (by show _ < ((204 : Nat) : Int); omega) (v := au_i (mi (q, 204, 40) (3 + 7 * b + 2))) (congrArg au_i (au_gi_m (au_reg_row hq _))) ?_
        refine au_icmp_ne (tgt := 58) dX0_doMeet_51 (by decide) (fun c51 => ?_) (fun c51 => ?_)
        · refine au_iconst dX0_doMeet_58 rfl rfl ?_
          exact au_zret dX0_doMeet_59 rfl (Or.inl rfl) rfl (Nat.le_of_ble_eq_true rfl) (Nat.le_of_ble_eq_true rfl) (au_pf (by omega) rfl)
        · refine au_iconst dX0_doMeet_54 rfl rfl ?_
          refine au_goto (tgt := 59) dX0_doMeet_55 (by decide) ?_
          exact au_zret dX0_doMeet_59 rfl (Or.inr rfl) rfl (Nat.le_of_ble_eq_true rfl) (Nat.le_of_ble_eq_true rfl) (au_pt (by omega) rfl)
