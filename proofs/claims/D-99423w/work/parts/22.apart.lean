/-! APART, the middle, the longest way, parts, orders, promotions, of both systems (printed by tools/m22.py) -/
set_option maxRecDepth 100000
set_option maxHeartbeats 4000000

theorem au_shl_int {n : Int} (h0 : 0 ≤ n) (h1 : n ≤ 10) : ∃ N : Nat, N = 2 ^ n.toNat ∧ 1 ≤ N ∧ N ≤ 1024 ∧ au_shl 1 n = (N : Int) := by
  obtain ⟨k, rfl⟩ := Int.eq_ofNat_of_zero_le h0
  have h2 : 2 ^ k ≤ 2 ^ 10 := Nat.pow_le_pow_right (by decide) (by omega)
  refine ⟨2 ^ k, by simp, Nat.two_pow_pos k, h2, ?_⟩
  rw [show (1 : Int) = ((1 : Nat) : Int) from rfl, au_shl_nat (by omega) (by omega), Nat.one_mul]
def popF : Nat → Nat → Nat
  | 0, _ => 0
  | k + 1, n => n % 2 + popF k (n / 2)
/-- how many bits are set (of ten) -/
def pop (n : Nat) : Nat := popF 10 n
theorem popF_le : ∀ k n, popF k n ≤ k := by
  intro k
  induction k with
  | zero => intro n; exact Nat.le_refl 0
  | succ k ih => intro n; have := ih (n / 2); simp only [popF]; omega
theorem pop_le (n : Nat) : pop n ≤ 10 := popF_le 10 n
theorem pop_step : ∀ n, n < 1024 → n ≠ 0 → pop (n &&& (n - 1)) + 1 = pop n ∧ (n &&& (n - 1)) < n := by decide +kernel
/-- no one in the set with its boss -/
def apP (B : Int → Int) (n : Int) (S : Int) : Prop := ∀ o : Int, 1 ≤ o → o < n → ¬ (hs S o ∧ hs S (B o))
noncomputable def wsum (Wt : Int → Int) (S : Int) : Nat → Int
  | 0 => 0
  | k + 1 => au_w (wsum Wt S k + @ite Int (hs S (k : Int)) (Classical.propDecidable _) (Wt (k : Int)) 0)
noncomputable def apB (F : Int → Int) (A : Int → Prop) : Nat → Int
  | 0 => 0
  | k + 1 => @ite Int (F (apB F A k) < F (k : Int) ∧ A (k : Int)) (Classical.propDecidable _) (k : Int) (apB F A k)
theorem apB_1 (F : Int → Int) (A : Int → Prop) : apB F A 1 = 0 := @ite_self Int _ (Classical.propDecidable _) 0
noncomputable def ssum (B : Int → Int) (o : Int) : Nat → Int
  | 0 => 0
  | k + 1 => ssum B o k + stepsN B o (k : Int)
theorem ssum_bd {B : Int → Int} {n : Int} (hB : Bs B n) {o : Int} (h0 : 0 ≤ o) (h1 : o < n) : ∀ k : Nat, (k : Int) ≤ n → -(18 * (k : Int)) ≤ ssum B o k ∧ ssum B o k ≤ 18 * (k : Int) := by
  intro k
  induction k with
  | zero => intro _; simp [ssum]
  | succ k ih =>
    intro h
    have h2 := ih (by omega)
    have h3 := stepsN_bd hB h0 h1 (show (0 : Int) ≤ (k : Int) by omega) (by omega)
    simp only [ssum]
    omega
/-- the one of the least sum, the first of them -/
noncomputable def mdB (F : Int → Int) : Nat → Int
  | 0 => -1
  | k + 1 => @ite Int (mdB F k = -1 ∨ F (k : Int) < F (mdB F k)) (Classical.propDecidable _) (k : Int) (mdB F k)
theorem mdB_bd (F : Int → Int) : ∀ k : Nat, -1 ≤ mdB F k ∧ mdB F k < k ∧ (0 < k → 0 ≤ mdB F k) := by
  intro k
  induction k with
  | zero => simp [mdB]
  | succ k ih =>
    simp only [mdB]
    split <;> omega
/-- the longest way: (length, whence) -/
noncomputable def lgI (B : Int → Int) (o : Int) (s : Int × Int) : Nat → Int × Int
  | 0 => s
  | k + 1 => @ite (Int × Int) ((lgI B o s k).1 < stepsN B o (k : Int)) (Classical.propDecidable _) (stepsN B o (k : Int), o) (lgI B o s k)
noncomputable def lgO (B : Int → Int) (n : Nat) (s : Int × Int) : Nat → Int × Int
  | 0 => s
  | k + 1 => lgI B (k : Int) (lgO B n s k) n
noncomputable def ptM (B : Int → Int) (n : Nat) (a m0 : Int) : Nat → Int
  | 0 => m0
  | k + 1 => @ite Int ((k : Int) ≠ 0 ∧ B (k : Int) = a ∧ ptM B n a m0 k < (pop (under B n (k : Int)) : Int)) (Classical.propDecidable _) (pop (under B n (k : Int)) : Int) (ptM B n a m0 k)
theorem ptM_1 (B : Int → Int) (n : Nat) (a m0 : Int) : ptM B n a m0 1 = m0 := if_neg (fun h => h.1 rfl)
/-- who may be promoted next -/
def mayP (B : Int → Int) (S o : Int) : Prop := ¬ hs S o ∧ (B o = -1 ∨ hs S (B o))
noncomputable def nbB (B Pr : Int → Int) (S : Int) : Nat → Int
  | 0 => -1
  | k + 1 => @ite Int (mayP B S (k : Int) ∧ (nbB B Pr S k = -1 ∨ Pr (nbB B Pr S k) < Pr (k : Int))) (Classical.propDecidable _) (k : Int) (nbB B Pr S k)
theorem nbB_bd (B Pr : Int → Int) (S : Int) : ∀ k : Nat, -1 ≤ nbB B Pr S k ∧ nbB B Pr S k < k := by
  intro k
  induction k with
  | zero => simp [nbB]
  | succ k ih =>
    simp only [nbB]
    split <;> omega
noncomputable def prom (B Pr : Int → Int) (n : Nat) : Nat → Int
  | 0 => 0
  | k + 1 => au_or (prom B Pr n k) (au_shl 1 (nbB B Pr (prom B Pr n k) n))
theorem under_lt' (B : Int → Int) {n : Int} (hn : n ≤ 10) (a : Int) : under B n.toNat a < 1024 := by
  have h1 := under_lt B n.toNat a
  have h2 : 2 ^ n.toNat ≤ 2 ^ 10 := Nat.pow_le_pow_right (by decide) (by omega)
  omega
noncomputable def orA : Nat → Int
  | 0 => 1
  | k + 1 => orA k * ((k : Int) + 1)
noncomputable def orB (B : Int → Int) (n : Nat) : Nat → Int
  | 0 => 1
  | k + 1 => orB B n k * (pop (under B n (k : Int)) : Int)
noncomputable def orQ (B : Int → Int) (n : Nat) : Nat → Int
  | 0 => orA n
  | k + 1 => Int.tdiv (orQ B n k) (pop (under B n (k : Int)) : Int)
theorem orA_bd : ∀ k : Nat, k ≤ 10 → 1 ≤ orA k ∧ orA k ≤ 3628800 := by decide +kernel
theorem pop_pos : ∀ n, n < 1024 → n ≠ 0 → 1 ≤ pop n := by decide +kernel
theorem under_pos {B : Int → Int} {n a : Int} (h0 : 0 ≤ a) (h1 : a < n) : under B n.toNat a ≠ 0 := by
  intro h
  have h2 := (bsN_test (fun j => (j : Int) = a ∨ below B j a) n.toNat a.toNat).mpr ⟨by omega, Or.inl (by omega)⟩
  unfold under at h
  rw [h] at h2
  simp at h2
theorem pow10_bd : ∀ k : Nat, k ≤ 10 → (10 : Int) ^ k ≤ 10000000000 := by decide +kernel
theorem orB_bd {B : Int → Int} {n : Int} (hn : n ≤ 10) : ∀ k : Nat, (k : Int) ≤ n → 1 ≤ orB B n.toNat k ∧ orB B n.toNat k ≤ 10 ^ k := by
  intro k
  induction k with
  | zero => intro _; simp [orB]
  | succ k ih =>
    intro h
    obtain ⟨h1, h2⟩ := ih (by omega)
    have h3 := pop_pos _ (under_lt' B hn (k : Int)) (under_pos (B := B) (by omega) (by omega))
    have h4 := pop_le (under B n.toNat (k : Int))
    simp only [orB]
    refine ⟨?_, ?_⟩
    · have := Int.mul_le_mul h1 (show (1 : Int) ≤ (pop (under B n.toNat (k : Int)) : Int) by omega) (by decide) (by omega)
      omega
    · rw [Int.pow_succ]
      exact Int.mul_le_mul h2 (by omega) (by omega) (by omega)
theorem orQ_bd {B : Int → Int} {n : Int} (hn0 : 0 ≤ n) (hn : n ≤ 10) : ∀ k : Nat, (k : Int) ≤ n → 0 ≤ orQ B n.toNat k ∧ orQ B n.toNat k ≤ 3628800 := by
  intro k
  induction k with
  | zero => intro _; have := orA_bd n.toNat (by omega); simp only [orQ]; omega
  | succ k ih =>
    intro h
    obtain ⟨h1, h2⟩ := ih (by omega)
    simp only [orQ]
    rw [Int.tdiv_eq_ediv_of_nonneg h1]
    have h3 : 0 ≤ orQ B n.toNat k / (pop (under B n.toNat (k : Int)) : Int) := Int.ediv_nonneg h1 (by omega)
    have h4 := Int.ediv_le_self (pop (under B n.toNat (k : Int)) : Int) h1
    omega
/-- the two ways to count orders agree -/
theorem or_same {B : Int → Int} {n : Int} (hn0 : 0 ≤ n) (hn : n ≤ 10) : ∀ k : Nat, (k : Int) ≤ n → orQ B n.toNat k = Int.tdiv (orA n.toNat) (orB B n.toNat k) := by
  intro k
  induction k with
  | zero => intro _; simp [orQ, orB]
  | succ k ih =>
    intro h
    have h1 := ih (by omega)
    have h2 := orB_bd (B := B) hn k (by omega)
    have h3 := orA_bd n.toNat (by omega)
    simp only [orQ, orB]
    have hp : (0 : Int) ≤ (pop (under B n.toNat (k : Int)) : Int) := by omega
    rw [h1, Int.tdiv_eq_ediv_of_nonneg (by omega : (0 : Int) ≤ orA n.toNat), Int.tdiv_eq_ediv_of_nonneg (by omega : (0 : Int) ≤ orA n.toNat), Int.tdiv_eq_ediv_of_nonneg (Int.ediv_nonneg (by omega) (by omega))]
    exact Int.ediv_ediv_of_nonneg (by omega)
theorem stepsN_self (B : Int → Int) (o : Int) : stepsN B o o = 0 := by
  have : meet B o o = o := by
    unfold meet
    simp only [mtW]
    exact if_pos (Or.inl rfl)
  unfold stepsN
  rw [this]
  omega

theorem kbc : ∀ a : Nat, a < 1024 → au_and (au_w ((au_w ((au_and (au_w ((au_w ((au_and (au_w ((a : Int) - (au_and (au_ushr (a : Int) 1) 1431655765))) 858993459) + (au_and (au_ushr (au_w ((a : Int) - (au_and (au_ushr (a : Int) 1) 1431655765))) 2) 858993459))) + (au_ushr (au_w ((au_and (au_w ((a : Int) - (au_and (au_ushr (a : Int) 1) 1431655765))) 858993459) + (au_and (au_ushr (au_w ((a : Int) - (au_and (au_ushr (a : Int) 1) 1431655765))) 2) 858993459))) 4))) 252645135) + (au_ushr (au_and (au_w ((au_w ((au_and (au_w ((a : Int) - (au_and (au_ushr (a : Int) 1) 1431655765))) 858993459) + (au_and (au_ushr (au_w ((a : Int) - (au_and (au_ushr (a : Int) 1) 1431655765))) 2) 858993459))) + (au_ushr (au_w ((au_and (au_w ((a : Int) - (au_and (au_ushr (a : Int) 1) 1431655765))) 858993459) + (au_and (au_ushr (au_w ((a : Int) - (au_and (au_ushr (a : Int) 1) 1431655765))) 2) 858993459))) 4))) 252645135) 8))) + (au_ushr (au_w ((au_and (au_w ((au_w ((au_and (au_w ((a : Int) - (au_and (au_ushr (a : Int) 1) 1431655765))) 858993459) + (au_and (au_ushr (au_w ((a : Int) - (au_and (au_ushr (a : Int) 1) 1431655765))) 2) 858993459))) + (au_ushr (au_w ((au_and (au_w ((a : Int) - (au_and (au_ushr (a : Int) 1) 1431655765))) 858993459) + (au_and (au_ushr (au_w ((a : Int) - (au_and (au_ushr (a : Int) 1) 1431655765))) 2) 858993459))) 4))) 252645135) + (au_ushr (au_and (au_w ((au_w ((au_and (au_w ((a : Int) - (au_and (au_ushr (a : Int) 1) 1431655765))) 858993459) + (au_and (au_ushr (au_w ((a : Int) - (au_and (au_ushr (a : Int) 1) 1431655765))) 2) 858993459))) + (au_ushr (au_w ((au_and (au_w ((a : Int) - (au_and (au_ushr (a : Int) 1) 1431655765))) 858993459) + (au_and (au_ushr (au_w ((a : Int) - (au_and (au_ushr (a : Int) 1) 1431655765))) 2) 858993459))) 4))) 252645135) 8))) 16))) 63 = ((pop a : Nat) : Int) := by decide +kernel
theorem kJ15_bitCount (G : au_G) (a : Nat) (h : a < 1024) (M : au_M) : au_Ctr G yJ15_bitCount cJ15_bitCount 1 (some .int) 0 0 0 [au_i (a : Int)] M (au_pure (au_i ((pop a : Nat) : Int)) M) := by
  refine au_of (by decide) (Nat.le_of_ble_eq_true rfl) ?_
  show au_Go G _ _ 0 [some (au_i (a : Int))] [] M 0 0
  refine au_iload_n dJ15_bitCount_0 rfl ?_
  refine au_iload_n dJ15_bitCount_1 rfl ?_
  refine au_iconst dJ15_bitCount_2 rfl rfl ?_
  refine au_iushr dJ15_bitCount_3 ?_
  refine au_ldcw q1247 rfl dJ15_bitCount_4 ?_
  show au_Go G _ _ 7 [some (au_i (a : Int))] [au_i 1431655765, au_i (au_ushr (a : Int) 1), au_i (a : Int)] M 0 0
  refine au_iand dJ15_bitCount_7 ?_
  refine au_isubW dJ15_bitCount_8 ?_
  refine au_istore_n dJ15_bitCount_9 (show 0 < 1 by decide) ?_
  show au_Go G _ _ 10 [some (au_i (au_w ((a : Int) - (au_and (au_ushr (a : Int) 1) 1431655765))))] [] M 0 0
  refine au_iload_n dJ15_bitCount_10 rfl ?_
  refine au_ldcw q1248 rfl dJ15_bitCount_11 ?_
  show au_Go G _ _ 14 [some (au_i (au_w ((a : Int) - (au_and (au_ushr (a : Int) 1) 1431655765))))] [au_i 858993459, au_i (au_w ((a : Int) - (au_and (au_ushr (a : Int) 1) 1431655765)))] M 0 0
  refine au_iand dJ15_bitCount_14 ?_
  refine au_iload_n dJ15_bitCount_15 rfl ?_
  refine au_iconst dJ15_bitCount_16 rfl rfl ?_
  refine au_iushr dJ15_bitCount_17 ?_
  refine au_ldcw q1248 rfl dJ15_bitCount_18 ?_
  show au_Go G _ _ 21 [some (au_i (au_w ((a : Int) - (au_and (au_ushr (a : Int) 1) 1431655765))))] [au_i 858993459, au_i (au_ushr (au_w ((a : Int) - (au_and (au_ushr (a : Int) 1) 1431655765))) 2), au_i (au_and (au_w ((a : Int) - (au_and (au_ushr (a : Int) 1) 1431655765))) 858993459)] M 0 0
  refine au_iand dJ15_bitCount_21 ?_
  refine au_iaddW dJ15_bitCount_22 ?_
  refine au_istore_n dJ15_bitCount_23 (show 0 < 1 by decide) ?_
  show au_Go G _ _ 24 [some (au_i (au_w ((au_and (au_w ((a : Int) - (au_and (au_ushr (a : Int) 1) 1431655765))) 858993459) + (au_and (au_ushr (au_w ((a : Int) - (au_and (au_ushr (a : Int) 1) 1431655765))) 2) 858993459))))] [] M 0 0
  refine au_iload_n dJ15_bitCount_24 rfl ?_
  refine au_iload_n dJ15_bitCount_25 rfl ?_
  refine au_iconst dJ15_bitCount_26 rfl rfl ?_
  refine au_iushr dJ15_bitCount_27 ?_
  refine au_iaddW dJ15_bitCount_28 ?_
  refine au_ldcw q1249 rfl dJ15_bitCount_29 ?_
  show au_Go G _ _ 32 [some (au_i (au_w ((au_and (au_w ((a : Int) - (au_and (au_ushr (a : Int) 1) 1431655765))) 858993459) + (au_and (au_ushr (au_w ((a : Int) - (au_and (au_ushr (a : Int) 1) 1431655765))) 2) 858993459))))] [au_i 252645135, au_i (au_w ((au_w ((au_and (au_w ((a : Int) - (au_and (au_ushr (a : Int) 1) 1431655765))) 858993459) + (au_and (au_ushr (au_w ((a : Int) - (au_and (au_ushr (a : Int) 1) 1431655765))) 2) 858993459))) + (au_ushr (au_w ((au_and (au_w ((a : Int) - (au_and (au_ushr (a : Int) 1) 1431655765))) 858993459) + (au_and (au_ushr (au_w ((a : Int) - (au_and (au_ushr (a : Int) 1) 1431655765))) 2) 858993459))) 4)))] M 0 0
  refine au_iand dJ15_bitCount_32 ?_
  refine au_istore_n dJ15_bitCount_33 (show 0 < 1 by decide) ?_
  show au_Go G _ _ 34 [some (au_i (au_and (au_w ((au_w ((au_and (au_w ((a : Int) - (au_and (au_ushr (a : Int) 1) 1431655765))) 858993459) + (au_and (au_ushr (au_w ((a : Int) - (au_and (au_ushr (a : Int) 1) 1431655765))) 2) 858993459))) + (au_ushr (au_w ((au_and (au_w ((a : Int) - (au_and (au_ushr (a : Int) 1) 1431655765))) 858993459) + (au_and (au_ushr (au_w ((a : Int) - (au_and (au_ushr (a : Int) 1) 1431655765))) 2) 858993459))) 4))) 252645135))] [] M 0 0
  refine au_iload_n dJ15_bitCount_34 rfl ?_
  refine au_iload_n dJ15_bitCount_35 rfl ?_
  refine au_bipush dJ15_bitCount_36 rfl rfl ?_
  refine au_iushr dJ15_bitCount_38 ?_
  refine au_iaddW dJ15_bitCount_39 ?_
  refine au_istore_n dJ15_bitCount_40 (show 0 < 1 by decide) ?_
  show au_Go G _ _ 41 [some (au_i (au_w ((au_and (au_w ((au_w ((au_and (au_w ((a : Int) - (au_and (au_ushr (a : Int) 1) 1431655765))) 858993459) + (au_and (au_ushr (au_w ((a : Int) - (au_and (au_ushr (a : Int) 1) 1431655765))) 2) 858993459))) + (au_ushr (au_w ((au_and (au_w ((a : Int) - (au_and (au_ushr (a : Int) 1) 1431655765))) 858993459) + (au_and (au_ushr (au_w ((a : Int) - (au_and (au_ushr (a : Int) 1) 1431655765))) 2) 858993459))) 4))) 252645135) + (au_ushr (au_and (au_w ((au_w ((au_and (au_w ((a : Int) - (au_and (au_ushr (a : Int) 1) 1431655765))) 858993459) + (au_and (au_ushr (au_w ((a : Int) - (au_and (au_ushr (a : Int) 1) 1431655765))) 2) 858993459))) + (au_ushr (au_w ((au_and (au_w ((a : Int) - (au_and (au_ushr (a : Int) 1) 1431655765))) 858993459) + (au_and (au_ushr (au_w ((a : Int) - (au_and (au_ushr (a : Int) 1) 1431655765))) 2) 858993459))) 4))) 252645135) 8))))] [] M 0 0
  refine au_iload_n dJ15_bitCount_41 rfl ?_
  refine au_iload_n dJ15_bitCount_42 rfl ?_
  refine au_bipush dJ15_bitCount_43 rfl rfl ?_
  refine au_iushr dJ15_bitCount_45 ?_
  refine au_iaddW dJ15_bitCount_46 ?_
  refine au_istore_n dJ15_bitCount_47 (show 0 < 1 by decide) ?_
  show au_Go G _ _ 48 [some (au_i (au_w ((au_w ((au_and (au_w ((au_w ((au_and (au_w ((a : Int) - (au_and (au_ushr (a : Int) 1) 1431655765))) 858993459) + (au_and (au_ushr (au_w ((a : Int) - (au_and (au_ushr (a : Int) 1) 1431655765))) 2) 858993459))) + (au_ushr (au_w ((au_and (au_w ((a : Int) - (au_and (au_ushr (a : Int) 1) 1431655765))) 858993459) + (au_and (au_ushr (au_w ((a : Int) - (au_and (au_ushr (a : Int) 1) 1431655765))) 2) 858993459))) 4))) 252645135) + (au_ushr (au_and (au_w ((au_w ((au_and (au_w ((a : Int) - (au_and (au_ushr (a : Int) 1) 1431655765))) 858993459) + (au_and (au_ushr (au_w ((a : Int) - (au_and (au_ushr (a : Int) 1) 1431655765))) 2) 858993459))) + (au_ushr (au_w ((au_and (au_w ((a : Int) - (au_and (au_ushr (a : Int) 1) 1431655765))) 858993459) + (au_and (au_ushr (au_w ((a : Int) - (au_and (au_ushr (a : Int) 1) 1431655765))) 2) 858993459))) 4))) 252645135) 8))) + (au_ushr (au_w ((au_and (au_w ((au_w ((au_and (au_w ((a : Int) - (au_and (au_ushr (a : Int) 1) 1431655765))) 858993459) + (au_and (au_ushr (au_w ((a : Int) - (au_and (au_ushr (a : Int) 1) 1431655765))) 2) 858993459))) + (au_ushr (au_w ((au_and (au_w ((a : Int) - (au_and (au_ushr (a : Int) 1) 1431655765))) 858993459) + (au_and (au_ushr (au_w ((a : Int) - (au_and (au_ushr (a : Int) 1) 1431655765))) 2) 858993459))) 4))) 252645135) + (au_ushr (au_and (au_w ((au_w ((au_and (au_w ((a : Int) - (au_and (au_ushr (a : Int) 1) 1431655765))) 858993459) + (au_and (au_ushr (au_w ((a : Int) - (au_and (au_ushr (a : Int) 1) 1431655765))) 2) 858993459))) + (au_ushr (au_w ((au_and (au_w ((a : Int) - (au_and (au_ushr (a : Int) 1) 1431655765))) 858993459) + (au_and (au_ushr (au_w ((a : Int) - (au_and (au_ushr (a : Int) 1) 1431655765))) 2) 858993459))) 4))) 252645135) 8))) 16))))] [] M 0 0
  refine au_iload_n dJ15_bitCount_48 rfl ?_
  refine au_bipush dJ15_bitCount_49 rfl rfl ?_
  refine au_iand dJ15_bitCount_51 ?_
  exact au_iret dJ15_bitCount_52 rfl rfl (Nat.le_of_ble_eq_true rfl) (Nat.le_of_ble_eq_true rfl) (⟨congrArg (fun z => some (au_i z)) (kbc a h), rfl⟩)
theorem kX2_bits (G : au_G) (a : Nat) (h : a < 1024) (M : au_M) : au_Ctr G yX2_bits cX2_bits 3 (some .int) 0 0 0 [au_i (a : Int)] M (au_pure (au_i ((pop a : Nat) : Int)) M) := by
  refine au_of (by decide) (Nat.le_of_ble_eq_true rfl) ?_
  show au_Go G _ _ 0 [some (au_i (a : Int)), none, none] [] M 0 0
  refine au_iconst dX2_bits_0 rfl rfl ?_
  refine au_istore_n dX2_bits_1 (show 1 < 3 by decide) ?_
  show au_Go G _ _ 2 [some (au_i (a : Int)), some (au_i 0), none] [] M 0 0
  refine au_iload_n dX2_bits_2 rfl ?_
  refine au_istore_n dX2_bits_3 (show 2 < 3 by decide) ?_
  show au_Go G _ _ 4 [some (au_i (a : Int)), some (au_i 0), some (au_i (a : Int))] [] M 0 0
  have hl : ∀ (f : Nat) (c : Nat) (l : Nat), (l < 1024) → (c + pop l = pop a) → (c ≤ 10) → ((l : Int)) < (f : Int) → au_Go G (yX2_bits.cls, cX2_bits, 3, (some .int), au_rm 0 0 0, yX2_bits.name) (au_QM G (au_rm 0 0 0) (au_pure (au_i ((pop a : Nat) : Int)) M)) 4 [some (au_i (a : Int)), some (au_i (c : Int)), some (au_i (l : Int))] [] M 0 0 := by
    intro f
    induction f with
    | zero => intro c l h1 h2 h3 hf; exfalso; omega
    | succ f ih =>
      intro c l h1 h2 h3 hf
      refine au_iload_n dX2_bits_4 rfl ?_
      refine au_if_eq (tgt := 20) dX2_bits_5 (by decide) (fun c5 => ?_) (fun c5 => ?_)
      · refine au_iload_n dX2_bits_20 rfl ?_
        exact au_iret dX2_bits_21 rfl rfl (Nat.le_of_ble_eq_true rfl) (Nat.le_of_ble_eq_true rfl) (au_pe (by rw [← h2, show l = 0 by omega]; rfl) rfl)
      · have hps := pop_step l h1 (by omega)
        have hpl := pop_le a
        refine au_iinc dX2_bits_8 rfl (show 1 < 3 by decide) (by omega) (by omega) (by decide) (by decide) ?_
        show au_Go G _ _ 11 [some (au_i (a : Int)), some (au_i ((c : Int) + 1)), some (au_i (l : Int))] [] M 0 0
        refine au_iload_n dX2_bits_11 rfl ?_
        refine au_iload_n dX2_bits_12 rfl ?_
        refine au_iconst dX2_bits_13 rfl rfl ?_
        refine au_isub dX2_bits_14 (by omega) (by omega) ?_
        refine au_iand dX2_bits_15 ?_
        refine au_istore_n dX2_bits_16 (show 2 < 3 by decide) ?_
        show au_Go G _ _ 17 [some (au_i (a : Int)), some (au_i ((c : Int) + 1)), some (au_i (au_and (l : Int) ((l : Int) - 1)))] [] M 0 0
        rw [show (l : Int) - 1 = ((l - 1 : Nat) : Int) by omega, au_and_nat _ _ (by omega)]
        refine au_goto (tgt := 4) dX2_bits_17 (by decide) ?_
        exact ih (c + 1) (l &&& (l - 1)) (by omega) (by omega) (by omega) (by omega)
  exact hl 1024 0 a h (Nat.zero_add _) (by omega) (by omega)
theorem kX0_areApart (G : au_G) (S : Int) (mi si hi sl : au_A → Int → Int) (r : au_A → Int → Option au_A) (nx : Nat) (hF : Fix r) (n : Int) (hN : mi XNn 0 = n) (B : Int → Int) (hE : ∀ o, 0 ≤ o → o < 10 → mi XNboss o = B o) (hB : Bs B n) : au_Ctr G yX0_areApart cX0_areApart 3 (some .boolean) 1 0 0 [au_r XO, au_i S] (mi, si, hi, sl, r, nx) (au_pure (au_i (au_b (apP B n S))) (mi, si, hi, sl, r, nx)) := by
  refine au_of (by decide) (Nat.le_of_ble_eq_true rfl) ?_
  have hb0 := hB.2.1
  have hb1 := hB.1
  show au_Go G _ _ 0 [some (au_r XO), some (au_i S), none] [] (mi, si, hi, sl, r, nx) 0 0
  refine au_iconst dX0_areApart_0 rfl rfl ?_
  refine au_istore_n dX0_areApart_1 (show 2 < 3 by decide) ?_
  show au_Go G _ _ 2 [some (au_r XO), some (au_i S), some (au_i 1)] [] (mi, si, hi, sl, r, nx) 0 0
  have hl : ∀ (f : Nat) (k : Nat), (1 ≤ k) → (k = 1 ∨ (k : Int) ≤ n) → (∀ o : Int, 1 ≤ o → o < k → ¬ (hs S o ∧ hs S (B o))) → (max (n - (k : Int)) 0) < (f : Int) → au_Go G (yX0_areApart.cls, cX0_areApart, 3, (some .boolean), au_rm 1 0 0, yX0_areApart.name) (au_QM G (au_rm 1 0 0) (au_pure (au_i (au_b (apP B n S))) (mi, si, hi, sl, r, nx))) 2 [some (au_r XO), some (au_i S), some (au_i (k : Int))] [] (mi, si, hi, sl, r, nx) 0 0 := by
    intro f
    induction f with
    | zero => intro k h0 h1 h2 hf; exfalso; omega
    | succ f ih =>
      intro k h0 h1 h2 hf
      refine au_iload_n dX0_areApart_2 rfl ?_
      refine au_aload_n dX0_areApart_3 rfl ?_
      refine au_getf (C := RX0) (T := TX0) (N := 15) in_X0 (by decide) rfl 0 (by decide) rfl rfl q245 rfl dX0_areApart_4 (v := au_r XN) (congrArg au_q (fx_XO_0 hF)) ?_
      refine au_getN (C := RX1) (T := TX1) (N := 11) in_X1 (by decide) rfl 0 (by decide) rfl rfl q187 rfl dX0_areApart_7 (v := au_r XNn) (congrArg au_q (fx_XN_0 hF)) ?_
      refine au_iconst dX0_areApart_10 rfl rfl ?_
      refine au_iald dX0_areApart_11 rfl (by omega) (by show _ < ((6 : Nat) : Int); omega) (v := au_i (n)) (congrArg au_i (hN)) ?_
      refine au_icmp_ge (tgt := 47) dX0_areApart_12 (by decide) (fun c12 => ?_) (fun c12 => ?_)
      · refine au_iconst dX0_areApart_47 rfl rfl ?_
        exact au_zret dX0_areApart_48 rfl (Or.inr rfl) rfl (Nat.le_of_ble_eq_true rfl) (Nat.le_of_ble_eq_true rfl) (au_pt (fun o a b => h2 o a (by omega)) rfl)
      · refine au_iload_n dX0_areApart_15 rfl ?_
        refine au_iload_n dX0_areApart_16 rfl ?_
        refine au_callSp (n := 2) (kX0_has G S (k : Int) (mi, si, hi, sl, r, nx)) (lw_S q307 q308 q130 q309) (by decide +kernel) rfl rfl rfl (Nat.le_of_ble_eq_true rfl) (Nat.le_of_ble_eq_true rfl) (Nat.le_of_ble_eq_true rfl) (Nat.le_of_ble_eq_true rfl) (Nat.le_of_ble_eq_true rfl) dX0_areApart_17 ?_
        refine au_if_eq (tgt := 41) dX0_areApart_20 (by decide) (fun c20 => ?_) (fun c20 => ?_)
        · have c20 := au_b0 c20
          refine au_iinc dX0_areApart_41 rfl (show 2 < 3 by decide) (by omega) (by omega) (by decide) (by decide) ?_
          show au_Go G _ _ 44 [some (au_r XO), some (au_i S), some (au_i ((k : Int) + 1))] [] (mi, si, hi, sl, r, nx) 0 0
          refine au_goto (tgt := 2) dX0_areApart_44 (by decide) ?_
          exact ih (k + 1) (by omega) (by omega) (fun o a b => by by_cases q : o = (k : Int); (rw [q]; first | exact fun z => c20 z.1 | exact fun z => c36 z.2); exact h2 o a (by omega)) (by omega)
        · have c20 := au_b1 c20
          refine au_iload_n dX0_areApart_23 rfl ?_
          refine au_aload_n dX0_areApart_24 rfl ?_
          refine au_getf (C := RX0) (T := TX0) (N := 15) in_X0 (by decide) rfl 0 (by decide) rfl rfl q245 rfl dX0_areApart_25 (v := au_r XN) (congrArg au_q (fx_XO_0 hF)) ?_
          refine au_getN (C := RX1) (T := TX1) (N := 11) in_X1 (by decide) rfl 2 (by decide) rfl rfl q191 rfl dX0_areApart_28 (v := au_r XNboss) (congrArg au_q (fx_XN_2 hF)) ?_
          refine au_iload_n dX0_areApart_31 rfl ?_
          refine au_iald dX0_areApart_32 rfl (by omega) (by show _ < ((10 : Nat) : Int); omega) (v := au_i (B (k : Int))) (congrArg au_i (hE _ (by omega) (by omega))) ?_
          refine au_callSp (n := 2) (kX0_has G S (B (k : Int)) (mi, si, hi, sl, r, nx)) (lw_S q307 q308 q130 q309) (by decide +kernel) rfl rfl rfl (Nat.le_of_ble_eq_true rfl) (Nat.le_of_ble_eq_true rfl) (Nat.le_of_ble_eq_true rfl) (Nat.le_of_ble_eq_true rfl) (Nat.le_of_ble_eq_true rfl) dX0_areApart_33 ?_
          refine au_if_eq (tgt := 41) dX0_areApart_36 (by decide) (fun c36 => ?_) (fun c36 => ?_)
          · have c36 := au_b0 c36
            refine au_iinc dX0_areApart_41 rfl (show 2 < 3 by decide) (by omega) (by omega) (by decide) (by decide) ?_
            show au_Go G _ _ 44 [some (au_r XO), some (au_i S), some (au_i ((k : Int) + 1))] [] (mi, si, hi, sl, r, nx) 0 0
            refine au_goto (tgt := 2) dX0_areApart_44 (by decide) ?_
            exact ih (k + 1) (by omega) (by omega) (fun o a b => by by_cases q : o = (k : Int); (rw [q]; first | exact fun z => c20 z.1 | exact fun z => c36 z.2); exact h2 o a (by omega)) (by omega)
          · have c36 := au_b1 c36
            refine au_iconst dX0_areApart_39 rfl rfl ?_
            exact au_zret dX0_areApart_40 rfl (Or.inl rfl) rfl (Nat.le_of_ble_eq_true rfl) (Nat.le_of_ble_eq_true rfl) (au_pf (fun q => q (k : Int) (by omega) (by omega) ⟨c20, c36⟩) rfl)
  exact hl 11 1 (by omega) (by omega) (fun o a b => by omega) (by omega)
theorem kX0_weightOf (G : au_G) (S : Int) (mi si hi sl : au_A → Int → Int) (r : au_A → Int → Option au_A) (nx : Nat) (hF : Fix r) (n : Int) (hN : mi XNn 0 = n) (hn : 0 ≤ n ∧ n ≤ 10) (Wt : Int → Int) (hWt : ∀ o, 0 ≤ o → o < 10 → mi XNweight o = Wt o) : au_Ctr G yX0_weightOf cX0_weightOf 4 (some .int) 1 0 0 [au_r XO, au_i S] (mi, si, hi, sl, r, nx) (au_pure (au_i (wsum Wt S n.toNat)) (mi, si, hi, sl, r, nx)) := by
  refine au_of (by decide) (Nat.le_of_ble_eq_true rfl) ?_
  show au_Go G _ _ 0 [some (au_r XO), some (au_i S), none, none] [] (mi, si, hi, sl, r, nx) 0 0
  refine au_iconst dX0_weightOf_0 rfl rfl ?_
  refine au_istore_n dX0_weightOf_1 (show 2 < 4 by decide) ?_
  show au_Go G _ _ 2 [some (au_r XO), some (au_i S), some (au_i 0), none] [] (mi, si, hi, sl, r, nx) 0 0
  refine au_iconst dX0_weightOf_2 rfl rfl ?_
  refine au_istore_n dX0_weightOf_3 (show 3 < 4 by decide) ?_
  show au_Go G _ _ 4 [some (au_r XO), some (au_i S), some (au_i 0), some (au_i 0)] [] (mi, si, hi, sl, r, nx) 0 0
  have hl : ∀ (f : Nat) (k : Nat), ((k : Int) ≤ n) → (n - (k : Int)) < (f : Int) → au_Go G (yX0_weightOf.cls, cX0_weightOf, 4, (some .int), au_rm 1 0 0, yX0_weightOf.name) (au_QM G (au_rm 1 0 0) (au_pure (au_i (wsum Wt S n.toNat)) (mi, si, hi, sl, r, nx))) 4 [some (au_r XO), some (au_i S), some (au_i (wsum Wt S k)), some (au_i (k : Int))] [] (mi, si, hi, sl, r, nx) 0 0 := by
    intro f
    induction f with
    | zero => intro k h1 hf; exfalso; omega
    | succ f ih =>
      intro k h1 hf
      refine au_iload_n dX0_weightOf_4 rfl ?_
      refine au_aload_n dX0_weightOf_5 rfl ?_
      refine au_getf (C := RX0) (T := TX0) (N := 15) in_X0 (by decide) rfl 0 (by decide) rfl rfl q245 rfl dX0_weightOf_6 (v := au_r XN) (congrArg au_q (fx_XO_0 hF)) ?_
      refine au_getN (C := RX1) (T := TX1) (N := 11) in_X1 (by decide) rfl 0 (by decide) rfl rfl q187 rfl dX0_weightOf_9 (v := au_r XNn) (congrArg au_q (fx_XN_0 hF)) ?_
      refine au_iconst dX0_weightOf_12 rfl rfl ?_
      refine au_iald dX0_weightOf_13 rfl (by omega) (by show _ < ((6 : Nat) : Int); omega) (v := au_i (n)) (congrArg au_i (hN)) ?_
      refine au_icmp_ge (tgt := 47) dX0_weightOf_14 (by decide) (fun c14 => ?_) (fun c14 => ?_)
      · refine au_iload_n dX0_weightOf_47 rfl ?_
        exact au_iret dX0_weightOf_48 rfl rfl (Nat.le_of_ble_eq_true rfl) (Nat.le_of_ble_eq_true rfl) (au_pe (by rw [show n.toNat = k by omega]) rfl)
      · refine au_iload_n dX0_weightOf_17 rfl ?_
        refine au_iload_n dX0_weightOf_18 rfl ?_
        refine au_iload_n dX0_weightOf_19 rfl ?_
        refine au_callSp (n := 2) (kX0_has G S (k : Int) (mi, si, hi, sl, r, nx)) (lw_S q307 q308 q130 q309) (by decide +kernel) rfl rfl rfl (Nat.le_of_ble_eq_true rfl) (Nat.le_of_ble_eq_true rfl) (Nat.le_of_ble_eq_true rfl) (Nat.le_of_ble_eq_true rfl) (Nat.le_of_ble_eq_true rfl) dX0_weightOf_20 ?_
        refine au_if_eq (tgt := 38) dX0_weightOf_23 (by decide) (fun c23 => ?_) (fun c23 => ?_)
        · have c23 := au_b0 c23
          refine au_iconst dX0_weightOf_38 rfl rfl ?_
          refine au_iaddW dX0_weightOf_39 ?_
          refine au_istore_n dX0_weightOf_40 (show 2 < 4 by decide) ?_
          show au_Go G _ _ 41 [some (au_r XO), some (au_i S), some (au_i (au_w ((wsum Wt S k) + 0))), some (au_i (k : Int))] [] (mi, si, hi, sl, r, nx) 0 0
          refine au_iinc dX0_weightOf_41 rfl (show 3 < 4 by decide) (by omega) (by omega) (by decide) (by decide) ?_
          show au_Go G _ _ 44 [some (au_r XO), some (au_i S), some (au_i (au_w ((wsum Wt S k) + 0))), some (au_i ((k : Int) + 1))] [] (mi, si, hi, sl, r, nx) 0 0
          refine au_goto (tgt := 4) dX0_weightOf_44 (by decide) ?_
          have e1 : ∀ z : Int, z = wsum Wt S (k + 1) → au_Go G (yX0_weightOf.cls, cX0_weightOf, 4, (some .int), au_rm 1 0 0, yX0_weightOf.name) (au_QM G (au_rm 1 0 0) (au_pure (au_i (wsum Wt S n.toNat)) (mi, si, hi, sl, r, nx))) 4 [some (au_r XO), some (au_i S), some (au_i z), some (au_i ((k : Int) + 1))] [] (mi, si, hi, sl, r, nx) 0 0 := fun z hz => by rw [hz]; exact ih (k + 1) (by omega) (by omega)
          exact e1 _ (by simp only [wsum]; first | rw [if_pos c23] | rw [if_neg c23])
        · have c23 := au_b1 c23
          refine au_aload_n dX0_weightOf_26 rfl ?_
          refine au_getf (C := RX0) (T := TX0) (N := 15) in_X0 (by decide) rfl 0 (by decide) rfl rfl q245 rfl dX0_weightOf_27 (v := au_r XN) (congrArg au_q (fx_XO_0 hF)) ?_
          refine au_getN (C := RX1) (T := TX1) (N := 11) in_X1 (by decide) rfl 5 (by decide) rfl rfl q197 rfl dX0_weightOf_30 (v := au_r XNweight) (congrArg au_q (fx_XN_5 hF)) ?_
          refine au_iload_n dX0_weightOf_33 rfl ?_
          refine au_iald dX0_weightOf_34 rfl (by omega) (by show _ < ((10 : Nat) : Int); omega) (v := au_i (Wt (k : Int))) (congrArg au_i (hWt _ (by omega) (by omega))) ?_
          refine au_goto (tgt := 39) dX0_weightOf_35 (by decide) ?_
          refine au_iaddW dX0_weightOf_39 ?_
          refine au_istore_n dX0_weightOf_40 (show 2 < 4 by decide) ?_
          show au_Go G _ _ 41 [some (au_r XO), some (au_i S), some (au_i (au_w ((wsum Wt S k) + (Wt (k : Int))))), some (au_i (k : Int))] [] (mi, si, hi, sl, r, nx) 0 0
          refine au_iinc dX0_weightOf_41 rfl (show 3 < 4 by decide) (by omega) (by omega) (by decide) (by decide) ?_
          show au_Go G _ _ 44 [some (au_r XO), some (au_i S), some (au_i (au_w ((wsum Wt S k) + (Wt (k : Int))))), some (au_i ((k : Int) + 1))] [] (mi, si, hi, sl, r, nx) 0 0
          refine au_goto (tgt := 4) dX0_weightOf_44 (by decide) ?_
          have e1 : ∀ z : Int, z = wsum Wt S (k + 1) → au_Go G (yX0_weightOf.cls, cX0_weightOf, 4, (some .int), au_rm 1 0 0, yX0_weightOf.name) (au_QM G (au_rm 1 0 0) (au_pure (au_i (wsum Wt S n.toNat)) (mi, si, hi, sl, r, nx))) 4 [some (au_r XO), some (au_i S), some (au_i z), some (au_i ((k : Int) + 1))] [] (mi, si, hi, sl, r, nx) 0 0 := fun z hz => by rw [hz]; exact ih (k + 1) (by omega) (by omega)
          exact e1 _ (by simp only [wsum]; first | rw [if_pos c23] | rw [if_neg c23])
  exact hl 11 0 (by omega) (by omega)
theorem kX0_apart (G : au_G) (q : Int) (mi si hi sl : au_A → Int → Int) (r : au_A → Int → Option au_A) (nx : Nat) (hF : Fix r) (n : Int) (hN : mi XNn 0 = n) (B : Int → Int) (hE : ∀ o, 0 ≤ o → o < 10 → mi XNboss o = B o) (hB : Bs B n) (Wt : Int → Int) (hWt : ∀ o, 0 ≤ o → o < 10 → mi XNweight o = Wt o) : au_Ctr G yX0_apart cX0_apart 4 (some .int) 2 0 0 [au_r XO, au_i q] (mi, si, hi, sl, r, nx) (au_pure (au_i (if q = 0 then apB (fun S => wsum Wt S n.toNat) (fun S => apP B n S) (2 ^ n.toNat) else wsum Wt (apB (fun S => wsum Wt S n.toNat) (fun S => apP B n S) (2 ^ n.toNat)) n.toNat)) (mi, si, hi, sl, r, nx)) := by
  refine au_of (by decide) (Nat.le_of_ble_eq_true rfl) ?_
  have hb0 := hB.2.1
  have hb1 := hB.1
  have hn : 0 ≤ n ∧ n ≤ 10 := ⟨hb1, hb0⟩
  obtain ⟨N, hN2, hN0, hN1, hNe⟩ := au_shl_int hb1 hb0
  show au_Go G _ _ 0 [some (au_r XO), some (au_i q), none, none] [] (mi, si, hi, sl, r, nx) 0 0
  refine au_iconst dX0_apart_0 rfl rfl ?_
  refine au_istore_n dX0_apart_1 (show 2 < 4 by decide) ?_
  show au_Go G _ _ 2 [some (au_r XO), some (au_i q), some (au_i 0), none] [] (mi, si, hi, sl, r, nx) 0 0
  refine au_iconst dX0_apart_2 rfl rfl ?_
  refine au_istore_n dX0_apart_3 (show 3 < 4 by decide) ?_
  show au_Go G _ _ 4 [some (au_r XO), some (au_i q), some (au_i 0), some (au_i 1)] [] (mi, si, hi, sl, r, nx) 0 0
  have hl : ∀ (f : Nat) (k : Nat), (1 ≤ k) → (k ≤ N) → ((N : Int) - (k : Int)) < (f : Int) → au_Go G (yX0_apart.cls, cX0_apart, 4, (some .int), au_rm 2 0 0, yX0_apart.name) (au_QM G (au_rm 2 0 0) (au_pure (au_i (if q = 0 then apB (fun S => wsum Wt S n.toNat) (fun S => apP B n S) (2 ^ n.toNat) else wsum Wt (apB (fun S => wsum Wt S n.toNat) (fun S => apP B n S) (2 ^ n.toNat)) n.toNat)) (mi, si, hi, sl, r, nx))) 4 [some (au_r XO), some (au_i q), some (au_i (apB (fun S => wsum Wt S n.toNat) (fun S => apP B n S) k)), some (au_i (k : Int))] [] (mi, si, hi, sl, r, nx) 0 0 := by
    intro f
    induction f with
    | zero => intro k h0 h1 hf; exfalso; omega
    | succ f ih =>
      intro k h0 h1 hf
      refine au_iload_n dX0_apart_4 rfl ?_
      refine au_iconst dX0_apart_5 rfl rfl ?_
      refine au_aload_n dX0_apart_6 rfl ?_
      refine au_getf (C := RX0) (T := TX0) (N := 15) in_X0 (by decide) rfl 0 (by decide) rfl rfl q245 rfl dX0_apart_7 (v := au_r XN) (congrArg au_q (fx_XO_0 hF)) ?_
      refine au_getN (C := RX1) (T := TX1) (N := 11) in_X1 (by decide) rfl 0 (by decide) rfl rfl q187 rfl dX0_apart_10 (v := au_r XNn) (congrArg au_q (fx_XN_0 hF)) ?_
      refine au_iconst dX0_apart_13 rfl rfl ?_
      refine au_iald dX0_apart_14 rfl (by omega) (by show _ < ((6 : Nat) : Int); omega) (v := au_i (n)) (congrArg au_i (hN)) ?_
      refine au_ishl dX0_apart_15 ?_
      refine au_icmp_ge (tgt := 48) dX0_apart_16 (by decide) (fun c16 => ?_) (fun c16 => ?_)
      · refine au_iload_n dX0_apart_48 rfl ?_
        refine au_if_eq (tgt := 60) dX0_apart_49 (by decide) (fun c49 => ?_) (fun c49 => ?_)
        · refine au_iload_n dX0_apart_60 rfl ?_
          refine au_iret dX0_apart_61 rfl rfl (Nat.le_of_ble_eq_true rfl) (Nat.le_of_ble_eq_true rfl) ?_
          rw [hNe] at c16
          have hk : k = 2 ^ n.toNat := by omega
          first | exact au_pe (by rw [if_pos c49, hk]) rfl | exact au_pe (by rw [if_neg c49, hk]) rfl
        · refine au_aload_n dX0_apart_52 rfl ?_
          refine au_iload_n dX0_apart_53 rfl ?_
          refine au_callVp (n := 1) (kX0_weightOf G (apB (fun S => wsum Wt S n.toNat) (fun S => apP B n S) k) mi si hi sl r nx hF n hN hn Wt hWt ) (lw_V q1266 q1268 qs51 q130 q1269) rfl (by decide +kernel) (by decide) (T := TX0) (N := 15) rfl rfl rfl rfl (Nat.le_of_ble_eq_true rfl) (Nat.le_of_ble_eq_true rfl) (Nat.le_of_ble_eq_true rfl) (Nat.le_of_ble_eq_true rfl) (Nat.le_of_ble_eq_true rfl) dX0_apart_54 ?_
          refine au_goto (tgt := 61) dX0_apart_57 (by decide) ?_
          refine au_iret dX0_apart_61 rfl rfl (Nat.le_of_ble_eq_true rfl) (Nat.le_of_ble_eq_true rfl) ?_
          rw [hNe] at c16
          have hk : k = 2 ^ n.toNat := by omega
          first | exact au_pe (by rw [if_pos c49, hk]) rfl | exact au_pe (by rw [if_neg c49, hk]) rfl
      · rw [hNe] at c16
        refine au_aload_n dX0_apart_19 rfl ?_
        refine au_iload_n dX0_apart_20 rfl ?_
        refine au_callVp (n := 1) (kX0_weightOf G (k : Int) mi si hi sl r nx hF n hN hn Wt hWt ) (lw_V q1266 q1268 qs51 q130 q1269) rfl (by decide +kernel) (by decide) (T := TX0) (N := 15) rfl rfl rfl rfl (Nat.le_of_ble_eq_true rfl) (Nat.le_of_ble_eq_true rfl) (Nat.le_of_ble_eq_true rfl) (Nat.le_of_ble_eq_true rfl) (Nat.le_of_ble_eq_true rfl) dX0_apart_21 ?_
        refine au_aload_n dX0_apart_24 rfl ?_
        refine au_iload_n dX0_apart_25 rfl ?_
        refine au_callVp (n := 1) (kX0_weightOf G (apB (fun S => wsum Wt S n.toNat) (fun S => apP B n S) k) mi si hi sl r nx hF n hN hn Wt hWt ) (lw_V q1266 q1268 qs51 q130 q1269) rfl (by decide +kernel) (by decide) (T := TX0) (N := 15) rfl rfl rfl rfl (Nat.le_of_ble_eq_true rfl) (Nat.le_of_ble_eq_true rfl) (Nat.le_of_ble_eq_true rfl) (Nat.le_of_ble_eq_true rfl) (Nat.le_of_ble_eq_true rfl) dX0_apart_26 ?_
        refine au_icmp_le (tgt := 42) dX0_apart_29 (by decide) (fun c29 => ?_) (fun c29 => ?_)
        · refine au_iinc dX0_apart_42 rfl (show 3 < 4 by decide) (by omega) (by omega) (by decide) (by decide) ?_
          show au_Go G _ _ 45 [some (au_r XO), some (au_i q), some (au_i (apB (fun S => wsum Wt S n.toNat) (fun S => apP B n S) k)), some (au_i ((k : Int) + 1))] [] (mi, si, hi, sl, r, nx) 0 0
          refine au_goto (tgt := 4) dX0_apart_45 (by decide) ?_
          have e1 : ∀ z : Int, z = apB (fun S => wsum Wt S n.toNat) (fun S => apP B n S) (k + 1) → au_Go G (yX0_apart.cls, cX0_apart, 4, (some .int), au_rm 2 0 0, yX0_apart.name) (au_QM G (au_rm 2 0 0) (au_pure (au_i (if q = 0 then apB (fun S => wsum Wt S n.toNat) (fun S => apP B n S) (2 ^ n.toNat) else wsum Wt (apB (fun S => wsum Wt S n.toNat) (fun S => apP B n S) (2 ^ n.toNat)) n.toNat)) (mi, si, hi, sl, r, nx))) 4 [some (au_r XO), some (au_i q), some (au_i z), some (au_i ((k : Int) + 1))] [] (mi, si, hi, sl, r, nx) 0 0 := fun z hz => by rw [hz]; exact ih (k + 1) (by omega) (by omega) (by omega)
          exact e1 _ (by simp only [apB]; first | exact (if_pos ⟨c29, c37⟩).symm | exact (if_neg (fun z => c37 z.2)).symm | exact (if_neg (fun z => by have := z.1; omega)).symm)
        · refine au_aload_n dX0_apart_32 rfl ?_
          refine au_iload_n dX0_apart_33 rfl ?_
          refine au_callVp (n := 1) (kX0_areApart G (k : Int) mi si hi sl r nx hF n hN B hE hB ) (lw_V q1270 q1272 qs52 q130 q1273) rfl (by decide +kernel) (by decide) (T := TX0) (N := 15) rfl rfl rfl rfl (Nat.le_of_ble_eq_true rfl) (Nat.le_of_ble_eq_true rfl) (Nat.le_of_ble_eq_true rfl) (Nat.le_of_ble_eq_true rfl) (Nat.le_of_ble_eq_true rfl) dX0_apart_34 ?_
          refine au_if_eq (tgt := 42) dX0_apart_37 (by decide) (fun c37 => ?_) (fun c37 => ?_)
          · have c37 := au_b0 c37
            refine au_iinc dX0_apart_42 rfl (show 3 < 4 by decide) (by omega) (by omega) (by decide) (by decide) ?_
            show au_Go G _ _ 45 [some (au_r XO), some (au_i q), some (au_i (apB (fun S => wsum Wt S n.toNat) (fun S => apP B n S) k)), some (au_i ((k : Int) + 1))] [] (mi, si, hi, sl, r, nx) 0 0
            refine au_goto (tgt := 4) dX0_apart_45 (by decide) ?_
            have e1 : ∀ z : Int, z = apB (fun S => wsum Wt S n.toNat) (fun S => apP B n S) (k + 1) → au_Go G (yX0_apart.cls, cX0_apart, 4, (some .int), au_rm 2 0 0, yX0_apart.name) (au_QM G (au_rm 2 0 0) (au_pure (au_i (if q = 0 then apB (fun S => wsum Wt S n.toNat) (fun S => apP B n S) (2 ^ n.toNat) else wsum Wt (apB (fun S => wsum Wt S n.toNat) (fun S => apP B n S) (2 ^ n.toNat)) n.toNat)) (mi, si, hi, sl, r, nx))) 4 [some (au_r XO), some (au_i q), some (au_i z), some (au_i ((k : Int) + 1))] [] (mi, si, hi, sl, r, nx) 0 0 := fun z hz => by rw [hz]; exact ih (k + 1) (by omega) (by omega) (by omega)
            exact e1 _ (by simp only [apB]; first | exact (if_pos ⟨c29, c37⟩).symm | exact (if_neg (fun z => c37 z.2)).symm | exact (if_neg (fun z => by have := z.1; omega)).symm)
          · have c37 := au_b1 c37
            refine au_iload_n dX0_apart_40 rfl ?_
            refine au_istore_n dX0_apart_41 (show 2 < 4 by decide) ?_
            show au_Go G _ _ 42 [some (au_r XO), some (au_i q), some (au_i (k : Int)), some (au_i (k : Int))] [] (mi, si, hi, sl, r, nx) 0 0
            refine au_iinc dX0_apart_42 rfl (show 3 < 4 by decide) (by omega) (by omega) (by decide) (by decide) ?_
            show au_Go G _ _ 45 [some (au_r XO), some (au_i q), some (au_i (k : Int)), some (au_i ((k : Int) + 1))] [] (mi, si, hi, sl, r, nx) 0 0
            refine au_goto (tgt := 4) dX0_apart_45 (by decide) ?_
            have e1 : ∀ z : Int, z = apB (fun S => wsum Wt S n.toNat) (fun S => apP B n S) (k + 1) → au_Go G (yX0_apart.cls, cX0_apart, 4, (some .int), au_rm 2 0 0, yX0_apart.name) (au_QM G (au_rm 2 0 0) (au_pure (au_i (if q = 0 then apB (fun S => wsum Wt S n.toNat) (fun S => apP B n S) (2 ^ n.toNat) else wsum Wt (apB (fun S => wsum Wt S n.toNat) (fun S => apP B n S) (2 ^ n.toNat)) n.toNat)) (mi, si, hi, sl, r, nx))) 4 [some (au_r XO), some (au_i q), some (au_i z), some (au_i ((k : Int) + 1))] [] (mi, si, hi, sl, r, nx) 0 0 := fun z hz => by rw [hz]; exact ih (k + 1) (by omega) (by omega) (by omega)
            exact e1 _ (by simp only [apB]; first | exact (if_pos ⟨c29, c37⟩).symm | exact (if_neg (fun z => c37 z.2)).symm | exact (if_neg (fun z => by have := z.1; omega)).symm)
  have h0_ := hl 1025 1 (by omega) (by omega) (by omega)
  rw [apB_1] at h0_
  exact h0_
theorem kX0_allStepsOf (G : au_G) (o : Int) (mi si hi sl : au_A → Int → Int) (r : au_A → Int → Option au_A) (nx : Nat) (hF : Fix r) (n : Int) (hN : mi XNn 0 = n) (B : Int → Int) (hE : ∀ o, 0 ≤ o → o < 10 → mi XNboss o = B o) (hB : Bs B n) (h0 : 0 ≤ o) (h1 : o < n) : au_Ctr G yX0_allStepsOf cX0_allStepsOf 4 (some .int) 3 0 0 [au_r XO, au_i o] (mi, si, hi, sl, r, nx) (au_pure (au_i (ssum B o n.toNat)) (mi, si, hi, sl, r, nx)) := by
  refine au_of (by decide) (Nat.le_of_ble_eq_true rfl) ?_
  have hb0 := hB.2.1
  have hb1 := hB.1
  show au_Go G _ _ 0 [some (au_r XO), some (au_i o), none, none] [] (mi, si, hi, sl, r, nx) 0 0
  refine au_iconst dX0_allStepsOf_0 rfl rfl ?_
  refine au_istore_n dX0_allStepsOf_1 (show 2 < 4 by decide) ?_
  show au_Go G _ _ 2 [some (au_r XO), some (au_i o), some (au_i 0), none] [] (mi, si, hi, sl, r, nx) 0 0
  refine au_iconst dX0_allStepsOf_2 rfl rfl ?_
  refine au_istore_n dX0_allStepsOf_3 (show 3 < 4 by decide) ?_
  show au_Go G _ _ 4 [some (au_r XO), some (au_i o), some (au_i 0), some (au_i 0)] [] (mi, si, hi, sl, r, nx) 0 0
  have hl : ∀ (f : Nat) (k : Nat), ((k : Int) ≤ n) → (n - (k : Int)) < (f : Int) → au_Go G (yX0_allStepsOf.cls, cX0_allStepsOf, 4, (some .int), au_rm 3 0 0, yX0_allStepsOf.name) (au_QM G (au_rm 3 0 0) (au_pure (au_i (ssum B o n.toNat)) (mi, si, hi, sl, r, nx))) 4 [some (au_r XO), some (au_i o), some (au_i (ssum B o k)), some (au_i (k : Int))] [] (mi, si, hi, sl, r, nx) 0 0 := by
    intro f
    induction f with
    | zero => intro k h2 hf; exfalso; omega
    | succ f ih =>
      intro k h2 hf
      refine au_iload_n dX0_allStepsOf_4 rfl ?_
      refine au_aload_n dX0_allStepsOf_5 rfl ?_
      refine au_getf (C := RX0) (T := TX0) (N := 15) in_X0 (by decide) rfl 0 (by decide) rfl rfl q245 rfl dX0_allStepsOf_6 (v := au_r XN) (congrArg au_q (fx_XO_0 hF)) ?_
      refine au_getN (C := RX1) (T := TX1) (N := 11) in_X1 (by decide) rfl 0 (by decide) rfl rfl q187 rfl dX0_allStepsOf_9 (v := au_r XNn) (congrArg au_q (fx_XN_0 hF)) ?_
      refine au_iconst dX0_allStepsOf_12 rfl rfl ?_
      refine au_iald dX0_allStepsOf_13 rfl (by omega) (by show _ < ((6 : Nat) : Int); omega) (v := au_i (n)) (congrArg au_i (hN)) ?_
      refine au_icmp_ge (tgt := 32) dX0_allStepsOf_14 (by decide) (fun c14 => ?_) (fun c14 => ?_)
      · refine au_iload_n dX0_allStepsOf_32 rfl ?_
        exact au_iret dX0_allStepsOf_33 rfl rfl (Nat.le_of_ble_eq_true rfl) (Nat.le_of_ble_eq_true rfl) (au_pe (by rw [show n.toNat = k by omega]) rfl)
      · have hs1 := ssum_bd hB h0 h1 k h2
        have hs2 := stepsN_bd hB h0 h1 (show (0 : Int) ≤ (k : Int) by omega) (by omega)
        refine au_iload_n dX0_allStepsOf_17 rfl ?_
        refine au_aload_n dX0_allStepsOf_18 rfl ?_
        refine au_iload_n dX0_allStepsOf_19 rfl ?_
        refine au_iload_n dX0_allStepsOf_20 rfl ?_
        refine au_callVp (n := 2) (kX0_stepsOf G o (k : Int) mi si hi sl r nx hF n hN B hE hB (by omega) (by omega) (by omega) (by omega)) (lw_V q1204 q1206 qs47 q130 q1207) rfl (by decide +kernel) (by decide) (T := TX0) (N := 15) rfl rfl rfl rfl (Nat.le_of_ble_eq_true rfl) (Nat.le_of_ble_eq_true rfl) (Nat.le_of_ble_eq_true rfl) (Nat.le_of_ble_eq_true rfl) (Nat.le_of_ble_eq_true rfl) dX0_allStepsOf_21 ?_
        refine au_iadd dX0_allStepsOf_24 (by omega) (by omega) ?_
        refine au_istore_n dX0_allStepsOf_25 (show 2 < 4 by decide) ?_
        show au_Go G _ _ 26 [some (au_r XO), some (au_i o), some (au_i ((ssum B o k) + (stepsN B o (k : Int)))), some (au_i (k : Int))] [] (mi, si, hi, sl, r, nx) 0 0
        refine au_iinc dX0_allStepsOf_26 rfl (show 3 < 4 by decide) (by omega) (by omega) (by decide) (by decide) ?_
        show au_Go G _ _ 29 [some (au_r XO), some (au_i o), some (au_i ((ssum B o k) + (stepsN B o (k : Int)))), some (au_i ((k : Int) + 1))] [] (mi, si, hi, sl, r, nx) 0 0
        refine au_goto (tgt := 4) dX0_allStepsOf_29 (by decide) ?_
        exact ih (k + 1) (by omega) (by omega)
  exact hl 11 0 (by omega) (by omega)
theorem kX0_middle (G : au_G) (mi si hi sl : au_A → Int → Int) (r : au_A → Int → Option au_A) (nx : Nat) (hF : Fix r) (n : Int) (hN : mi XNn 0 = n) (B : Int → Int) (hE : ∀ o, 0 ≤ o → o < 10 → mi XNboss o = B o) (hB : Bs B n) : au_Ctr G yX0_middle cX0_middle 3 (some .int) 4 0 0 [au_r XO] (mi, si, hi, sl, r, nx) (au_pure (au_i (mdB (fun o => ssum B o n.toNat) n.toNat)) (mi, si, hi, sl, r, nx)) := by
  refine au_of (by decide) (Nat.le_of_ble_eq_true rfl) ?_
  have hb0 := hB.2.1
  have hb1 := hB.1
  show au_Go G _ _ 0 [some (au_r XO), none, none] [] (mi, si, hi, sl, r, nx) 0 0
  refine au_iconst dX0_middle_0 rfl rfl ?_
  refine au_istore_n dX0_middle_1 (show 1 < 3 by decide) ?_
  show au_Go G _ _ 2 [some (au_r XO), some (au_i (-1)), none] [] (mi, si, hi, sl, r, nx) 0 0
  refine au_iconst dX0_middle_2 rfl rfl ?_
  refine au_istore_n dX0_middle_3 (show 2 < 3 by decide) ?_
  show au_Go G _ _ 4 [some (au_r XO), some (au_i (-1)), some (au_i 0)] [] (mi, si, hi, sl, r, nx) 0 0
  have hl : ∀ (f : Nat) (k : Nat), ((k : Int) ≤ n) → (n - (k : Int)) < (f : Int) → au_Go G (yX0_middle.cls, cX0_middle, 3, (some .int), au_rm 4 0 0, yX0_middle.name) (au_QM G (au_rm 4 0 0) (au_pure (au_i (mdB (fun o => ssum B o n.toNat) n.toNat)) (mi, si, hi, sl, r, nx))) 4 [some (au_r XO), some (au_i (mdB (fun o => ssum B o n.toNat) k)), some (au_i (k : Int))] [] (mi, si, hi, sl, r, nx) 0 0 := by
    intro f
    induction f with
    | zero => intro k h2 hf; exfalso; omega
    | succ f ih =>
      intro k h2 hf
      refine au_iload_n dX0_middle_4 rfl ?_
      refine au_aload_n dX0_middle_5 rfl ?_
      refine au_getf (C := RX0) (T := TX0) (N := 15) in_X0 (by decide) rfl 0 (by decide) rfl rfl q245 rfl dX0_middle_6 (v := au_r XN) (congrArg au_q (fx_XO_0 hF)) ?_
      refine au_getN (C := RX1) (T := TX1) (N := 11) in_X1 (by decide) rfl 0 (by decide) rfl rfl q187 rfl dX0_middle_9 (v := au_r XNn) (congrArg au_q (fx_XN_0 hF)) ?_
      refine au_iconst dX0_middle_12 rfl rfl ?_
      refine au_iald dX0_middle_13 rfl (by omega) (by show _ < ((6 : Nat) : Int); omega) (v := au_i (n)) (congrArg au_i (hN)) ?_
      refine au_icmp_ge (tgt := 43) dX0_middle_14 (by decide) (fun c14 => ?_) (fun c14 => ?_)
      · refine au_iload_n dX0_middle_43 rfl ?_
        exact au_iret dX0_middle_44 rfl rfl (Nat.le_of_ble_eq_true rfl) (Nat.le_of_ble_eq_true rfl) (au_pe (by rw [show n.toNat = k by omega]) rfl)
      · have hm := mdB_bd (fun o => ssum B o n.toNat) k
        refine au_iload_n dX0_middle_17 rfl ?_
        refine au_iconst dX0_middle_18 rfl rfl ?_
        refine au_icmp_eq (tgt := 35) dX0_middle_19 (by decide) (fun c19 => ?_) (fun c19 => ?_)
        · refine au_iload_n dX0_middle_35 rfl ?_
          refine au_istore_n dX0_middle_36 (show 1 < 3 by decide) ?_
          show au_Go G _ _ 37 [some (au_r XO), some (au_i (k : Int)), some (au_i (k : Int))] [] (mi, si, hi, sl, r, nx) 0 0
          refine au_iinc dX0_middle_37 rfl (show 2 < 3 by decide) (by omega) (by omega) (by decide) (by decide) ?_
          show au_Go G _ _ 40 [some (au_r XO), some (au_i (k : Int)), some (au_i ((k : Int) + 1))] [] (mi, si, hi, sl, r, nx) 0 0
          refine au_goto (tgt := 4) dX0_middle_40 (by decide) ?_
          have e1 : ∀ z : Int, z = mdB (fun o => ssum B o n.toNat) (k + 1) → au_Go G (yX0_middle.cls, cX0_middle, 3, (some .int), au_rm 4 0 0, yX0_middle.name) (au_QM G (au_rm 4 0 0) (au_pure (au_i (mdB (fun o => ssum B o n.toNat) n.toNat)) (mi, si, hi, sl, r, nx))) 4 [some (au_r XO), some (au_i z), some (au_i ((k : Int) + 1))] [] (mi, si, hi, sl, r, nx) 0 0 := fun z hz => by rw [hz]; exact ih (k + 1) (by omega) (by omega)
          exact e1 _ (by simp only [mdB]; first | exact (if_pos (Or.inl c19)).symm | exact (if_pos (Or.inr c32)).symm | exact (if_neg (fun z => z.elim c19 (fun y => by omega))).symm)
        · refine au_aload_n dX0_middle_22 rfl ?_
          refine au_iload_n dX0_middle_23 rfl ?_
          refine au_callVp (n := 1) (kX0_allStepsOf G (k : Int) mi si hi sl r nx hF n hN B hE hB (by omega) (by omega)) (lw_V q1278 q1280 qs53 q130 q1281) rfl (by decide +kernel) (by decide) (T := TX0) (N := 15) rfl rfl rfl rfl (Nat.le_of_ble_eq_true rfl) (Nat.le_of_ble_eq_true rfl) (Nat.le_of_ble_eq_true rfl) (Nat.le_of_ble_eq_true rfl) (Nat.le_of_ble_eq_true rfl) dX0_middle_24 ?_
          refine au_aload_n dX0_middle_27 rfl ?_
          refine au_iload_n dX0_middle_28 rfl ?_
          refine au_callVp (n := 1) (kX0_allStepsOf G (mdB (fun o => ssum B o n.toNat) k) mi si hi sl r nx hF n hN B hE hB (by omega) (by omega)) (lw_V q1278 q1280 qs53 q130 q1281) rfl (by decide +kernel) (by decide) (T := TX0) (N := 15) rfl rfl rfl rfl (Nat.le_of_ble_eq_true rfl) (Nat.le_of_ble_eq_true rfl) (Nat.le_of_ble_eq_true rfl) (Nat.le_of_ble_eq_true rfl) (Nat.le_of_ble_eq_true rfl) dX0_middle_29 ?_
          refine au_icmp_ge (tgt := 37) dX0_middle_32 (by decide) (fun c32 => ?_) (fun c32 => ?_)
          · refine au_iinc dX0_middle_37 rfl (show 2 < 3 by decide) (by omega) (by omega) (by decide) (by decide) ?_
            show au_Go G _ _ 40 [some (au_r XO), some (au_i (mdB (fun o => ssum B o n.toNat) k)), some (au_i ((k : Int) + 1))] [] (mi, si, hi, sl, r, nx) 0 0
            refine au_goto (tgt := 4) dX0_middle_40 (by decide) ?_
            have e1 : ∀ z : Int, z = mdB (fun o => ssum B o n.toNat) (k + 1) → au_Go G (yX0_middle.cls, cX0_middle, 3, (some .int), au_rm 4 0 0, yX0_middle.name) (au_QM G (au_rm 4 0 0) (au_pure (au_i (mdB (fun o => ssum B o n.toNat) n.toNat)) (mi, si, hi, sl, r, nx))) 4 [some (au_r XO), some (au_i z), some (au_i ((k : Int) + 1))] [] (mi, si, hi, sl, r, nx) 0 0 := fun z hz => by rw [hz]; exact ih (k + 1) (by omega) (by omega)
            exact e1 _ (by simp only [mdB]; first | exact (if_pos (Or.inl c19)).symm | exact (if_pos (Or.inr c32)).symm | exact (if_neg (fun z => z.elim c19 (fun y => by omega))).symm)
          · refine au_iload_n dX0_middle_35 rfl ?_
            refine au_istore_n dX0_middle_36 (show 1 < 3 by decide) ?_
            show au_Go G _ _ 37 [some (au_r XO), some (au_i (k : Int)), some (au_i (k : Int))] [] (mi, si, hi, sl, r, nx) 0 0
            refine au_iinc dX0_middle_37 rfl (show 2 < 3 by decide) (by omega) (by omega) (by decide) (by decide) ?_
            show au_Go G _ _ 40 [some (au_r XO), some (au_i (k : Int)), some (au_i ((k : Int) + 1))] [] (mi, si, hi, sl, r, nx) 0 0
            refine au_goto (tgt := 4) dX0_middle_40 (by decide) ?_
            have e1 : ∀ z : Int, z = mdB (fun o => ssum B o n.toNat) (k + 1) → au_Go G (yX0_middle.cls, cX0_middle, 3, (some .int), au_rm 4 0 0, yX0_middle.name) (au_QM G (au_rm 4 0 0) (au_pure (au_i (mdB (fun o => ssum B o n.toNat) n.toNat)) (mi, si, hi, sl, r, nx))) 4 [some (au_r XO), some (au_i z), some (au_i ((k : Int) + 1))] [] (mi, si, hi, sl, r, nx) 0 0 := fun z hz => by rw [hz]; exact ih (k + 1) (by omega) (by omega)
            exact e1 _ (by simp only [mdB]; first | exact (if_pos (Or.inl c19)).symm | exact (if_pos (Or.inr c32)).symm | exact (if_neg (fun z => z.elim c19 (fun y => by omega))).symm)
  exact hl 11 0 (by omega) (by omega)
theorem kX2_areApart (G : au_G) (S : Int) (mi si hi sl : au_A → Int → Int) (r : au_A → Int → Option au_A) (nx : Nat) (hF : Fix r) (n : Int) (hN : mi MA 0 = n) (B : Int → Int) (hE : ∀ o, 0 ≤ o → o < 10 → mi MA (90 + o) = B o) (hB : Bs B n) : au_Ctr G yX2_areApart cX2_areApart 3 (some .boolean) 1 0 0 [au_r MO, au_i S] (mi, si, hi, sl, r, nx) (au_pure (au_i (au_b (apP B n S))) (mi, si, hi, sl, r, nx)) := by
  refine au_of (by decide) (Nat.le_of_ble_eq_true rfl) ?_
  have hb0 := hB.2.1
  have hb1 := hB.1
  show au_Go G _ _ 0 [some (au_r MO), some (au_i S), none] [] (mi, si, hi, sl, r, nx) 0 0
  refine au_iconst dX2_areApart_0 rfl rfl ?_
  refine au_istore_n dX2_areApart_1 (show 2 < 3 by decide) ?_
  show au_Go G _ _ 2 [some (au_r MO), some (au_i S), some (au_i 1)] [] (mi, si, hi, sl, r, nx) 0 0
  have hl : ∀ (f : Nat) (k : Nat), (1 ≤ k) → (k = 1 ∨ (k : Int) ≤ n) → (∀ o : Int, 1 ≤ o → o < k → ¬ (hs S o ∧ hs S (B o))) → (max (n - (k : Int)) 0) < (f : Int) → au_Go G (yX2_areApart.cls, cX2_areApart, 3, (some .boolean), au_rm 1 0 0, yX2_areApart.name) (au_QM G (au_rm 1 0 0) (au_pure (au_i (au_b (apP B n S))) (mi, si, hi, sl, r, nx))) 2 [some (au_r MO), some (au_i S), some (au_i (k : Int))] [] (mi, si, hi, sl, r, nx) 0 0 := by
    intro f
    induction f with
    | zero => intro k h0 h1 h2 hf; exfalso; omega
    | succ f ih =>
      intro k h0 h1 h2 hf
      refine au_iload_n dX2_areApart_2 rfl ?_
      refine au_aload_n dX2_areApart_3 rfl ?_
      refine au_getf (C := RX2) (T := TX2) (N := 35) in_X2 (by decide) rfl 0 (by decide) rfl rfl q1359 rfl dX2_areApart_4 (v := au_r MA) (congrArg au_q (fx_MO_0 hF)) ?_
      refine au_iconst dX2_areApart_7 rfl rfl ?_
      refine au_iald dX2_areApart_8 rfl (by omega) (by show _ < ((4544 : Nat) : Int); omega) (v := au_i (n)) (congrArg au_i (hN)) ?_
      refine au_icmp_ge (tgt := 44) dX2_areApart_9 (by decide) (fun c9 => ?_) (fun c9 => ?_)
      · refine au_iconst dX2_areApart_44 rfl rfl ?_
        exact au_zret dX2_areApart_45 rfl (Or.inr rfl) rfl (Nat.le_of_ble_eq_true rfl) (Nat.le_of_ble_eq_true rfl) (au_pt (fun o a b => h2 o a (by omega)) rfl)
      · refine au_iload_n dX2_areApart_12 rfl ?_
        refine au_iload_n dX2_areApart_13 rfl ?_
        refine au_callSp (n := 2) (kX2_has G S (k : Int) (mi, si, hi, sl, r, nx)) (lw_S q1482 q1483 q134 q1484) (by decide +kernel) rfl rfl rfl (Nat.le_of_ble_eq_true rfl) (Nat.le_of_ble_eq_true rfl) (Nat.le_of_ble_eq_true rfl) (Nat.le_of_ble_eq_true rfl) (Nat.le_of_ble_eq_true rfl) dX2_areApart_14 ?_
        refine au_if_eq (tgt := 38) dX2_areApart_17 (by decide) (fun c17 => ?_) (fun c17 => ?_)
        · have c17 := au_b0 c17
          refine au_iinc dX2_areApart_38 rfl (show 2 < 3 by decide) (by omega) (by omega) (by decide) (by decide) ?_
          show au_Go G _ _ 41 [some (au_r MO), some (au_i S), some (au_i ((k : Int) + 1))] [] (mi, si, hi, sl, r, nx) 0 0
          refine au_goto (tgt := 2) dX2_areApart_41 (by decide) ?_
          exact ih (k + 1) (by omega) (by omega) (fun o a b => by by_cases q : o = (k : Int); (rw [q]; first | exact fun z => c17 z.1 | exact fun z => c33 z.2); exact h2 o a (by omega)) (by omega)
        · have c17 := au_b1 c17
          refine au_iload_n dX2_areApart_20 rfl ?_
          refine au_aload_n dX2_areApart_21 rfl ?_
          refine au_getf (C := RX2) (T := TX2) (N := 35) in_X2 (by decide) rfl 0 (by decide) rfl rfl q1359 rfl dX2_areApart_22 (v := au_r MA) (congrArg au_q (fx_MO_0 hF)) ?_
          refine au_bipush dX2_areApart_25 rfl rfl ?_
          refine au_iload_n dX2_areApart_27 rfl ?_
          refine au_iadd dX2_areApart_28 (by omega) (by omega) ?_
          refine au_iald dX2_areApart_29 rfl (by omega) (by show _ < ((4544 : Nat) : Int); omega) (v := au_i (B (k : Int))) (congrArg au_i (hE _ (by omega) (by omega))) ?_
          refine au_callSp (n := 2) (kX2_has G S (B (k : Int)) (mi, si, hi, sl, r, nx)) (lw_S q1482 q1483 q134 q1484) (by decide +kernel) rfl rfl rfl (Nat.le_of_ble_eq_true rfl) (Nat.le_of_ble_eq_true rfl) (Nat.le_of_ble_eq_true rfl) (Nat.le_of_ble_eq_true rfl) (Nat.le_of_ble_eq_true rfl) dX2_areApart_30 ?_
          refine au_if_eq (tgt := 38) dX2_areApart_33 (by decide) (fun c33 => ?_) (fun c33 => ?_)
          · have c33 := au_b0 c33
            refine au_iinc dX2_areApart_38 rfl (show 2 < 3 by decide) (by omega) (by omega) (by decide) (by decide) ?_
            show au_Go G _ _ 41 [some (au_r MO), some (au_i S), some (au_i ((k : Int) + 1))] [] (mi, si, hi, sl, r, nx) 0 0
            refine au_goto (tgt := 2) dX2_areApart_41 (by decide) ?_
            exact ih (k + 1) (by omega) (by omega) (fun o a b => by by_cases q : o = (k : Int); (rw [q]; first | exact fun z => c17 z.1 | exact fun z => c33 z.2); exact h2 o a (by omega)) (by omega)
          · have c33 := au_b1 c33
            refine au_iconst dX2_areApart_36 rfl rfl ?_
            exact au_zret dX2_areApart_37 rfl (Or.inl rfl) rfl (Nat.le_of_ble_eq_true rfl) (Nat.le_of_ble_eq_true rfl) (au_pf (fun q => q (k : Int) (by omega) (by omega) ⟨c17, c33⟩) rfl)
  exact hl 11 1 (by omega) (by omega) (fun o a b => by omega) (by omega)
theorem kX2_weightOf (G : au_G) (S : Int) (mi si hi sl : au_A → Int → Int) (r : au_A → Int → Option au_A) (nx : Nat) (hF : Fix r) (n : Int) (hN : mi MA 0 = n) (hn : 0 ≤ n ∧ n ≤ 10) (Wt : Int → Int) (hWt : ∀ o, 0 ≤ o → o < 10 → mi MA (128 + o) = Wt o) : au_Ctr G yX2_weightOf cX2_weightOf 4 (some .int) 1 0 0 [au_r MO, au_i S] (mi, si, hi, sl, r, nx) (au_pure (au_i (wsum Wt S n.toNat)) (mi, si, hi, sl, r, nx)) := by
  refine au_of (by decide) (Nat.le_of_ble_eq_true rfl) ?_
  show au_Go G _ _ 0 [some (au_r MO), some (au_i S), none, none] [] (mi, si, hi, sl, r, nx) 0 0
  refine au_iconst dX2_weightOf_0 rfl rfl ?_
  refine au_istore_n dX2_weightOf_1 (show 2 < 4 by decide) ?_
  show au_Go G _ _ 2 [some (au_r MO), some (au_i S), some (au_i 0), none] [] (mi, si, hi, sl, r, nx) 0 0
  refine au_iconst dX2_weightOf_2 rfl rfl ?_
  refine au_istore_n dX2_weightOf_3 (show 3 < 4 by decide) ?_
  show au_Go G _ _ 4 [some (au_r MO), some (au_i S), some (au_i 0), some (au_i 0)] [] (mi, si, hi, sl, r, nx) 0 0
  have hl : ∀ (f : Nat) (k : Nat), ((k : Int) ≤ n) → (n - (k : Int)) < (f : Int) → au_Go G (yX2_weightOf.cls, cX2_weightOf, 4, (some .int), au_rm 1 0 0, yX2_weightOf.name) (au_QM G (au_rm 1 0 0) (au_pure (au_i (wsum Wt S n.toNat)) (mi, si, hi, sl, r, nx))) 4 [some (au_r MO), some (au_i S), some (au_i (wsum Wt S k)), some (au_i (k : Int))] [] (mi, si, hi, sl, r, nx) 0 0 := by
    intro f
    induction f with
    | zero => intro k h1 hf; exfalso; omega
    | succ f ih =>
      intro k h1 hf
      refine au_iload_n dX2_weightOf_4 rfl ?_
      refine au_aload_n dX2_weightOf_5 rfl ?_
      refine au_getf (C := RX2) (T := TX2) (N := 35) in_X2 (by decide) rfl 0 (by decide) rfl rfl q1359 rfl dX2_weightOf_6 (v := au_r MA) (congrArg au_q (fx_MO_0 hF)) ?_
      refine au_iconst dX2_weightOf_9 rfl rfl ?_
      refine au_iald dX2_weightOf_10 rfl (by omega) (by show _ < ((4544 : Nat) : Int); omega) (v := au_i (n)) (congrArg au_i (hN)) ?_
      refine au_icmp_ge (tgt := 45) dX2_weightOf_11 (by decide) (fun c11 => ?_) (fun c11 => ?_)
      · refine au_iload_n dX2_weightOf_45 rfl ?_
        exact au_iret dX2_weightOf_46 rfl rfl (Nat.le_of_ble_eq_true rfl) (Nat.le_of_ble_eq_true rfl) (au_pe (by rw [show n.toNat = k by omega]) rfl)
      · refine au_iload_n dX2_weightOf_14 rfl ?_
        refine au_iload_n dX2_weightOf_15 rfl ?_
        refine au_iload_n dX2_weightOf_16 rfl ?_
        refine au_callSp (n := 2) (kX2_has G S (k : Int) (mi, si, hi, sl, r, nx)) (lw_S q1482 q1483 q134 q1484) (by decide +kernel) rfl rfl rfl (Nat.le_of_ble_eq_true rfl) (Nat.le_of_ble_eq_true rfl) (Nat.le_of_ble_eq_true rfl) (Nat.le_of_ble_eq_true rfl) (Nat.le_of_ble_eq_true rfl) dX2_weightOf_17 ?_
        refine au_if_eq (tgt := 36) dX2_weightOf_20 (by decide) (fun c20 => ?_) (fun c20 => ?_)
        · have c20 := au_b0 c20
          refine au_iconst dX2_weightOf_36 rfl rfl ?_
          refine au_iaddW dX2_weightOf_37 ?_
          refine au_istore_n dX2_weightOf_38 (show 2 < 4 by decide) ?_
          show au_Go G _ _ 39 [some (au_r MO), some (au_i S), some (au_i (au_w ((wsum Wt S k) + 0))), some (au_i (k : Int))] [] (mi, si, hi, sl, r, nx) 0 0
          refine au_iinc dX2_weightOf_39 rfl (show 3 < 4 by decide) (by omega) (by omega) (by decide) (by decide) ?_
          show au_Go G _ _ 42 [some (au_r MO), some (au_i S), some (au_i (au_w ((wsum Wt S k) + 0))), some (au_i ((k : Int) + 1))] [] (mi, si, hi, sl, r, nx) 0 0
          refine au_goto (tgt := 4) dX2_weightOf_42 (by decide) ?_
          have e1 : ∀ z : Int, z = wsum Wt S (k + 1) → au_Go G (yX2_weightOf.cls, cX2_weightOf, 4, (some .int), au_rm 1 0 0, yX2_weightOf.name) (au_QM G (au_rm 1 0 0) (au_pure (au_i (wsum Wt S n.toNat)) (mi, si, hi, sl, r, nx))) 4 [some (au_r MO), some (au_i S), some (au_i z), some (au_i ((k : Int) + 1))] [] (mi, si, hi, sl, r, nx) 0 0 := fun z hz => by rw [hz]; exact ih (k + 1) (by omega) (by omega)
          exact e1 _ (by simp only [wsum]; first | rw [if_pos c20] | rw [if_neg c20])
        · have c20 := au_b1 c20
          refine au_aload_n dX2_weightOf_23 rfl ?_
          refine au_getf (C := RX2) (T := TX2) (N := 35) in_X2 (by decide) rfl 0 (by decide) rfl rfl q1359 rfl dX2_weightOf_24 (v := au_r MA) (congrArg au_q (fx_MO_0 hF)) ?_
          refine au_sipush dX2_weightOf_27 rfl rfl ?_
          refine au_iload_n dX2_weightOf_30 rfl ?_
          refine au_iadd dX2_weightOf_31 (by omega) (by omega) ?_
          refine au_iald dX2_weightOf_32 rfl (by omega) (by show _ < ((4544 : Nat) : Int); omega) (v := au_i (Wt (k : Int))) (congrArg au_i (hWt _ (by omega) (by omega))) ?_
          refine au_goto (tgt := 37) dX2_weightOf_33 (by decide) ?_
          refine au_iaddW dX2_weightOf_37 ?_
          refine au_istore_n dX2_weightOf_38 (show 2 < 4 by decide) ?_
          show au_Go G _ _ 39 [some (au_r MO), some (au_i S), some (au_i (au_w ((wsum Wt S k) + (Wt (k : Int))))), some (au_i (k : Int))] [] (mi, si, hi, sl, r, nx) 0 0
          refine au_iinc dX2_weightOf_39 rfl (show 3 < 4 by decide) (by omega) (by omega) (by decide) (by decide) ?_
          show au_Go G _ _ 42 [some (au_r MO), some (au_i S), some (au_i (au_w ((wsum Wt S k) + (Wt (k : Int))))), some (au_i ((k : Int) + 1))] [] (mi, si, hi, sl, r, nx) 0 0
          refine au_goto (tgt := 4) dX2_weightOf_42 (by decide) ?_
          have e1 : ∀ z : Int, z = wsum Wt S (k + 1) → au_Go G (yX2_weightOf.cls, cX2_weightOf, 4, (some .int), au_rm 1 0 0, yX2_weightOf.name) (au_QM G (au_rm 1 0 0) (au_pure (au_i (wsum Wt S n.toNat)) (mi, si, hi, sl, r, nx))) 4 [some (au_r MO), some (au_i S), some (au_i z), some (au_i ((k : Int) + 1))] [] (mi, si, hi, sl, r, nx) 0 0 := fun z hz => by rw [hz]; exact ih (k + 1) (by omega) (by omega)
          exact e1 _ (by simp only [wsum]; first | rw [if_pos c20] | rw [if_neg c20])
  exact hl 11 0 (by omega) (by omega)
theorem kX2_apart (G : au_G) (q : Int) (mi si hi sl : au_A → Int → Int) (r : au_A → Int → Option au_A) (nx : Nat) (hF : Fix r) (n : Int) (hN : mi MA 0 = n) (B : Int → Int) (hE : ∀ o, 0 ≤ o → o < 10 → mi MA (90 + o) = B o) (hB : Bs B n) (Wt : Int → Int) (hWt : ∀ o, 0 ≤ o → o < 10 → mi MA (128 + o) = Wt o) : au_Ctr G yX2_apart cX2_apart 4 (some .int) 2 0 0 [au_r MO, au_i q] (mi, si, hi, sl, r, nx) (au_pure (au_i (if q = 0 then apB (fun S => wsum Wt S n.toNat) (fun S => apP B n S) (2 ^ n.toNat) else wsum Wt (apB (fun S => wsum Wt S n.toNat) (fun S => apP B n S) (2 ^ n.toNat)) n.toNat)) (mi, si, hi, sl, r, nx)) := by
  refine au_of (by decide) (Nat.le_of_ble_eq_true rfl) ?_
  have hb0 := hB.2.1
  have hb1 := hB.1
  have hn : 0 ≤ n ∧ n ≤ 10 := ⟨hb1, hb0⟩
  obtain ⟨N, hN2, hN0, hN1, hNe⟩ := au_shl_int hb1 hb0
  show au_Go G _ _ 0 [some (au_r MO), some (au_i q), none, none] [] (mi, si, hi, sl, r, nx) 0 0
  refine au_iconst dX2_apart_0 rfl rfl ?_
  refine au_istore_n dX2_apart_1 (show 2 < 4 by decide) ?_
  show au_Go G _ _ 2 [some (au_r MO), some (au_i q), some (au_i 0), none] [] (mi, si, hi, sl, r, nx) 0 0
  refine au_iconst dX2_apart_2 rfl rfl ?_
  refine au_istore_n dX2_apart_3 (show 3 < 4 by decide) ?_
  show au_Go G _ _ 4 [some (au_r MO), some (au_i q), some (au_i 0), some (au_i 1)] [] (mi, si, hi, sl, r, nx) 0 0
  have hl : ∀ (f : Nat) (k : Nat), (1 ≤ k) → (k ≤ N) → ((N : Int) - (k : Int)) < (f : Int) → au_Go G (yX2_apart.cls, cX2_apart, 4, (some .int), au_rm 2 0 0, yX2_apart.name) (au_QM G (au_rm 2 0 0) (au_pure (au_i (if q = 0 then apB (fun S => wsum Wt S n.toNat) (fun S => apP B n S) (2 ^ n.toNat) else wsum Wt (apB (fun S => wsum Wt S n.toNat) (fun S => apP B n S) (2 ^ n.toNat)) n.toNat)) (mi, si, hi, sl, r, nx))) 4 [some (au_r MO), some (au_i q), some (au_i (apB (fun S => wsum Wt S n.toNat) (fun S => apP B n S) k)), some (au_i (k : Int))] [] (mi, si, hi, sl, r, nx) 0 0 := by
    intro f
    induction f with
    | zero => intro k h0 h1 hf; exfalso; omega
    | succ f ih =>
      intro k h0 h1 hf
      refine au_iload_n dX2_apart_4 rfl ?_
      refine au_iconst dX2_apart_5 rfl rfl ?_
      refine au_aload_n dX2_apart_6 rfl ?_
      refine au_getf (C := RX2) (T := TX2) (N := 35) in_X2 (by decide) rfl 0 (by decide) rfl rfl q1359 rfl dX2_apart_7 (v := au_r MA) (congrArg au_q (fx_MO_0 hF)) ?_
      refine au_iconst dX2_apart_10 rfl rfl ?_
      refine au_iald dX2_apart_11 rfl (by omega) (by show _ < ((4544 : Nat) : Int); omega) (v := au_i (n)) (congrArg au_i (hN)) ?_
      refine au_ishl dX2_apart_12 ?_
      refine au_icmp_ge (tgt := 45) dX2_apart_13 (by decide) (fun c13 => ?_) (fun c13 => ?_)
      · refine au_iload_n dX2_apart_45 rfl ?_
        refine au_if_eq (tgt := 57) dX2_apart_46 (by decide) (fun c46 => ?_) (fun c46 => ?_)
        · refine au_iload_n dX2_apart_57 rfl ?_
          refine au_iret dX2_apart_58 rfl rfl (Nat.le_of_ble_eq_true rfl) (Nat.le_of_ble_eq_true rfl) ?_
          rw [hNe] at c13
          have hk : k = 2 ^ n.toNat := by omega
          first | exact au_pe (by rw [if_pos c46, hk]) rfl | exact au_pe (by rw [if_neg c46, hk]) rfl
        · refine au_aload_n dX2_apart_49 rfl ?_
          refine au_iload_n dX2_apart_50 rfl ?_
          refine au_callVp (n := 1) (kX2_weightOf G (apB (fun S => wsum Wt S n.toNat) (fun S => apP B n S) k) mi si hi sl r nx hF n hN hn Wt hWt ) (lw_V q1957 q1959 qs126 q134 q1960) rfl (by decide +kernel) (by decide) (T := TX2) (N := 35) rfl rfl rfl rfl (Nat.le_of_ble_eq_true rfl) (Nat.le_of_ble_eq_true rfl) (Nat.le_of_ble_eq_true rfl) (Nat.le_of_ble_eq_true rfl) (Nat.le_of_ble_eq_true rfl) dX2_apart_51 ?_
          refine au_goto (tgt := 58) dX2_apart_54 (by decide) ?_
          refine au_iret dX2_apart_58 rfl rfl (Nat.le_of_ble_eq_true rfl) (Nat.le_of_ble_eq_true rfl) ?_
          rw [hNe] at c13
          have hk : k = 2 ^ n.toNat := by omega
          first | exact au_pe (by rw [if_pos c46, hk]) rfl | exact au_pe (by rw [if_neg c46, hk]) rfl
      · rw [hNe] at c13
        refine au_aload_n dX2_apart_16 rfl ?_
        refine au_iload_n dX2_apart_17 rfl ?_
        refine au_callVp (n := 1) (kX2_weightOf G (k : Int) mi si hi sl r nx hF n hN hn Wt hWt ) (lw_V q1957 q1959 qs126 q134 q1960) rfl (by decide +kernel) (by decide) (T := TX2) (N := 35) rfl rfl rfl rfl (Nat.le_of_ble_eq_true rfl) (Nat.le_of_ble_eq_true rfl) (Nat.le_of_ble_eq_true rfl) (Nat.le_of_ble_eq_true rfl) (Nat.le_of_ble_eq_true rfl) dX2_apart_18 ?_
        refine au_aload_n dX2_apart_21 rfl ?_
        refine au_iload_n dX2_apart_22 rfl ?_
        refine au_callVp (n := 1) (kX2_weightOf G (apB (fun S => wsum Wt S n.toNat) (fun S => apP B n S) k) mi si hi sl r nx hF n hN hn Wt hWt ) (lw_V q1957 q1959 qs126 q134 q1960) rfl (by decide +kernel) (by decide) (T := TX2) (N := 35) rfl rfl rfl rfl (Nat.le_of_ble_eq_true rfl) (Nat.le_of_ble_eq_true rfl) (Nat.le_of_ble_eq_true rfl) (Nat.le_of_ble_eq_true rfl) (Nat.le_of_ble_eq_true rfl) dX2_apart_23 ?_
        refine au_icmp_le (tgt := 39) dX2_apart_26 (by decide) (fun c26 => ?_) (fun c26 => ?_)
        · refine au_iinc dX2_apart_39 rfl (show 3 < 4 by decide) (by omega) (by omega) (by decide) (by decide) ?_
          show au_Go G _ _ 42 [some (au_r MO), some (au_i q), some (au_i (apB (fun S => wsum Wt S n.toNat) (fun S => apP B n S) k)), some (au_i ((k : Int) + 1))] [] (mi, si, hi, sl, r, nx) 0 0
          refine au_goto (tgt := 4) dX2_apart_42 (by decide) ?_
          have e1 : ∀ z : Int, z = apB (fun S => wsum Wt S n.toNat) (fun S => apP B n S) (k + 1) → au_Go G (yX2_apart.cls, cX2_apart, 4, (some .int), au_rm 2 0 0, yX2_apart.name) (au_QM G (au_rm 2 0 0) (au_pure (au_i (if q = 0 then apB (fun S => wsum Wt S n.toNat) (fun S => apP B n S) (2 ^ n.toNat) else wsum Wt (apB (fun S => wsum Wt S n.toNat) (fun S => apP B n S) (2 ^ n.toNat)) n.toNat)) (mi, si, hi, sl, r, nx))) 4 [some (au_r MO), some (au_i q), some (au_i z), some (au_i ((k : Int) + 1))] [] (mi, si, hi, sl, r, nx) 0 0 := fun z hz => by rw [hz]; exact ih (k + 1) (by omega) (by omega) (by omega)
          exact e1 _ (by simp only [apB]; first | exact (if_pos ⟨c26, c34⟩).symm | exact (if_neg (fun z => c34 z.2)).symm | exact (if_neg (fun z => by have := z.1; omega)).symm)
        · refine au_aload_n dX2_apart_29 rfl ?_
          refine au_iload_n dX2_apart_30 rfl ?_
          refine au_callVp (n := 1) (kX2_areApart G (k : Int) mi si hi sl r nx hF n hN B hE hB ) (lw_V q1961 q1963 qs127 q134 q1964) rfl (by decide +kernel) (by decide) (T := TX2) (N := 35) rfl rfl rfl rfl (Nat.le_of_ble_eq_true rfl) (Nat.le_of_ble_eq_true rfl) (Nat.le_of_ble_eq_true rfl) (Nat.le_of_ble_eq_true rfl) (Nat.le_of_ble_eq_true rfl) dX2_apart_31 ?_
          refine au_if_eq (tgt := 39) dX2_apart_34 (by decide) (fun c34 => ?_) (fun c34 => ?_)
          · have c34 := au_b0 c34
            refine au_iinc dX2_apart_39 rfl (show 3 < 4 by decide) (by omega) (by omega) (by decide) (by decide) ?_
            show au_Go G _ _ 42 [some (au_r MO), some (au_i q), some (au_i (apB (fun S => wsum Wt S n.toNat) (fun S => apP B n S) k)), some (au_i ((k : Int) + 1))] [] (mi, si, hi, sl, r, nx) 0 0
            refine au_goto (tgt := 4) dX2_apart_42 (by decide) ?_
            have e1 : ∀ z : Int, z = apB (fun S => wsum Wt S n.toNat) (fun S => apP B n S) (k + 1) → au_Go G (yX2_apart.cls, cX2_apart, 4, (some .int), au_rm 2 0 0, yX2_apart.name) (au_QM G (au_rm 2 0 0) (au_pure (au_i (if q = 0 then apB (fun S => wsum Wt S n.toNat) (fun S => apP B n S) (2 ^ n.toNat) else wsum Wt (apB (fun S => wsum Wt S n.toNat) (fun S => apP B n S) (2 ^ n.toNat)) n.toNat)) (mi, si, hi, sl, r, nx))) 4 [some (au_r MO), some (au_i q), some (au_i z), some (au_i ((k : Int) + 1))] [] (mi, si, hi, sl, r, nx) 0 0 := fun z hz => by rw [hz]; exact ih (k + 1) (by omega) (by omega) (by omega)
            exact e1 _ (by simp only [apB]; first | exact (if_pos ⟨c26, c34⟩).symm | exact (if_neg (fun z => c34 z.2)).symm | exact (if_neg (fun z => by have := z.1; omega)).symm)
          · have c34 := au_b1 c34
            refine au_iload_n dX2_apart_37 rfl ?_
            refine au_istore_n dX2_apart_38 (show 2 < 4 by decide) ?_
            show au_Go G _ _ 39 [some (au_r MO), some (au_i q), some (au_i (k : Int)), some (au_i (k : Int))] [] (mi, si, hi, sl, r, nx) 0 0
            refine au_iinc dX2_apart_39 rfl (show 3 < 4 by decide) (by omega) (by omega) (by decide) (by decide) ?_
            show au_Go G _ _ 42 [some (au_r MO), some (au_i q), some (au_i (k : Int)), some (au_i ((k : Int) + 1))] [] (mi, si, hi, sl, r, nx) 0 0
            refine au_goto (tgt := 4) dX2_apart_42 (by decide) ?_
            have e1 : ∀ z : Int, z = apB (fun S => wsum Wt S n.toNat) (fun S => apP B n S) (k + 1) → au_Go G (yX2_apart.cls, cX2_apart, 4, (some .int), au_rm 2 0 0, yX2_apart.name) (au_QM G (au_rm 2 0 0) (au_pure (au_i (if q = 0 then apB (fun S => wsum Wt S n.toNat) (fun S => apP B n S) (2 ^ n.toNat) else wsum Wt (apB (fun S => wsum Wt S n.toNat) (fun S => apP B n S) (2 ^ n.toNat)) n.toNat)) (mi, si, hi, sl, r, nx))) 4 [some (au_r MO), some (au_i q), some (au_i z), some (au_i ((k : Int) + 1))] [] (mi, si, hi, sl, r, nx) 0 0 := fun z hz => by rw [hz]; exact ih (k + 1) (by omega) (by omega) (by omega)
            exact e1 _ (by simp only [apB]; first | exact (if_pos ⟨c26, c34⟩).symm | exact (if_neg (fun z => c34 z.2)).symm | exact (if_neg (fun z => by have := z.1; omega)).symm)
  have h0_ := hl 1025 1 (by omega) (by omega) (by omega)
  rw [apB_1] at h0_
  exact h0_
theorem kX2_middle (G : au_G) (mi si hi sl : au_A → Int → Int) (r : au_A → Int → Option au_A) (nx : Nat) (hF : Fix r) (n : Int) (hN : mi MA 0 = n) (B : Int → Int) (hE : ∀ o, 0 ≤ o → o < 10 → mi MA (90 + o) = B o) (hB : Bs B n) : au_Ctr G yX2_middle cX2_middle 6 (some .int) 4 0 0 [au_r MO] (mi, si, hi, sl, r, nx) (au_pure (au_i (mdB (fun o => ssum B o n.toNat) n.toNat)) (mi, si, hi, sl, r, nx)) := by
  refine au_of (by decide) (Nat.le_of_ble_eq_true rfl) ?_
  have hb0 := hB.2.1
  have hb1 := hB.1
  show au_Go G _ _ 0 [some (au_r MO), none, none, none, none, none] [] (mi, si, hi, sl, r, nx) 0 0
  refine au_iconst dX2_middle_0 rfl rfl ?_
  refine au_istore_n dX2_middle_1 (show 1 < 6 by decide) ?_
  show au_Go G _ _ 2 [some (au_r MO), some (au_i (-1)), none, none, none, none] [] (mi, si, hi, sl, r, nx) 0 0
  refine au_ldcw q1905 rfl dX2_middle_2 ?_
  show au_Go G _ _ 5 [some (au_r MO), some (au_i (-1)), none, none, none, none] [au_i 1000000000] (mi, si, hi, sl, r, nx) 0 0
  refine au_istore_n dX2_middle_5 (show 2 < 6 by decide) ?_
  show au_Go G _ _ 6 [some (au_r MO), some (au_i (-1)), some (au_i 1000000000), none, none, none] [] (mi, si, hi, sl, r, nx) 0 0
  refine au_iconst dX2_middle_6 rfl rfl ?_
  refine au_istore_n dX2_middle_7 (show 3 < 6 by decide) ?_
  show au_Go G _ _ 8 [some (au_r MO), some (au_i (-1)), some (au_i 1000000000), some (au_i 0), none, none] [] (mi, si, hi, sl, r, nx) 0 0
  have hk_ : ∀ (f : Nat) (k : Nat) (le : Int) (a4 a5 : Option au_V), ((k : Int) ≤ n) → (mdB (fun o => ssum B o n.toNat) k = -1 → le = 1000000000) → (mdB (fun o => ssum B o n.toNat) k ≠ -1 → le = (fun o => ssum B o n.toNat) (mdB (fun o => ssum B o n.toNat) k)) → n - (k : Int) < (f : Int) → au_Go G (yX2_middle.cls, cX2_middle, 6, (some .int), au_rm 4 0 0, yX2_middle.name) (au_QM G (au_rm 4 0 0) (au_pure (au_i (mdB (fun o => ssum B o n.toNat) n.toNat)) (mi, si, hi, sl, r, nx))) 8 [some (au_r MO), some (au_i (mdB (fun o => ssum B o n.toNat) k)), some (au_i le), some (au_i (k : Int)), a4, a5] [] (mi, si, hi, sl, r, nx) 0 0 := by
    intro f
    induction f with
    | zero => intro k le a4 a5 h2 h3 h4 hf; exfalso; omega
    | succ f ihk =>
      intro k le a4 a5 h2 h3 h4 hf
      refine au_iload_n dX2_middle_8 rfl ?_
      refine au_aload_n dX2_middle_9 rfl ?_
      refine au_getf (C := RX2) (T := TX2) (N := 35) in_X2 (by decide) rfl 0 (by decide) rfl rfl q1359 rfl dX2_middle_10 (v := au_r MA) (congrArg au_q (fx_MO_0 hF)) ?_
      refine au_iconst dX2_middle_13 rfl rfl ?_
      refine au_iald dX2_middle_14 rfl (by omega) (by show _ < ((4544 : Nat) : Int); omega) (v := au_i (n)) (congrArg au_i (hN)) ?_
      refine au_icmp_ge (tgt := 73) dX2_middle_15 (by decide) (fun c15 => ?_) (fun c15 => ?_)
      · refine au_iload_n dX2_middle_73 rfl ?_
        exact au_iret dX2_middle_74 rfl rfl (Nat.le_of_ble_eq_true rfl) (Nat.le_of_ble_eq_true rfl) (au_pe (by rw [show n.toNat = k by omega]) rfl)
      · refine au_iconst dX2_middle_18 rfl rfl ?_
        refine au_istore dX2_middle_19 (show 4 < 6 by decide) ?_
        show au_Go G _ _ 21 [some (au_r MO), some (au_i (mdB (fun o => ssum B o n.toNat) k)), some (au_i le), some (au_i (k : Int)), some (au_i 0), a5] [] (mi, si, hi, sl, r, nx) 0 0
        refine au_iconst dX2_middle_21 rfl rfl ?_
        refine au_istore dX2_middle_22 (show 5 < 6 by decide) ?_
        show au_Go G _ _ 24 [some (au_r MO), some (au_i (mdB (fun o => ssum B o n.toNat) k)), some (au_i le), some (au_i (k : Int)), some (au_i 0), some (au_i 0)] [] (mi, si, hi, sl, r, nx) 0 0
        have hj_ : ∀ (f : Nat) (j : Nat), ((j : Int) ≤ n) → (n - (j : Int)) < (f : Int) → au_Go G (yX2_middle.cls, cX2_middle, 6, (some .int), au_rm 4 0 0, yX2_middle.name) (au_QM G (au_rm 4 0 0) (au_pure (au_i (mdB (fun o => ssum B o n.toNat) n.toNat)) (mi, si, hi, sl, r, nx))) 24 [some (au_r MO), some (au_i (mdB (fun o => ssum B o n.toNat) k)), some (au_i le), some (au_i (k : Int)), some (au_i (ssum B k j)), some (au_i (j : Int))] [] (mi, si, hi, sl, r, nx) 0 0 := by
          intro f
          induction f with
          | zero => intro j hj hf; exfalso; omega
          | succ f ih =>
            intro j hj hf
            refine au_iload dX2_middle_24 rfl ?_
            refine au_aload_n dX2_middle_26 rfl ?_
            refine au_getf (C := RX2) (T := TX2) (N := 35) in_X2 (by decide) rfl 0 (by decide) rfl rfl q1359 rfl dX2_middle_27 (v := au_r MA) (congrArg au_q (fx_MO_0 hF)) ?_
            refine au_iconst dX2_middle_30 rfl rfl ?_
            refine au_iald dX2_middle_31 rfl (by omega) (by show _ < ((4544 : Nat) : Int); omega) (v := au_i (n)) (congrArg au_i (hN)) ?_
            refine au_icmp_ge (tgt := 53) dX2_middle_32 (by decide) (fun c32 => ?_) (fun c32 => ?_)
            · have hjn : n.toNat = j := by omega
              have hkj : ssum B k n.toNat = ssum B k j := by rw [hjn]
              have hs3 := ssum_bd hB (show (0 : Int) ≤ (k : Int) by omega) (by omega) j hj
              refine au_iload dX2_middle_53 rfl ?_
              refine au_iload_n dX2_middle_55 rfl ?_
              refine au_icmp_lt (tgt := 62) dX2_middle_56 (by decide) (fun c56 => ?_) (fun c56 => ?_)
              · refine au_iload dX2_middle_62 rfl ?_
                refine au_istore_n dX2_middle_64 (show 2 < 6 by decide) ?_
                show au_Go G _ _ 65 [some (au_r MO), some (au_i (mdB (fun o => ssum B o n.toNat) k)), some (au_i (ssum B k j)), some (au_i (k : Int)), some (au_i (ssum B k j)), some (au_i (j : Int))] [] (mi, si, hi, sl, r, nx) 0 0
                refine au_iload_n dX2_middle_65 rfl ?_
                refine au_istore_n dX2_middle_66 (show 1 < 6 by decide) ?_
                show au_Go G _ _ 67 [some (au_r MO), some (au_i (k : Int)), some (au_i (ssum B k j)), some (au_i (k : Int)), some (au_i (ssum B k j)), some (au_i (j : Int))] [] (mi, si, hi, sl, r, nx) 0 0
                refine au_iinc dX2_middle_67 rfl (show 3 < 6 by decide) (by omega) (by omega) (by decide) (by decide) ?_
                show au_Go G _ _ 70 [some (au_r MO), some (au_i (k : Int)), some (au_i (ssum B k j)), some (au_i ((k : Int) + 1)), some (au_i (ssum B k j)), some (au_i (j : Int))] [] (mi, si, hi, sl, r, nx) 0 0
                refine au_goto (tgt := 8) dX2_middle_70 (by decide) ?_
                have e1 : ∀ z : Int, z = mdB (fun o => ssum B o n.toNat) (k + 1) → ∀ w : Int, (mdB (fun o => ssum B o n.toNat) (k + 1) = -1 → w = 1000000000) → (mdB (fun o => ssum B o n.toNat) (k + 1) ≠ -1 → w = (fun o => ssum B o n.toNat) (mdB (fun o => ssum B o n.toNat) (k + 1))) → au_Go G (yX2_middle.cls, cX2_middle, 6, (some .int), au_rm 4 0 0, yX2_middle.name) (au_QM G (au_rm 4 0 0) (au_pure (au_i (mdB (fun o => ssum B o n.toNat) n.toNat)) (mi, si, hi, sl, r, nx))) 8 [some (au_r MO), some (au_i z), some (au_i w), some (au_i ((k : Int) + 1)), some (au_i (ssum B k j)), some (au_i (j : Int))] [] (mi, si, hi, sl, r, nx) 0 0 := fun z hz w hw1 hw2 => by rw [hz]; exact ihk (k + 1) w _ _ (by omega) hw1 hw2 (by omega)
                have hx : mdB (fun o => ssum B o n.toNat) (k + 1) = if mdB (fun o => ssum B o n.toNat) k = -1 ∨ ssum B k n.toNat < le then (k : Int) else mdB (fun o => ssum B o n.toNat) k := by
                  simp only [mdB]
                  by_cases q : mdB (fun o => ssum B o n.toNat) k = -1
                  · rw [if_pos (Or.inl q), if_pos (Or.inl q)]
                  · rw [h4 q]; congr
                by_cases q : ssum B k n.toNat < le
                · first
                  | (exfalso; omega)
                  | (rw [if_pos (Or.inr q)] at hx; exact e1 _ hx.symm _ (fun y => by omega) (fun _ => by rw [hx]; exact hkj.symm))
                · first
                  | (exfalso; omega)
                  | (have q2 : ¬ mdB (fun o => ssum B o n.toNat) k = -1 := fun y => by have := h3 y; omega
                     rw [if_neg (fun z => z.elim q2 q)] at hx
                     exact e1 _ hx.symm _ (fun y => by rw [hx] at y; exact absurd y q2) (fun y => by rw [hx]; exact h4 q2))
              · refine au_goto (tgt := 67) dX2_middle_59 (by decide) ?_
                refine au_iinc dX2_middle_67 rfl (show 3 < 6 by decide) (by omega) (by omega) (by decide) (by decide) ?_
                show au_Go G _ _ 70 [some (au_r MO), some (au_i (mdB (fun o => ssum B o n.toNat) k)), some (au_i le), some (au_i ((k : Int) + 1)), some (au_i (ssum B k j)), some (au_i (j : Int))] [] (mi, si, hi, sl, r, nx) 0 0
                refine au_goto (tgt := 8) dX2_middle_70 (by decide) ?_
                have e1 : ∀ z : Int, z = mdB (fun o => ssum B o n.toNat) (k + 1) → ∀ w : Int, (mdB (fun o => ssum B o n.toNat) (k + 1) = -1 → w = 1000000000) → (mdB (fun o => ssum B o n.toNat) (k + 1) ≠ -1 → w = (fun o => ssum B o n.toNat) (mdB (fun o => ssum B o n.toNat) (k + 1))) → au_Go G (yX2_middle.cls, cX2_middle, 6, (some .int), au_rm 4 0 0, yX2_middle.name) (au_QM G (au_rm 4 0 0) (au_pure (au_i (mdB (fun o => ssum B o n.toNat) n.toNat)) (mi, si, hi, sl, r, nx))) 8 [some (au_r MO), some (au_i z), some (au_i w), some (au_i ((k : Int) + 1)), some (au_i (ssum B k j)), some (au_i (j : Int))] [] (mi, si, hi, sl, r, nx) 0 0 := fun z hz w hw1 hw2 => by rw [hz]; exact ihk (k + 1) w _ _ (by omega) hw1 hw2 (by omega)
                have hx : mdB (fun o => ssum B o n.toNat) (k + 1) = if mdB (fun o => ssum B o n.toNat) k = -1 ∨ ssum B k n.toNat < le then (k : Int) else mdB (fun o => ssum B o n.toNat) k := by
                  simp only [mdB]
                  by_cases q : mdB (fun o => ssum B o n.toNat) k = -1
                  · rw [if_pos (Or.inl q), if_pos (Or.inl q)]
                  · rw [h4 q]; congr
                by_cases q : ssum B k n.toNat < le
                · first
                  | (exfalso; omega)
                  | (rw [if_pos (Or.inr q)] at hx; exact e1 _ hx.symm _ (fun y => by omega) (fun _ => by rw [hx]; exact hkj.symm))
                · first
                  | (exfalso; omega)
                  | (have q2 : ¬ mdB (fun o => ssum B o n.toNat) k = -1 := fun y => by have := h3 y; omega
                     rw [if_neg (fun z => z.elim q2 q)] at hx
                     exact e1 _ hx.symm _ (fun y => by rw [hx] at y; exact absurd y q2) (fun y => by rw [hx]; exact h4 q2))
            · have hs1 := ssum_bd hB (show (0 : Int) ≤ (k : Int) by omega) (by omega) j hj
              have hs2 := stepsN_bd hB (show (0 : Int) ≤ (k : Int) by omega) (by omega) (show (0 : Int) ≤ (j : Int) by omega) (by omega)
              refine au_iload dX2_middle_35 rfl ?_
              refine au_aload_n dX2_middle_37 rfl ?_
              refine au_iload_n dX2_middle_38 rfl ?_
              refine au_iload dX2_middle_39 rfl ?_
              refine au_callVp (n := 2) (kX2_stepsOf G (k : Int) (j : Int) mi si hi sl r nx hF n hN B hE hB (by omega) (by omega) (by omega) (by omega)) (lw_V q1889 q1891 qs118 q134 q1892) rfl (by decide +kernel) (by decide) (T := TX2) (N := 35) rfl rfl rfl rfl (Nat.le_of_ble_eq_true rfl) (Nat.le_of_ble_eq_true rfl) (Nat.le_of_ble_eq_true rfl) (Nat.le_of_ble_eq_true rfl) (Nat.le_of_ble_eq_true rfl) dX2_middle_41 ?_
              refine au_iadd dX2_middle_44 (by omega) (by omega) ?_
              refine au_istore dX2_middle_45 (show 4 < 6 by decide) ?_
              show au_Go G _ _ 47 [some (au_r MO), some (au_i (mdB (fun o => ssum B o n.toNat) k)), some (au_i le), some (au_i (k : Int)), some (au_i ((ssum B k j) + (stepsN B (k : Int) (j : Int)))), some (au_i (j : Int))] [] (mi, si, hi, sl, r, nx) 0 0
              refine au_iinc dX2_middle_47 rfl (show 5 < 6 by decide) (by omega) (by omega) (by decide) (by decide) ?_
              show au_Go G _ _ 50 [some (au_r MO), some (au_i (mdB (fun o => ssum B o n.toNat) k)), some (au_i le), some (au_i (k : Int)), some (au_i ((ssum B k j) + (stepsN B (k : Int) (j : Int)))), some (au_i ((j : Int) + 1))] [] (mi, si, hi, sl, r, nx) 0 0
              refine au_goto (tgt := 24) dX2_middle_50 (by decide) ?_
              exact ih (j + 1) (by omega) (by omega)
        exact hj_ 11 0 (by omega) (by omega)
  exact hk_ 11 0 _ _ _ (by omega) (fun _ => rfl) (fun y => absurd rfl y) (by omega)
