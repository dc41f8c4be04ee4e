/-! BITS on naturals -/
set_option maxRecDepth 100000
theorem au_ofN (n : Nat) : Int32.ofInt (n : Int) = nI n := by
  apply Int32.toBitVec_inj.mp
  show BitVec.ofInt 32 (n : Int) = BitVec.ofNat 32 n
  exact BitVec.ofInt_natCast 32 n
theorem au_s_l : ∀ n, n < 32 → ((nI n &&& 31).toBitVec.smod 32).toNat = n := by decide +kernel
theorem au_shl_nat {a k : Nat} (hk : k < 32) (h : a * 2 ^ k < 2147483648) : au_shl (a : Int) (k : Int) = ((a * 2 ^ k : Nat) : Int) := by
  unfold au_shl
  rw [au_ofN, au_ofN, pk_shlN _ k (au_s_l k hk) (by omega), nI_toInt (by omega)]
theorem au_shr_nat {a k : Nat} (hk : k < 32) (h : a < 2147483648) : au_shr (a : Int) (k : Int) = ((a / 2 ^ k : Nat) : Int) := by
  unfold au_shr
  have := Nat.div_le_self a (2 ^ k)
  rw [au_ofN, au_ofN, pk_shrN (by omega) _ k (au_s_l k hk), nI_toInt (by omega)]
theorem au_and_nat (a b : Nat) (ha : a < 2147483648) : au_and (a : Int) (b : Int) = ((a &&& b : Nat) : Int) := by
  unfold au_and
  rw [au_ofN, au_ofN]
  have e : nI a &&& nI b = nI (a &&& b) := by
    apply Int32.toBitVec_inj.mp
    rw [Int32.toBitVec_and]
    show BitVec.ofNat 32 a &&& BitVec.ofNat 32 b = BitVec.ofNat 32 (a &&& b)
    exact (BitVec.ofNat_and).symm
  have h2 : a &&& b ≤ a := Nat.and_le_left
  rw [e, nI_toInt (by omega)]
theorem au_or_nat {a b : Nat} (ha : a < 2147483648) (hb : b < 2147483648) : au_or (a : Int) (b : Int) = ((a ||| b : Nat) : Int) := by
  unfold au_or
  rw [au_ofN, au_ofN]
  have e : nI a ||| nI b = nI (a ||| b) := by
    apply Int32.toBitVec_inj.mp
    rw [Int32.toBitVec_or]
    show BitVec.ofNat 32 a ||| BitVec.ofNat 32 b = BitVec.ofNat 32 (a ||| b)
    exact (BitVec.ofNat_or).symm
  have h2 : a ||| b < 2 ^ 31 := Nat.or_lt_two_pow (by omega) (by omega)
  rw [e, nI_toInt (by omega)]
theorem au_has_nat {a k : Nat} (hk : k < 32) (h : a < 2147483648) : au_and (au_shr (a : Int) (k : Int)) 1 = 1 ↔ a.testBit k = true := by
  have h1 := Nat.div_le_self a (2 ^ k)
  rw [au_shr_nat hk h, show (1 : Int) = ((1 : Nat) : Int) from rfl, au_and_nat _ _ (by omega), Int.ofNat_inj]
  rw [Nat.and_one_is_mod, Nat.testBit_eq_decide_div_mod_eq]
  simp
/-- a set of the numbers below n, as bits -/
noncomputable def bsN (P : Nat → Prop) : Nat → Nat
  | 0 => 0
  | k + 1 => bsN P k ||| (@ite Nat (P k) (Classical.propDecidable _) (2 ^ k) 0)
theorem bsN_lt (P : Nat → Prop) (n : Nat) : bsN P n < 2 ^ n := by
  induction n with
  | zero => simp [bsN]
  | succ n ih =>
    have h1 : 2 ^ n < 2 ^ (n + 1) := Nat.pow_lt_pow_right (by decide) (by omega)
    simp only [bsN]
    refine Nat.or_lt_two_pow (by omega) ?_
    split
    · exact h1
    · exact Nat.two_pow_pos _
theorem bsN_test (P : Nat → Prop) (n i : Nat) : (bsN P n).testBit i = true ↔ i < n ∧ P i := by
  induction n with
  | zero => simp [bsN]
  | succ n ih =>
    simp only [bsN, Nat.testBit_or, Bool.or_eq_true, ih]
    split
    · rename_i h
      rw [Nat.testBit_two_pow]
      constructor
      · rintro (⟨h1, h2⟩ | h1)
        · exact ⟨by omega, h2⟩
        · have := of_decide_eq_true h1
          subst this
          exact ⟨by omega, h⟩
      · rintro ⟨h1, h2⟩
        by_cases q : n = i
        · exact Or.inr (decide_eq_true q)
        · exact Or.inl ⟨by omega, h2⟩
    · rename_i h
      simp only [Nat.zero_testBit, Bool.false_eq_true, or_false]
      constructor
      · rintro ⟨h1, h2⟩; exact ⟨by omega, h2⟩
      · rintro ⟨h1, h2⟩
        refine ⟨?_, h2⟩
        by_cases q : i = n
        · subst q; exact absurd h2 h
        · omega
theorem bsN_eq {P : Nat → Prop} {n a : Nat} (h : ∀ i, a.testBit i = true ↔ i < n ∧ P i) : a = bsN P n := by
  apply Nat.eq_of_testBit_eq
  intro i
  have h1 := h i
  have h2 := bsN_test P n i
  by_cases q : i < n ∧ P i
  · rw [h1.mpr q, h2.mpr q]
  · rw [Bool.eq_false_iff.mpr (fun z => q (h1.mp z)), Bool.eq_false_iff.mpr (fun z => q (h2.mp z))]
theorem bsN_congr {P Q : Nat → Prop} {n : Nat} (h : ∀ i, i < n → (P i ↔ Q i)) : bsN P n = bsN Q n := by
  refine bsN_eq (fun i => ?_)
  rw [bsN_test]
  exact ⟨fun ⟨a, b⟩ => ⟨a, (h i a).mp b⟩, fun ⟨a, b⟩ => ⟨a, (h i a).mpr b⟩⟩
/-- one more: the step of a loop that gathers bits -/
theorem bsN_step (P : Nat → Prop) (k : Nat) (hk : k < 31) (x : Int) (hx : (P k → x = au_shl 1 (k : Int)) ∧ (¬ P k → x = 0)) : au_or ((bsN P k : Nat) : Int) x = ((bsN P (k + 1) : Nat) : Int) := by
  have h1 := bsN_lt P k
  have h2 : 2 ^ k ≤ 2 ^ 30 := Nat.pow_le_pow_right (by decide) (by omega)
  by_cases h : P k
  · rw [hx.1 h, show (1 : Int) = ((1 : Nat) : Int) from rfl, au_shl_nat (by omega) (by omega), au_or_nat (by omega) (by omega)]
    simp only [bsN, if_pos h, Nat.one_mul]
  · rw [hx.2 h, show (0 : Int) = ((0 : Nat) : Int) from rfl, au_or_nat (by omega) (by omega)]
    simp only [bsN, if_neg h]
theorem au_has_int {a : Nat} {k : Int} (h0 : 0 ≤ k) (hk : k < 32) (h : a < 2147483648) : au_and (au_shr (a : Int) k) 1 = 1 ↔ a.testBit k.toNat = true := by
  obtain ⟨j, rfl⟩ := Int.eq_ofNat_of_zero_le h0
  exact au_has_nat (by omega) h
theorem bit_step {s k : Nat} (hs : s < 1024) (hk : k < 10) : au_or (s : Int) (au_shl 1 (k : Int)) = ((s ||| 2 ^ k : Nat) : Int) ∧ s ||| 2 ^ k < 1024 ∧ ∀ i, (s ||| 2 ^ k).testBit i = true ↔ s.testBit i = true ∨ i = k := by
  have h2 : 2 ^ k ≤ 2 ^ 9 := Nat.pow_le_pow_right (by decide) (by omega)
  refine ⟨?_, Nat.or_lt_two_pow (n := 10) (by omega) (by omega), fun i => ?_⟩
  · rw [show (1 : Int) = ((1 : Nat) : Int) from rfl, au_shl_nat (by omega) (by omega), au_or_nat (by omega) (by omega), Nat.one_mul]
  · rw [Nat.testBit_or, Bool.or_eq_true, Nat.testBit_two_pow]
    rw [decide_eq_true_eq]
    exact ⟨fun h => h.imp id Eq.symm, fun h => h.imp id Eq.symm⟩
theorem au_or_0 {s : Nat} (hs : s < 2147483648) : au_or (s : Int) 0 = (s : Int) := by
  rw [show (0 : Int) = ((0 : Nat) : Int) from rfl, au_or_nat hs (by omega), Nat.or_zero]
