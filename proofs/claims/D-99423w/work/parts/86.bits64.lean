/-! PURE: letters packed into a long -/
set_option maxRecDepth 100000
def nJ (n : Nat) : Int64 := Int64.ofNat n
theorem nJ_of (n : Nat) : Int64.ofInt (n : Int) = nJ n := by
  apply Int64.toBitVec_inj.mp
  show BitVec.ofInt 64 (n : Int) = BitVec.ofNat 64 n
  exact BitVec.ofInt_natCast 64 n
theorem nJ_toInt {n : Nat} (h : n < 9223372036854775808) : (nJ n).toInt = (n : Int) := by
  show (BitVec.ofNat 64 n).toInt = (n : Int)
  rw [BitVec.toInt_eq_toNat_of_lt]
  · rw [BitVec.toNat_ofNat, Nat.mod_eq_of_lt (by omega)]
  · rw [BitVec.toNat_ofNat, Nat.mod_eq_of_lt (by omega)]; omega
theorem nJ_or (a b : Nat) : nJ a ||| nJ b = nJ (a ||| b) := by
  apply Int64.toBitVec_inj.mp
  rw [Int64.toBitVec_or]
  show BitVec.ofNat 64 a ||| BitVec.ofNat 64 b = BitVec.ofNat 64 (a ||| b)
  exact (BitVec.ofNat_or).symm
theorem nJ_s8 : (((Int32.ofInt 8).toInt64 &&& 63).toBitVec.smod 64).toNat = 8 := by decide +kernel
theorem nJ_s48 : (((Int32.ofInt 48).toInt64 &&& 63).toBitVec.smod 64).toNat = 48 := by decide +kernel
theorem nJ_shl8 {a : Nat} (h : a * 256 < 9223372036854775808) : au_lshl (a : Int) 8 = ((a * 256 : Nat) : Int) := by
  unfold au_lshl
  rw [nJ_of]
  have e : nJ a <<< ((Int32.ofInt 8).toInt64 &&& 63) = nJ (a * 256) := by
    apply Int64.toBitVec_inj.mp
    rw [Int64.toBitVec_shiftLeft]
    rw [BitVec.shiftLeft_eq', nJ_s8]
    apply BitVec.eq_of_toNat_eq
    rw [BitVec.toNat_shiftLeft]
    show (BitVec.ofNat 64 a).toNat <<< 8 % 2 ^ 64 = (BitVec.ofNat 64 (a * 256)).toNat
    rw [BitVec.toNat_ofNat, BitVec.toNat_ofNat, Nat.shiftLeft_eq, Nat.mod_eq_of_lt (show a < 2 ^ 64 by omega)]
  rw [e, nJ_toInt h]
theorem nJ_shr48 {a : Nat} (h : a < 9223372036854775808) : au_lshr (a : Int) 48 = ((a / 281474976710656 : Nat) : Int) := by
  unfold au_lshr
  rw [nJ_of]
  have e : nJ a >>> ((Int32.ofInt 48).toInt64 &&& 63) = nJ (a / 281474976710656) := by
    apply Int64.toBitVec_inj.mp
    rw [Int64.toBitVec_shiftRight]
    rw [BitVec.sshiftRight_eq', nJ_s48]
    apply BitVec.eq_of_toNat_eq
    show ((BitVec.ofNat 64 a).sshiftRight 48).toNat = (BitVec.ofNat 64 (a / 281474976710656)).toNat
    have hm : (BitVec.ofNat 64 a).msb = false := by
      rw [BitVec.msb_eq_false_iff_two_mul_lt, BitVec.toNat_ofNat, Nat.mod_eq_of_lt (by omega)]
      omega
    rw [BitVec.toNat_sshiftRight_of_msb_false hm, BitVec.toNat_ofNat, BitVec.toNat_ofNat, Nat.shiftRight_eq_div_pow, Nat.mod_eq_of_lt (show a < 2 ^ 64 by omega), Nat.mod_eq_of_lt (show a / 281474976710656 < 2 ^ 64 by omega)]
  rw [e, nJ_toInt (by omega)]
/-- one letter more -/
theorem pq_or {w c : Int} (hw : 0 ≤ w ∧ w < 36028797018963968) (hc : 0 ≤ c ∧ c < 256) : au_lor (au_lshl w 8) c = w * 256 + c := by
  obtain ⟨a, rfl⟩ := Int.eq_ofNat_of_zero_le hw.1
  obtain ⟨b, rfl⟩ := Int.eq_ofNat_of_zero_le hc.1
  have ha : a < 36028797018963968 := by omega
  have hb : b < 256 := by omega
  rw [nJ_shl8 (by omega)]
  unfold au_lor
  rw [nJ_of, nJ_of, nJ_or]
  have e : a * 256 ||| b = a * 256 + b := by
    have := Nat.shiftLeft_add_eq_or_of_lt (show b < 2 ^ 8 by omega) a
    rw [Nat.shiftLeft_eq] at this
    exact this.symm
  rw [e, nJ_toInt (by omega)]
  omega
theorem pq_shr {w : Int} (hw : 0 ≤ w ∧ w < 9223372036854775808) : au_lshr w 48 = w / 281474976710656 := by
  obtain ⟨a, rfl⟩ := Int.eq_ofNat_of_zero_le hw.1
  rw [nJ_shr48 (by omega)]
  omega
/-- what is packed keeps its bounds -/
theorem pkS_bd {w c : Int} (hw : 0 ≤ w ∧ w ≤ 1152921504606846976) (hc : 0 ≤ c ∧ c < 256) : 0 ≤ pkS w c ∧ pkS w c ≤ 1152921504606846976 := by
  unfold pkS
  split <;> omega
/-! packed letters and letters -/
theorem wpk_snoc (l : List Int32) (c : Int32) : wpk (l ++ [c]) = wpk l * 256 + c.toInt := by
  unfold wpk
  rw [List.foldl_append]; rfl
theorem fld_pk (T : Int → Int) : ∀ (k : Nat) (q : Int), (∀ j, q ≤ j → j < q + k → 65 ≤ T j ∧ T j ≤ 122) → 0 ≤ fld T pkS k q 0 ∧ fld T pkS k q 0 ≤ 1152921504606846976 ∧ (1 ≤ k → 1 ≤ fld T pkS k q 0) := by
  intro k
  induction k with
  | zero => intro q _; exact ⟨Int.le_refl _, by show (0 : Int) ≤ _; omega, fun h => absurd h (by decide)⟩
  | succ k ih =>
    intro q h
    obtain ⟨h1, h2, -⟩ := ih q (fun j j1 j2 => h j j1 (by omega))
    have hT := h (q + k) (by omega) (by omega)
    rw [fld_snoc]
    generalize fld T pkS k q 0 = w at h1 h2
    unfold pkS
    split
    · exact ⟨by omega, by omega, fun _ => by omega⟩
    · exact ⟨by omega, by omega, fun _ => by omega⟩
theorem wpk_bd : ∀ (m : Nat) (b : List Int32), b.length = m → (∀ c ∈ b, 0 ≤ c.toInt ∧ c.toInt < 256) → 0 ≤ wpk b ∧ wpk b < ((256 ^ m : Nat) : Int) := by
  intro m
  induction m with
  | zero =>
    intro b hb _
    rw [List.length_eq_zero_iff.mp hb]
    exact ⟨Int.le_refl _, by show (0 : Int) < _; decide⟩
  | succ m ih =>
    intro b hb hc
    rcases List.eq_nil_or_concat b with e | ⟨b', c, e⟩
    · rw [e] at hb; cases hb
    · rw [List.concat_eq_append] at e
      subst e
      rw [wpk_snoc]
      have h1 := ih b' (by simpa using hb) (fun x hx => hc x (List.mem_append_left _ hx))
      have h2 := hc c (List.mem_append_right _ List.mem_cons_self)
      have h3 : (256 : Nat) ^ (m + 1) = 256 ^ m * 256 := Nat.pow_succ 256 m
      omega
/-- packed letters are a word's if the letters are -/
theorem pk_word (T : Int → Int) : ∀ (m : Nat) (b : List Int32), b.length = m → m ≤ 7 → (∀ c ∈ b, 65 ≤ c.toInt ∧ c.toInt ≤ 122) → ∀ (k : Nat) (q : Int), (∀ j, q ≤ j → j < q + k → 65 ≤ T j ∧ T j ≤ 122) →
    (fld T pkS k q 0 = wpk b ↔ (k = m ∧ ∀ i : Nat, i < m → T (q + i) = (b.getD i 0).toInt)) := by
  intro m
  induction m with
  | zero =>
    intro b hb _ _ k q hT
    rw [List.length_eq_zero_iff.mp hb]
    show fld T pkS k q 0 = 0 ↔ _
    refine ⟨fun h => ⟨?_, fun i hi => absurd hi (by omega)⟩, fun h => ?_⟩
    · by_cases e : k = 0
      · exact e
      · have := (fld_pk T k q hT).2.2 (by omega)
        omega
    · rw [h.1]; rfl
  | succ m ih =>
    intro b hb hm hc k q hT
    rcases List.eq_nil_or_concat b with e | ⟨b', c, e⟩
    · rw [e] at hb; cases hb
    · rw [List.concat_eq_append] at e
      subst e
      have hb' : b'.length = m := by simpa using hb
      have hcc := hc c (List.mem_append_right _ List.mem_cons_self)
      have hc' : ∀ x ∈ b', 65 ≤ x.toInt ∧ x.toInt ≤ 122 := fun x hx => hc x (List.mem_append_left _ hx)
      have hbd := wpk_bd m b' hb' (fun x hx => by have := hc' x hx; omega)
      have hpw : (256 ^ m : Nat) ≤ 256 ^ 6 := Nat.pow_le_pow_right (by decide) (by omega)
      have hp6 : (256 ^ 6 : Nat) = 281474976710656 := by decide
      have hlast : ((b' ++ [c]).getD m 0).toInt = c.toInt := by
        rw [List.getD_eq_getElem?_getD, List.getElem?_append_right (by omega), hb']
        simp
      have hinit : ∀ i : Nat, i < m → ((b' ++ [c]).getD i 0) = b'.getD i 0 := fun i hi => by
        rw [List.getD_eq_getElem?_getD, List.getD_eq_getElem?_getD, List.getElem?_append_left (by omega)]
      rw [wpk_snoc]
      cases k with
      | zero =>
        refine ⟨fun h => ?_, fun h => absurd h.1 (by omega)⟩
        have h : (0 : Int) = wpk b' * 256 + c.toInt := h
        omega
      | succ k =>
        have hT' : ∀ j, q ≤ j → j < q + k → 65 ≤ T j ∧ T j ≤ 122 := fun j j1 j2 => hT j j1 (by omega)
        have hi := ih b' hb' (by omega) hc' k q hT'
        have hw := fld_pk T k q hT'
        have hTk := hT (q + k) (by omega) (by omega)
        rw [fld_snoc]
        generalize fld T pkS k q 0 = w at hi hw
        unfold pkS
        by_cases hz : w / 281474976710656 = 0
        · rw [if_pos hz]
          refine ⟨fun h => ?_, fun h => ?_⟩
          · have e1 : w = wpk b' := by omega
            have e2 : T (q + k) = c.toInt := by omega
            obtain ⟨g1, g2⟩ := hi.mp e1
            refine ⟨by omega, fun i hi2 => ?_⟩
            by_cases g : i < m
            · rw [hinit i g]; exact g2 i g
            · rw [show i = m by omega, hlast, ← g1]; exact e2
          · have e1 : w = wpk b' := hi.mpr ⟨by omega, fun i hi2 => by rw [← hinit i hi2]; exact h.2 i (by omega)⟩
            have e2 := h.2 m (by omega)
            rw [hlast, ← show k = m by omega] at e2
            omega
        · rw [if_neg hz]
          refine ⟨fun h => ?_, fun h => ?_⟩
          · omega
          · have e1 : w = wpk b' := hi.mpr ⟨by omega, fun i hi2 => by rw [← hinit i hi2]; exact h.2 i (by omega)⟩
            omega
