/-! DEPUTIES, of both systems (printed by tools/m33.py) -/
set_option maxRecDepth 100000
set_option maxHeartbeats 4000000

/-- those that o stands for: itself, its boss, those whose boss it is -/
noncomputable def nrN (B : Int → Int) (n : Nat) (o : Int) : Nat := bsN (fun i => (i : Int) = o ∨ (B (i : Int) = o ∨ B o = (i : Int))) n
/-- those that a set stands for -/
noncomputable def stN (B : Int → Int) (n : Nat) (S : Nat) : Nat := bsN (fun i => ∃ o : Nat, o < n ∧ S.testBit o = true ∧ ((i : Int) = (o : Int) ∨ (B (i : Int) = (o : Int) ∨ B (o : Int) = (i : Int)))) n
noncomputable def dpB (Q : Nat → Prop) (a : Nat) : Nat → Nat
  | 0 => a
  | j + 1 => @ite Nat (Q (a - j) ∧ pop (a - j) ≤ pop (dpB Q a j)) (Classical.propDecidable _) (a - j) (dpB Q a j)
theorem dpB_le (Q : Nat → Prop) (a : Nat) : ∀ j, dpB Q a j ≤ a := by
  intro j
  induction j with
  | zero => exact Nat.le_refl a
  | succ j ih => simp only [dpB]; split <;> omega
/-- the fewest deputies -/
noncomputable def depR (B : Int → Int) (n : Nat) : Nat := dpB (fun S => stN B n S = 2 ^ n - 1) (2 ^ n - 1) (2 ^ n)
theorem depR_eq {B : Int → Int} {n a : Nat} (h : 2 ^ n = a + 1) : depR B n = dpB (fun S => stN B n S = a) a (a + 1) := by
  unfold depR
  rw [h, Nat.add_sub_cancel]
theorem nr_step {R P : Nat → Prop} {s s' k : Nat} (h : ∀ i, s.testBit i = true ↔ R i ∨ (i < k ∧ P i)) (h' : ∀ i, s'.testBit i = true ↔ s.testBit i = true ∨ i = k) (hp : P k) (i : Nat) : s'.testBit i = true ↔ R i ∨ (i < k + 1 ∧ P i) := by
  rw [h', h]
  refine ⟨fun x => ?_, fun x => ?_⟩
  · rcases x with (x | x) | x
    · exact Or.inl x
    · exact Or.inr ⟨by omega, x.2⟩
    · subst x; exact Or.inr ⟨by omega, hp⟩
  · rcases x with x | ⟨x, y⟩
    · exact Or.inl (Or.inl x)
    · by_cases e : i = k
      · exact Or.inr e
      · exact Or.inl (Or.inr ⟨by omega, y⟩)
theorem nr_stay {R P : Nat → Prop} {s k : Nat} (h : ∀ i, s.testBit i = true ↔ R i ∨ (i < k ∧ P i)) (hp : ¬ P k) (i : Nat) : s.testBit i = true ↔ R i ∨ (i < k + 1 ∧ P i) := by
  rw [h]
  refine ⟨fun x => ?_, fun x => ?_⟩
  · rcases x with x | x
    · exact Or.inl x
    · exact Or.inr ⟨by omega, x.2⟩
  · rcases x with x | ⟨x, y⟩
    · exact Or.inl x
    · refine Or.inr ⟨?_, y⟩
      rcases Nat.lt_or_ge i k with e | e
      · exact e
      · exact absurd y (by rw [show i = k by omega]; exact hp)
theorem nr_bit {o : Nat} (ho : o < 10) : au_shl 1 (o : Int) = ((2 ^ o : Nat) : Int) ∧ 2 ^ o < 1024 ∧ ∀ i : Nat, (2 ^ o).testBit i = true ↔ (i : Int) = (o : Int) ∨ (i < 0 ∧ False) := by
  have h2 : 2 ^ o ≤ 2 ^ 9 := Nat.pow_le_pow_right (by decide) (by omega)
  refine ⟨?_, by omega, fun i => ?_⟩
  · rw [show (1 : Int) = ((1 : Nat) : Int) from rfl, au_shl_nat (by omega) (by omega), Nat.one_mul]
  · rw [Nat.testBit_two_pow, decide_eq_true_iff]; omega
theorem nr_end {B : Int → Int} {n o : Int} (h0 : 0 ≤ o) (h1 : o < n) {s : Nat} (h : ∀ i : Nat, s.testBit i = true ↔ (i : Int) = o ∨ (i < n.toNat ∧ (B (i : Int) = o ∨ B o = (i : Int)))) : s = nrN B n.toNat o := by
  refine bsN_eq (fun i => ?_)
  rw [h]
  refine ⟨fun x => ?_, fun ⟨x, y⟩ => ?_⟩
  · rcases x with x | x
    · exact ⟨by omega, Or.inl x⟩
    · exact ⟨x.1, Or.inr x.2⟩
  · rcases y with y | y
    · exact Or.inl y
    · exact Or.inr ⟨x, y⟩
theorem nrN_lt (B : Int → Int) {n : Int} (hn : n ≤ 10) (o : Int) : nrN B n.toNat o < 1024 := by
  have h1 := bsN_lt (fun i => (i : Int) = o ∨ (B (i : Int) = o ∨ B o = (i : Int))) n.toNat
  have h2 : 2 ^ n.toNat ≤ 2 ^ 10 := Nat.pow_le_pow_right (by decide) (by omega)
  unfold nrN
  omega
theorem st_step {B : Int → Int} {n k s S : Nat} (h : ∀ i, s.testBit i = true ↔ i < n ∧ ∃ o : Nat, o < k ∧ S.testBit o = true ∧ ((i : Int) = (o : Int) ∨ (B (i : Int) = (o : Int) ∨ B (o : Int) = (i : Int)))) (hp : S.testBit k = true) (i : Nat) : (s ||| nrN B n (k : Int)).testBit i = true ↔ i < n ∧ ∃ o : Nat, o < k + 1 ∧ S.testBit o = true ∧ ((i : Int) = (o : Int) ∨ (B (i : Int) = (o : Int) ∨ B (o : Int) = (i : Int))) := by
  rw [Nat.testBit_or, Bool.or_eq_true, h]
  unfold nrN
  rw [bsN_test]
  refine ⟨fun x => ?_, fun ⟨x, o, y, z, w⟩ => ?_⟩
  · rcases x with ⟨x, o, y, z⟩ | ⟨x, y⟩
    · exact ⟨x, o, by omega, z⟩
    · exact ⟨x, k, by omega, hp, y⟩
  · by_cases e : o = k
    · subst e; exact Or.inr ⟨x, w⟩
    · exact Or.inl ⟨x, o, by omega, z, w⟩
theorem st_stay {B : Int → Int} {n k s S : Nat} (h : ∀ i, s.testBit i = true ↔ i < n ∧ ∃ o : Nat, o < k ∧ S.testBit o = true ∧ ((i : Int) = (o : Int) ∨ (B (i : Int) = (o : Int) ∨ B (o : Int) = (i : Int)))) (hp : ¬ S.testBit k = true) (i : Nat) : s.testBit i = true ↔ i < n ∧ ∃ o : Nat, o < k + 1 ∧ S.testBit o = true ∧ ((i : Int) = (o : Int) ∨ (B (i : Int) = (o : Int) ∨ B (o : Int) = (i : Int))) := by
  rw [h]
  refine ⟨fun ⟨x, o, y, z⟩ => ⟨x, o, by omega, z⟩, fun ⟨x, o, y, z, w⟩ => ?_⟩
  by_cases e : o = k
  · subst e; exact absurd z hp
  · exact ⟨x, o, by omega, z, w⟩
theorem st_end {B : Int → Int} {n s S : Nat} (h : ∀ i, s.testBit i = true ↔ i < n ∧ ∃ o : Nat, o < n ∧ S.testBit o = true ∧ ((i : Int) = (o : Int) ∨ (B (i : Int) = (o : Int) ∨ B (o : Int) = (i : Int)))) : s = stN B n S := bsN_eq h
/-- what standFor has gathered -/
def sfI (B : Int → Int) (S k : Nat) (i : Nat) : Prop := S.testBit i = true ∨ ∃ p : Nat, 1 ≤ p ∧ p < k ∧ ((S.testBit p = true ∧ B (p : Int) = (i : Int)) ∨ (S.testBit (B (p : Int)).toNat = true ∧ i = p))
theorem sf_step {B : Int → Int} {S k s s' : Nat} (h0 : 1 ≤ k) (hb : 0 ≤ B (k : Int)) (h : ∀ i, s.testBit i = true ↔ sfI B S k i) (h' : ∀ i, s'.testBit i = true ↔ (s.testBit i = true ∨ (S.testBit k = true ∧ i = (B (k : Int)).toNat)) ∨ (S.testBit (B (k : Int)).toNat = true ∧ i = k)) (i : Nat) : s'.testBit i = true ↔ sfI B S (k + 1) i := by
  rw [h', h]
  unfold sfI
  refine ⟨fun x => ?_, fun x => ?_⟩
  · rcases x with ((x | ⟨p, p0, p1, x⟩) | ⟨x, y⟩) | ⟨x, y⟩
    · exact Or.inl x
    · exact Or.inr ⟨p, p0, by omega, x⟩
    · exact Or.inr ⟨k, h0, by omega, Or.inl ⟨x, by omega⟩⟩
    · exact Or.inr ⟨k, h0, by omega, Or.inr ⟨x, y⟩⟩
  · rcases x with x | ⟨p, p0, p1, x⟩
    · exact Or.inl (Or.inl (Or.inl x))
    · by_cases e : p = k
      · subst e
        rcases x with ⟨x, y⟩ | ⟨x, y⟩
        · exact Or.inl (Or.inr ⟨x, by omega⟩)
        · exact Or.inr ⟨x, y⟩
      · exact Or.inl (Or.inl (Or.inr ⟨p, p0, by omega, x⟩))
theorem sf_end {B : Int → Int} {n : Int} (hB : Bs B n) {S s k : Nat} (hS : S < 2 ^ n.toNat) (hk : n ≤ (k : Int)) (hk1 : k = 1 ∨ (k : Int) ≤ n) (h : ∀ i, s.testBit i = true ↔ sfI B S k i) : s = stN B n.toNat S := by
  have hlt : ∀ i, S.testBit i = true → i < n.toNat := fun i hi => by
    rcases Nat.lt_or_ge i n.toNat with e | e
    · exact e
    · rw [Nat.testBit_lt_two_pow (Nat.lt_of_lt_of_le hS (Nat.pow_le_pow_right (by decide) e))] at hi; exact absurd hi (by decide)
  refine bsN_eq (fun i => ?_)
  rw [h]
  unfold sfI
  refine ⟨fun x => ?_, fun ⟨x, o, y, z, w⟩ => ?_⟩
  · rcases x with x | ⟨p, p0, p1, ⟨x, y⟩ | ⟨x, y⟩⟩
    · exact ⟨hlt i x, i, hlt i x, x, Or.inl rfl⟩
    · have h3 := hlt p x
      have h4 := hB.2.2 (p : Int) (by omega) (by omega)
      exact ⟨by omega, p, h3, x, Or.inr (Or.inr y)⟩
    · have h4 := hB.2.2 (p : Int) (by omega) (by omega)
      have h5 := h4.2.2 (by omega)
      have h6 := hlt _ x
      subst y
      exact ⟨by omega, (B (i : Int)).toNat, h6, x, Or.inr (Or.inl (by omega))⟩
  · rcases w with w | w | w
    · rw [show i = o by omega]; exact Or.inl z
    · have h4 := hB.2.2 (i : Int) (by omega) (by omega)
      exact Or.inr ⟨i, by omega, by omega, Or.inr ⟨by rw [w]; exact z, rfl⟩⟩
    · have h4 := hB.2.2 (o : Int) (by omega) (by omega)
      exact Or.inr ⟨o, by omega, by omega, Or.inl ⟨z, w⟩⟩
theorem sf_one {s S : Nat} {t : Int} {k : Nat} (ht : t = (k : Int)) (hk : k < 10) (hs : s < 1024) : ∃ s' : Nat, au_or (s : Int) (au_shl 1 t) = (s' : Int) ∧ s' < 1024 ∧ ∀ i, s'.testBit i = true ↔ s.testBit i = true ∨ i = k := by
  subst ht
  have h := bit_step hs hk
  exact ⟨s ||| 2 ^ k, h⟩

theorem kX0_near (G : au_G) (o : Int) (mi si hi sl : au_A → Int → Int) (r : au_A → Int → Option au_A) (nx : Nat) (hF : Fix r) (n : Int) (hN : mi XNn 0 = n) (B : Int → Int) (hE : ∀ o, 0 ≤ o → o < 10 → mi XNboss o = B o) (hB : Bs B n) (h0 : 0 ≤ o) (h1 : o < n) : au_Ctr G yX0_near cX0_near 4 (some .int) 0 0 0 [au_r XO, au_i o] (mi, si, hi, sl, r, nx) (au_pure (au_i ((nrN B n.toNat o : Nat) : Int)) (mi, si, hi, sl, r, nx)) := by
  refine au_of (by decide) (Nat.le_of_ble_eq_true rfl) ?_
  have hb0 := hB.2.1
  have hb1 := hB.1
  show au_Go G _ _ 0 [some (au_r XO), some (au_i o), none, none] [] (mi, si, hi, sl, r, nx) 0 0
  refine au_iconst dX0_near_0 rfl rfl ?_
  refine au_iload_n dX0_near_1 rfl ?_
  refine au_ishl dX0_near_2 ?_
  refine au_istore_n dX0_near_3 (show 2 < 4 by decide) ?_
  show au_Go G _ _ 4 [some (au_r XO), some (au_i o), some (au_i (au_shl 1 o)), none] [] (mi, si, hi, sl, r, nx) 0 0
  refine au_iconst dX0_near_4 rfl rfl ?_
  refine au_istore_n dX0_near_5 (show 3 < 4 by decide) ?_
  show au_Go G _ _ 6 [some (au_r XO), some (au_i o), some (au_i (au_shl 1 o)), some (au_i 0)] [] (mi, si, hi, sl, r, nx) 0 0
  obtain ⟨hz1, hz2, hz3⟩ := nr_bit (o := o.toNat) (by omega)
  rw [show ((o.toNat : Nat) : Int) = o by omega] at hz1 hz3
  rw [hz1]
  have hl : ∀ (f : Nat) (k : Nat) (s : Nat), ((k : Int) ≤ n) → (s < 1024) → (∀ i : Nat, s.testBit i = true ↔ (i : Int) = o ∨ (i < k ∧ (B (i : Int) = o ∨ B o = (i : Int)))) → (n - (k : Int)) < (f : Int) → au_Go G (yX0_near.cls, cX0_near, 4, (some .int), au_rm 0 0 0, yX0_near.name) (au_QM G (au_rm 0 0 0) (au_pure (au_i ((nrN B n.toNat o : Nat) : Int)) (mi, si, hi, sl, r, nx))) 6 [some (au_r XO), some (au_i o), some (au_i (s : Int)), some (au_i (k : Int))] [] (mi, si, hi, sl, r, nx) 0 0 := by
    intro f
    induction f with
    | zero => intro k s hk hsl hti hf; exfalso; omega
    | succ f ih =>
      intro k s hk hsl hti hf
      refine au_iload_n dX0_near_6 rfl ?_
      refine au_aload_n dX0_near_7 rfl ?_
      refine au_getf (C := RX0) (T := TX0) (N := 15) in_X0 (by decide) rfl 0 (by decide) rfl rfl q245 rfl dX0_near_8 (v := au_r XN) (congrArg au_q (fx_XO_0 hF)) ?_
      refine au_getN (C := RX1) (T := TX1) (N := 11) in_X1 (by decide) rfl 0 (by decide) rfl rfl q187 rfl dX0_near_11 (v := au_r XNn) (congrArg au_q (fx_XN_0 hF)) ?_
      refine au_iconst dX0_near_14 rfl rfl ?_
      refine au_iald dX0_near_15 rfl (by omega) (by show _ < ((6 : Nat) : Int); omega) (v := au_i (n)) (congrArg au_i (hN)) ?_
      refine au_icmp_ge (tgt := 61) dX0_near_16 (by decide) (fun c16 => ?_) (fun c16 => ?_)
      · refine au_iload_n dX0_near_61 rfl ?_
        exact au_iret dX0_near_62 rfl rfl (Nat.le_of_ble_eq_true rfl) (Nat.le_of_ble_eq_true rfl) (au_pe (by rw [nr_end h0 h1 (s := s) (by rw [show n.toNat = k by omega]; exact hti)]) rfl)
      · refine au_iload_n dX0_near_19 rfl ?_
        refine au_aload_n dX0_near_20 rfl ?_
        refine au_getf (C := RX0) (T := TX0) (N := 15) in_X0 (by decide) rfl 0 (by decide) rfl rfl q245 rfl dX0_near_21 (v := au_r XN) (congrArg au_q (fx_XO_0 hF)) ?_
        refine au_getN (C := RX1) (T := TX1) (N := 11) in_X1 (by decide) rfl 2 (by decide) rfl rfl q191 rfl dX0_near_24 (v := au_r XNboss) (congrArg au_q (fx_XN_2 hF)) ?_
        refine au_iload_n dX0_near_27 rfl ?_
        refine au_iald dX0_near_28 rfl (by omega) (by show _ < ((10 : Nat) : Int); omega) (v := au_i (B (k : Int))) (congrArg au_i (hE _ (by omega) (by omega))) ?_
        refine au_iload_n dX0_near_29 rfl ?_
        refine au_icmp_eq (tgt := 46) dX0_near_30 (by decide) (fun c30 => ?_) (fun c30 => ?_)
        · refine au_iconst dX0_near_46 rfl rfl ?_
          refine au_iload_n dX0_near_47 rfl ?_
          refine au_ishl dX0_near_48 ?_
          refine au_goto (tgt := 53) dX0_near_49 (by decide) ?_
          refine au_ior dX0_near_53 ?_
          refine au_istore_n dX0_near_54 (show 2 < 4 by decide) ?_
          show au_Go G _ _ 55 [some (au_r XO), some (au_i o), some (au_i (au_or (s : Int) (au_shl 1 (k : Int)))), some (au_i (k : Int))] [] (mi, si, hi, sl, r, nx) 0 0
          refine au_iinc dX0_near_55 rfl (show 3 < 4 by decide) (by omega) (by omega) (by decide) (by decide) ?_
          show au_Go G _ _ 58 [some (au_r XO), some (au_i o), some (au_i (au_or (s : Int) (au_shl 1 (k : Int)))), some (au_i ((k : Int) + 1))] [] (mi, si, hi, sl, r, nx) 0 0
          refine au_goto (tgt := 6) dX0_near_58 (by decide) ?_
          first
          | (have hb := bit_step hsl (show k < 10 by omega)
             rw [hb.1]
             first
             | exact ih (k + 1) _ (by omega) hb.2.1 (nr_step hti hb.2.2 (Or.inl c30)) (by omega)
             | exact ih (k + 1) _ (by omega) hb.2.1 (nr_step hti hb.2.2 (Or.inr c43)) (by omega))
          | (rw [au_or_0 (by omega)]
             exact ih (k + 1) s (by omega) hsl (nr_stay hti (fun z => z.elim c30 c43)) (by omega))
        · refine au_aload_n dX0_near_33 rfl ?_
          refine au_getf (C := RX0) (T := TX0) (N := 15) in_X0 (by decide) rfl 0 (by decide) rfl rfl q245 rfl dX0_near_34 (v := au_r XN) (congrArg au_q (fx_XO_0 hF)) ?_
          refine au_getN (C := RX1) (T := TX1) (N := 11) in_X1 (by decide) rfl 2 (by decide) rfl rfl q191 rfl dX0_near_37 (v := au_r XNboss) (congrArg au_q (fx_XN_2 hF)) ?_
          refine au_iload_n dX0_near_40 rfl ?_
          refine au_iald dX0_near_41 rfl (by omega) (by show _ < ((10 : Nat) : Int); omega) (v := au_i (B o)) (congrArg au_i (hE _ (by omega) (by omega))) ?_
          refine au_iload_n dX0_near_42 rfl ?_
          refine au_icmp_ne (tgt := 52) dX0_near_43 (by decide) (fun c43 => ?_) (fun c43 => ?_)
          · refine au_iconst dX0_near_52 rfl rfl ?_
            refine au_ior dX0_near_53 ?_
            refine au_istore_n dX0_near_54 (show 2 < 4 by decide) ?_
            show au_Go G _ _ 55 [some (au_r XO), some (au_i o), some (au_i (au_or (s : Int) 0)), some (au_i (k : Int))] [] (mi, si, hi, sl, r, nx) 0 0
            refine au_iinc dX0_near_55 rfl (show 3 < 4 by decide) (by omega) (by omega) (by decide) (by decide) ?_
            show au_Go G _ _ 58 [some (au_r XO), some (au_i o), some (au_i (au_or (s : Int) 0)), some (au_i ((k : Int) + 1))] [] (mi, si, hi, sl, r, nx) 0 0
            refine au_goto (tgt := 6) dX0_near_58 (by decide) ?_
            first
            | (have hb := bit_step hsl (show k < 10 by omega)
               rw [hb.1]
               first
               | exact ih (k + 1) _ (by omega) hb.2.1 (nr_step hti hb.2.2 (Or.inl c30)) (by omega)
               | exact ih (k + 1) _ (by omega) hb.2.1 (nr_step hti hb.2.2 (Or.inr c43)) (by omega))
            | (rw [au_or_0 (by omega)]
               exact ih (k + 1) s (by omega) hsl (nr_stay hti (fun z => z.elim c30 c43)) (by omega))
          · refine au_iconst dX0_near_46 rfl rfl ?_
            refine au_iload_n dX0_near_47 rfl ?_
            refine au_ishl dX0_near_48 ?_
            refine au_goto (tgt := 53) dX0_near_49 (by decide) ?_
            refine au_ior dX0_near_53 ?_
            refine au_istore_n dX0_near_54 (show 2 < 4 by decide) ?_
            show au_Go G _ _ 55 [some (au_r XO), some (au_i o), some (au_i (au_or (s : Int) (au_shl 1 (k : Int)))), some (au_i (k : Int))] [] (mi, si, hi, sl, r, nx) 0 0
            refine au_iinc dX0_near_55 rfl (show 3 < 4 by decide) (by omega) (by omega) (by decide) (by decide) ?_
            show au_Go G _ _ 58 [some (au_r XO), some (au_i o), some (au_i (au_or (s : Int) (au_shl 1 (k : Int)))), some (au_i ((k : Int) + 1))] [] (mi, si, hi, sl, r, nx) 0 0
            refine au_goto (tgt := 6) dX0_near_58 (by decide) ?_
            first
            | (have hb := bit_step hsl (show k < 10 by omega)
               rw [hb.1]
               first
               | exact ih (k + 1) _ (by omega) hb.2.1 (nr_step hti hb.2.2 (Or.inl c30)) (by omega)
               | exact ih (k + 1) _ (by omega) hb.2.1 (nr_step hti hb.2.2 (Or.inr c43)) (by omega))
            | (rw [au_or_0 (by omega)]
               exact ih (k + 1) s (by omega) hsl (nr_stay hti (fun z => z.elim c30 c43)) (by omega))
  exact hl 11 0 _ (by omega) hz2 (fun i => by rw [hz3 i]; omega) (by omega)
theorem kX2_standFor (G : au_G) (S : Nat) (mi si hi sl : au_A → Int → Int) (r : au_A → Int → Option au_A) (nx : Nat) (hF : Fix r) (n : Int) (hN : mi MA 0 = n) (B : Int → Int) (hE : ∀ o, 0 ≤ o → o < 10 → mi MA (90 + o) = B o) (hB : Bs B n) (hS : S < 2 ^ n.toNat) : au_Ctr G yX2_standFor cX2_standFor 4 (some .int) 1 0 0 [au_r MO, au_i (S : Int)] (mi, si, hi, sl, r, nx) (au_pure (au_i ((stN B n.toNat S : Nat) : Int)) (mi, si, hi, sl, r, nx)) := by
  refine au_of (by decide) (Nat.le_of_ble_eq_true rfl) ?_
  have hb0 := hB.2.1
  have hb1 := hB.1
  have h2 : 2 ^ n.toNat ≤ 2 ^ 10 := Nat.pow_le_pow_right (by decide) (by omega)
  show au_Go G _ _ 0 [some (au_r MO), some (au_i (S : Int)), none, none] [] (mi, si, hi, sl, r, nx) 0 0
  refine au_iload_n dX2_standFor_0 rfl ?_
  refine au_istore_n dX2_standFor_1 (show 2 < 4 by decide) ?_
  show au_Go G _ _ 2 [some (au_r MO), some (au_i (S : Int)), some (au_i (S : Int)), none] [] (mi, si, hi, sl, r, nx) 0 0
  refine au_iconst dX2_standFor_2 rfl rfl ?_
  refine au_istore_n dX2_standFor_3 (show 3 < 4 by decide) ?_
  show au_Go G _ _ 4 [some (au_r MO), some (au_i (S : Int)), some (au_i (S : Int)), some (au_i 1)] [] (mi, si, hi, sl, r, nx) 0 0
  have hl : ∀ (f : Nat) (k : Nat) (s : Nat), (1 ≤ k) → (k = 1 ∨ (k : Int) ≤ n) → (s < 1024) → (∀ i : Nat, s.testBit i = true ↔ sfI B S k i) → (max (n - (k : Int)) 0) < (f : Int) → au_Go G (yX2_standFor.cls, cX2_standFor, 4, (some .int), au_rm 1 0 0, yX2_standFor.name) (au_QM G (au_rm 1 0 0) (au_pure (au_i ((stN B n.toNat S : Nat) : Int)) (mi, si, hi, sl, r, nx))) 4 [some (au_r MO), some (au_i (S : Int)), some (au_i (s : Int)), some (au_i (k : Int))] [] (mi, si, hi, sl, r, nx) 0 0 := by
    intro f
    induction f with
    | zero => intro k s h0 hk hsl hti hf; exfalso; omega
    | succ f ih =>
      intro k s h0 hk hsl hti hf
      refine au_iload_n dX2_standFor_4 rfl ?_
      refine au_aload_n dX2_standFor_5 rfl ?_
      refine au_getf (C := RX2) (T := TX2) (N := 35) in_X2 (by decide) rfl 0 (by decide) rfl rfl q1359 rfl dX2_standFor_6 (v := au_r MA) (congrArg au_q (fx_MO_0 hF)) ?_
      refine au_iconst dX2_standFor_9 rfl rfl ?_
      refine au_iald dX2_standFor_10 rfl (by omega) (by show _ < ((4544 : Nat) : Int); omega) (v := au_i (n)) (congrArg au_i (hN)) ?_
      refine au_icmp_ge (tgt := 64) dX2_standFor_11 (by decide) (fun c11 => ?_) (fun c11 => ?_)
      · refine au_iload_n dX2_standFor_64 rfl ?_
        exact au_iret dX2_standFor_65 rfl rfl (Nat.le_of_ble_eq_true rfl) (Nat.le_of_ble_eq_true rfl) (au_pe (by rw [sf_end hB hS (by omega) hk hti]) rfl)
      · have hbk := hB.2.2 (k : Int) (by omega) (by omega)
        have hbk1 := hbk.2.2 (by omega)
        have hq1 : hs (S : Int) (k : Int) ↔ S.testBit k = true := au_has_nat (by omega) (by omega)
        have hq2 : hs (S : Int) (B (k : Int)) ↔ S.testBit (B (k : Int)).toNat = true := au_has_int hbk1 (by omega) (by omega)
        refine au_iload_n dX2_standFor_14 rfl ?_
        refine au_iload_n dX2_standFor_15 rfl ?_
        refine au_callSp (n := 2) (kX2_has G (S : Int) (k : Int) (mi, si, hi, sl, r, nx)) (lw_S q1482 q1483 q134 q1484) (by decide +kernel) rfl rfl rfl (Nat.le_of_ble_eq_true rfl) (Nat.le_of_ble_eq_true rfl) (Nat.le_of_ble_eq_true rfl) (Nat.le_of_ble_eq_true rfl) (Nat.le_of_ble_eq_true rfl) dX2_standFor_16 ?_
        refine au_if_eq (tgt := 36) dX2_standFor_19 (by decide) (fun c19 => ?_) (fun c19 => ?_)
        · have c19 := au_b0 c19
          refine au_iload_n dX2_standFor_36 rfl ?_
          refine au_aload_n dX2_standFor_37 rfl ?_
          refine au_getf (C := RX2) (T := TX2) (N := 35) in_X2 (by decide) rfl 0 (by decide) rfl rfl q1359 rfl dX2_standFor_38 (v := au_r MA) (congrArg au_q (fx_MO_0 hF)) ?_
          refine au_bipush dX2_standFor_41 rfl rfl ?_
          refine au_iload_n dX2_standFor_43 rfl ?_
          refine au_iadd dX2_standFor_44 (by omega) (by omega) ?_
          refine au_iald dX2_standFor_45 rfl (by omega) (by show _ < ((4544 : Nat) : Int); omega) (v := au_i (B (k : Int))) (congrArg au_i (hE _ (by omega) (by omega))) ?_
          refine au_callSp (n := 2) (kX2_has G (S : Int) (B (k : Int)) (mi, si, hi, sl, r, nx)) (lw_S q1482 q1483 q134 q1484) (by decide +kernel) rfl rfl rfl (Nat.le_of_ble_eq_true rfl) (Nat.le_of_ble_eq_true rfl) (Nat.le_of_ble_eq_true rfl) (Nat.le_of_ble_eq_true rfl) (Nat.le_of_ble_eq_true rfl) dX2_standFor_46 ?_
          refine au_if_eq (tgt := 58) dX2_standFor_49 (by decide) (fun c49 => ?_) (fun c49 => ?_)
          · have c49 := au_b0 c49
            refine au_iinc dX2_standFor_58 rfl (show 3 < 4 by decide) (by omega) (by omega) (by decide) (by decide) ?_
            show au_Go G _ _ 61 [some (au_r MO), some (au_i (S : Int)), some (au_i (s : Int)), some (au_i ((k : Int) + 1))] [] (mi, si, hi, sl, r, nx) 0 0
            refine au_goto (tgt := 4) dX2_standFor_61 (by decide) ?_
            first
            | (obtain ⟨s1, e1, e2, e3⟩ := sf_one (t := B (k : Int)) (S := S) (k := (B (k : Int)).toNat) (by omega) (by omega) hsl
               rw [e1]
               first
               | (obtain ⟨s2, f1, f2, f3⟩ := sf_one (t := (k : Int)) (S := S) rfl (show k < 10 by omega) e2
                  rw [f1]
                  exact ih (k + 1) s2 (by omega) (by omega) f2 (sf_step h0 hbk1 hti (fun i => by rw [f3, e3]; simp only [hq1.mp c19, hq2.mp c49, true_and])) (by omega))
               | exact ih (k + 1) s1 (by omega) (by omega) e2 (sf_step h0 hbk1 hti (fun i => by rw [e3]; simp only [hq1.mp c19, true_and]; exact ⟨fun z => Or.inl z, fun z => z.elim id (fun y => absurd (hq2.mpr y.1) c49)⟩)) (by omega))
            | (obtain ⟨s2, f1, f2, f3⟩ := sf_one (t := (k : Int)) (S := S) rfl (show k < 10 by omega) hsl
               rw [f1]
               exact ih (k + 1) s2 (by omega) (by omega) f2 (sf_step h0 hbk1 hti (fun i => by rw [f3]; simp only [hq2.mp c49, true_and]; exact ⟨fun z => z.elim (fun y => Or.inl (Or.inl y)) Or.inr, fun z => z.elim (fun y => y.elim Or.inl (fun w => absurd (hq1.mpr w.1) c19)) Or.inr⟩)) (by omega))
            | exact ih (k + 1) s (by omega) (by omega) hsl (sf_step h0 hbk1 hti (fun i => ⟨fun z => Or.inl (Or.inl z), fun z => z.elim (fun y => y.elim id (fun w => absurd (hq1.mpr w.1) c19)) (fun w => absurd (hq2.mpr w.1) c49)⟩)) (by omega)
          · have c49 := au_b1 c49
            refine au_iload_n dX2_standFor_52 rfl ?_
            refine au_iconst dX2_standFor_53 rfl rfl ?_
            refine au_iload_n dX2_standFor_54 rfl ?_
            refine au_ishl dX2_standFor_55 ?_
            refine au_ior dX2_standFor_56 ?_
            refine au_istore_n dX2_standFor_57 (show 2 < 4 by decide) ?_
            show au_Go G _ _ 58 [some (au_r MO), some (au_i (S : Int)), some (au_i (au_or (s : Int) (au_shl 1 (k : Int)))), some (au_i (k : Int))] [] (mi, si, hi, sl, r, nx) 0 0
            refine au_iinc dX2_standFor_58 rfl (show 3 < 4 by decide) (by omega) (by omega) (by decide) (by decide) ?_
            show au_Go G _ _ 61 [some (au_r MO), some (au_i (S : Int)), some (au_i (au_or (s : Int) (au_shl 1 (k : Int)))), some (au_i ((k : Int) + 1))] [] (mi, si, hi, sl, r, nx) 0 0
            refine au_goto (tgt := 4) dX2_standFor_61 (by decide) ?_
            first
            | (obtain ⟨s1, e1, e2, e3⟩ := sf_one (t := B (k : Int)) (S := S) (k := (B (k : Int)).toNat) (by omega) (by omega) hsl
               rw [e1]
               first
               | (obtain ⟨s2, f1, f2, f3⟩ := sf_one (t := (k : Int)) (S := S) rfl (show k < 10 by omega) e2
                  rw [f1]
                  exact ih (k + 1) s2 (by omega) (by omega) f2 (sf_step h0 hbk1 hti (fun i => by rw [f3, e3]; simp only [hq1.mp c19, hq2.mp c49, true_and])) (by omega))
               | exact ih (k + 1) s1 (by omega) (by omega) e2 (sf_step h0 hbk1 hti (fun i => by rw [e3]; simp only [hq1.mp c19, true_and]; exact ⟨fun z => Or.inl z, fun z => z.elim id (fun y => absurd (hq2.mpr y.1) c49)⟩)) (by omega))
            | (obtain ⟨s2, f1, f2, f3⟩ := sf_one (t := (k : Int)) (S := S) rfl (show k < 10 by omega) hsl
               rw [f1]
               exact ih (k + 1) s2 (by omega) (by omega) f2 (sf_step h0 hbk1 hti (fun i => by rw [f3]; simp only [hq2.mp c49, true_and]; exact ⟨fun z => z.elim (fun y => Or.inl (Or.inl y)) Or.inr, fun z => z.elim (fun y => y.elim Or.inl (fun w => absurd (hq1.mpr w.1) c19)) Or.inr⟩)) (by omega))
            | exact ih (k + 1) s (by omega) (by omega) hsl (sf_step h0 hbk1 hti (fun i => ⟨fun z => Or.inl (Or.inl z), fun z => z.elim (fun y => y.elim id (fun w => absurd (hq1.mpr w.1) c19)) (fun w => absurd (hq2.mpr w.1) c49)⟩)) (by omega)
        · have c19 := au_b1 c19
          refine au_iload_n dX2_standFor_22 rfl ?_
          refine au_iconst dX2_standFor_23 rfl rfl ?_
          refine au_aload_n dX2_standFor_24 rfl ?_
          refine au_getf (C := RX2) (T := TX2) (N := 35) in_X2 (by decide) rfl 0 (by decide) rfl rfl q1359 rfl dX2_standFor_25 (v := au_r MA) (congrArg au_q (fx_MO_0 hF)) ?_
          refine au_bipush dX2_standFor_28 rfl rfl ?_
          refine au_iload_n dX2_standFor_30 rfl ?_
          refine au_iadd dX2_standFor_31 (by omega) (by omega) ?_
          refine au_iald dX2_standFor_32 rfl (by omega) (by show _ < ((4544 : Nat) : Int); omega) (v := au_i (B (k : Int))) (congrArg au_i (hE _ (by omega) (by omega))) ?_
          refine au_ishl dX2_standFor_33 ?_
          refine au_ior dX2_standFor_34 ?_
          refine au_istore_n dX2_standFor_35 (show 2 < 4 by decide) ?_
          show au_Go G _ _ 36 [some (au_r MO), some (au_i (S : Int)), some (au_i (au_or (s : Int) (au_shl 1 (B (k : Int))))), some (au_i (k : Int))] [] (mi, si, hi, sl, r, nx) 0 0
          refine au_iload_n dX2_standFor_36 rfl ?_
          refine au_aload_n dX2_standFor_37 rfl ?_
          refine au_getf (C := RX2) (T := TX2) (N := 35) in_X2 (by decide) rfl 0 (by decide) rfl rfl q1359 rfl dX2_standFor_38 (v := au_r MA) (congrArg au_q (fx_MO_0 hF)) ?_
          refine au_bipush dX2_standFor_41 rfl rfl ?_
          refine au_iload_n dX2_standFor_43 rfl ?_
          refine au_iadd dX2_standFor_44 (by omega) (by omega) ?_
          refine au_iald dX2_standFor_45 rfl (by omega) (by show _ < ((4544 : Nat) : Int); omega) (v := au_i (B (k : Int))) (congrArg au_i (hE _ (by omega) (by omega))) ?_
          refine au_callSp (n := 2) (kX2_has G (S : Int) (B (k : Int)) (mi, si, hi, sl, r, nx)) (lw_S q1482 q1483 q134 q1484) (by decide +kernel) rfl rfl rfl (Nat.le_of_ble_eq_true rfl) (Nat.le_of_ble_eq_true rfl) (Nat.le_of_ble_eq_true rfl) (Nat.le_of_ble_eq_true rfl) (Nat.le_of_ble_eq_true rfl) dX2_standFor_46 ?_
          refine au_if_eq (tgt := 58) dX2_standFor_49 (by decide) (fun c49 => ?_) (fun c49 => ?_)
          · have c49 := au_b0 c49
            refine au_iinc dX2_standFor_58 rfl (show 3 < 4 by decide) (by omega) (by omega) (by decide) (by decide) ?_
            show au_Go G _ _ 61 [some (au_r MO), some (au_i (S : Int)), some (au_i (au_or (s : Int) (au_shl 1 (B (k : Int))))), some (au_i ((k : Int) + 1))] [] (mi, si, hi, sl, r, nx) 0 0
            refine au_goto (tgt := 4) dX2_standFor_61 (by decide) ?_
            first
            | (obtain ⟨s1, e1, e2, e3⟩ := sf_one (t := B (k : Int)) (S := S) (k := (B (k : Int)).toNat) (by omega) (by omega) hsl
               rw [e1]
               first
               | (obtain ⟨s2, f1, f2, f3⟩ := sf_one (t := (k : Int)) (S := S) rfl (show k < 10 by omega) e2
                  rw [f1]
                  exact ih (k + 1) s2 (by omega) (by omega) f2 (sf_step h0 hbk1 hti (fun i => by rw [f3, e3]; simp only [hq1.mp c19, hq2.mp c49, true_and])) (by omega))
               | exact ih (k + 1) s1 (by omega) (by omega) e2 (sf_step h0 hbk1 hti (fun i => by rw [e3]; simp only [hq1.mp c19, true_and]; exact ⟨fun z => Or.inl z, fun z => z.elim id (fun y => absurd (hq2.mpr y.1) c49)⟩)) (by omega))
            | (obtain ⟨s2, f1, f2, f3⟩ := sf_one (t := (k : Int)) (S := S) rfl (show k < 10 by omega) hsl
               rw [f1]
               exact ih (k + 1) s2 (by omega) (by omega) f2 (sf_step h0 hbk1 hti (fun i => by rw [f3]; simp only [hq2.mp c49, true_and]; exact ⟨fun z => z.elim (fun y => Or.inl (Or.inl y)) Or.inr, fun z => z.elim (fun y => y.elim Or.inl (fun w => absurd (hq1.mpr w.1) c19)) Or.inr⟩)) (by omega))
            | exact ih (k + 1) s (by omega) (by omega) hsl (sf_step h0 hbk1 hti (fun i => ⟨fun z => Or.inl (Or.inl z), fun z => z.elim (fun y => y.elim id (fun w => absurd (hq1.mpr w.1) c19)) (fun w => absurd (hq2.mpr w.1) c49)⟩)) (by omega)
          · have c49 := au_b1 c49
            refine au_iload_n dX2_standFor_52 rfl ?_
            refine au_iconst dX2_standFor_53 rfl rfl ?_
            refine au_iload_n dX2_standFor_54 rfl ?_
            refine au_ishl dX2_standFor_55 ?_
            refine au_ior dX2_standFor_56 ?_
            refine au_istore_n dX2_standFor_57 (show 2 < 4 by decide) ?_
            show au_Go G _ _ 58 [some (au_r MO), some (au_i (S : Int)), some (au_i (au_or (au_or (s : Int) (au_shl 1 (B (k : Int)))) (au_shl 1 (k : Int)))), some (au_i (k : Int))] [] (mi, si, hi, sl, r, nx) 0 0
            refine au_iinc dX2_standFor_58 rfl (show 3 < 4 by decide) (by omega) (by omega) (by decide) (by decide) ?_
            show au_Go G _ _ 61 [some (au_r MO), some (au_i (S : Int)), some (au_i (au_or (au_or (s : Int) (au_shl 1 (B (k : Int)))) (au_shl 1 (k : Int)))), some (au_i ((k : Int) + 1))] [] (mi, si, hi, sl, r, nx) 0 0
            refine au_goto (tgt := 4) dX2_standFor_61 (by decide) ?_
            first
            | (obtain ⟨s1, e1, e2, e3⟩ := sf_one (t := B (k : Int)) (S := S) (k := (B (k : Int)).toNat) (by omega) (by omega) hsl
               rw [e1]
               first
               | (obtain ⟨s2, f1, f2, f3⟩ := sf_one (t := (k : Int)) (S := S) rfl (show k < 10 by omega) e2
                  rw [f1]
                  exact ih (k + 1) s2 (by omega) (by omega) f2 (sf_step h0 hbk1 hti (fun i => by rw [f3, e3]; simp only [hq1.mp c19, hq2.mp c49, true_and])) (by omega))
               | exact ih (k + 1) s1 (by omega) (by omega) e2 (sf_step h0 hbk1 hti (fun i => by rw [e3]; simp only [hq1.mp c19, true_and]; exact ⟨fun z => Or.inl z, fun z => z.elim id (fun y => absurd (hq2.mpr y.1) c49)⟩)) (by omega))
            | (obtain ⟨s2, f1, f2, f3⟩ := sf_one (t := (k : Int)) (S := S) rfl (show k < 10 by omega) hsl
               rw [f1]
               exact ih (k + 1) s2 (by omega) (by omega) f2 (sf_step h0 hbk1 hti (fun i => by rw [f3]; simp only [hq2.mp c49, true_and]; exact ⟨fun z => z.elim (fun y => Or.inl (Or.inl y)) Or.inr, fun z => z.elim (fun y => y.elim Or.inl (fun w => absurd (hq1.mpr w.1) c19)) Or.inr⟩)) (by omega))
            | exact ih (k + 1) s (by omega) (by omega) hsl (sf_step h0 hbk1 hti (fun i => ⟨fun z => Or.inl (Or.inl z), fun z => z.elim (fun y => y.elim id (fun w => absurd (hq1.mpr w.1) c19)) (fun w => absurd (hq2.mpr w.1) c49)⟩)) (by omega)
  exact hl 11 1 S (by omega) (by omega) (by omega) (fun i => by unfold sfI; exact ⟨Or.inl, fun z => z.elim id (fun ⟨p, p0, p1, _⟩ => by omega)⟩) (by omega)
theorem kX0_deputies (G : au_G) (mi si hi sl : au_A → Int → Int) (r : au_A → Int → Option au_A) (nx : Nat) (hF : Fix r) (n : Int) (hN : mi XNn 0 = n) (B : Int → Int) (hE : ∀ o, 0 ≤ o → o < 10 → mi XNboss o = B o) (hB : Bs B n) : au_Ctr G yX0_deputies cX0_deputies 6 (some .int) 2 0 0 [au_r XO] (mi, si, hi, sl, r, nx) (au_pure (au_i ((depR B n.toNat : Nat) : Int)) (mi, si, hi, sl, r, nx)) := by
  refine au_of (by decide) (Nat.le_of_ble_eq_true rfl) ?_
  have hb0 := hB.2.1
  have hb1 := hB.1
  obtain ⟨N, hN2, hN0, hN1, hNe⟩ := au_shl_int hb1 hb0
  obtain ⟨a, rfl⟩ : ∃ a, N = a + 1 := ⟨N - 1, by omega⟩
  show au_Go G _ _ 0 [some (au_r XO), none, none, none, none, none] [] (mi, si, hi, sl, r, nx) 0 0
  have hdl := dpB_le (fun S => stN B n.toNat S = a) a
  refine au_iconst dX0_deputies_0 rfl rfl ?_
  refine au_aload_n dX0_deputies_1 rfl ?_
  refine au_getf (C := RX0) (T := TX0) (N := 15) in_X0 (by decide) rfl 0 (by decide) rfl rfl q245 rfl dX0_deputies_2 (v := au_r XN) (congrArg au_q (fx_XO_0 hF)) ?_
  refine au_getN (C := RX1) (T := TX1) (N := 11) in_X1 (by decide) rfl 0 (by decide) rfl rfl q187 rfl dX0_deputies_5 (v := au_r XNn) (congrArg au_q (fx_XN_0 hF)) ?_
  refine au_iconst dX0_deputies_8 rfl rfl ?_
  refine au_iald dX0_deputies_9 rfl (by omega) (by show _ < ((6 : Nat) : Int); omega) (v := au_i (n)) (congrArg au_i (hN)) ?_
  refine au_ishl dX0_deputies_10 ?_
  refine au_iconst dX0_deputies_11 rfl rfl ?_
  refine au_isub dX0_deputies_12 (by omega) (by omega) ?_
  rw [hNe, show (((a + 1 : Nat) : Nat) : Int) - 1 = (a : Int) by omega]
  show au_Go G _ _ 13 [some (au_r XO), none, none, none, none, none] [au_i (a : Int)] (mi, si, hi, sl, r, nx) 0 0
  refine au_istore_n dX0_deputies_13 (show 1 < 6 by decide) ?_
  show au_Go G _ _ 14 [some (au_r XO), some (au_i (a : Int)), none, none, none, none] [] (mi, si, hi, sl, r, nx) 0 0
  refine au_iload_n dX0_deputies_14 rfl ?_
  refine au_istore_n dX0_deputies_15 (show 2 < 6 by decide) ?_
  show au_Go G _ _ 16 [some (au_r XO), some (au_i (a : Int)), some (au_i (a : Int)), none, none, none] [] (mi, si, hi, sl, r, nx) 0 0
  refine au_iload_n dX0_deputies_16 rfl ?_
  refine au_istore_n dX0_deputies_17 (show 3 < 6 by decide) ?_
  show au_Go G _ _ 18 [some (au_r XO), some (au_i (a : Int)), some (au_i (a : Int)), some (au_i (a : Int)), none, none] [] (mi, si, hi, sl, r, nx) 0 0
  have hk_ : ∀ (f : Nat) (j : Nat) (t : Int) (a4 a5 : Option au_V), t = (a : Int) - (j : Int) → j ≤ a + 1 → t + 1 < (f : Int) → au_Go G (yX0_deputies.cls, cX0_deputies, 6, (some .int), au_rm 2 0 0, yX0_deputies.name) (au_QM G (au_rm 2 0 0) (au_pure (au_i ((depR B n.toNat : Nat) : Int)) (mi, si, hi, sl, r, nx))) 18 [some (au_r XO), some (au_i (a : Int)), some (au_i (((dpB (fun S => stN B n.toNat S = a) a j : Nat) : Int) : Int)), some (au_i (t)), a4, a5] [] (mi, si, hi, sl, r, nx) 0 0 := by
    intro f
    induction f with
    | zero => intro j t a4 a5 ht hj hf; exfalso; omega
    | succ f ihk =>
      intro j t a4 a5 ht hj hf
      refine au_iload_n dX0_deputies_18 rfl ?_
      refine au_if_lt (tgt := 97) dX0_deputies_19 (by decide) (fun c19 => ?_) (fun c19 => ?_)
      · refine au_iload_n dX0_deputies_97 rfl ?_
        exact au_iret dX0_deputies_98 rfl rfl (Nat.le_of_ble_eq_true rfl) (Nat.le_of_ble_eq_true rfl) (au_pe (by rw [depR_eq (a := a) (by omega), show j = a + 1 by omega]) rfl)
      · obtain ⟨S, rfl⟩ : ∃ S : Nat, t = (S : Int) := ⟨t.toNat, by omega⟩
        have hdl_ := hdl j
        have hSN : S < 2 ^ n.toNat := by omega
        refine au_iconst dX0_deputies_22 rfl rfl ?_
        refine au_istore dX0_deputies_23 (show 4 < 6 by decide) ?_
        show au_Go G _ _ 25 [some (au_r XO), some (au_i (a : Int)), some (au_i ((dpB (fun S => stN B n.toNat S = a) a j : Nat) : Int)), some (au_i (S : Int)), some (au_i 0), a5] [] (mi, si, hi, sl, r, nx) 0 0
        refine au_iconst dX0_deputies_25 rfl rfl ?_
        refine au_istore dX0_deputies_26 (show 5 < 6 by decide) ?_
        show au_Go G _ _ 28 [some (au_r XO), some (au_i (a : Int)), some (au_i ((dpB (fun S => stN B n.toNat S = a) a j : Nat) : Int)), some (au_i (S : Int)), some (au_i 0), some (au_i 0)] [] (mi, si, hi, sl, r, nx) 0 0
        have hj_ : ∀ (f : Nat) (k : Nat) (s : Nat), ((k : Int) ≤ n) → (s < 1024) → (∀ i : Nat, s.testBit i = true ↔ i < n.toNat ∧ ∃ o : Nat, o < k ∧ S.testBit o = true ∧ ((i : Int) = (o : Int) ∨ (B (i : Int) = (o : Int) ∨ B (o : Int) = (i : Int)))) → (n - (k : Int)) < (f : Int) → au_Go G (yX0_deputies.cls, cX0_deputies, 6, (some .int), au_rm 2 0 0, yX0_deputies.name) (au_QM G (au_rm 2 0 0) (au_pure (au_i ((depR B n.toNat : Nat) : Int)) (mi, si, hi, sl, r, nx))) 28 [some (au_r XO), some (au_i (a : Int)), some (au_i ((dpB (fun S => stN B n.toNat S = a) a j : Nat) : Int)), some (au_i (S : Int)), some (au_i (s : Int)), some (au_i (k : Int))] [] (mi, si, hi, sl, r, nx) 0 0 := by
          intro f
          induction f with
          | zero => intro k s hk hsl hti hf; exfalso; omega
          | succ f ih =>
            intro k s hk hsl hti hf
            refine au_iload dX0_deputies_28 rfl ?_
            refine au_aload_n dX0_deputies_30 rfl ?_
            refine au_getf (C := RX0) (T := TX0) (N := 15) in_X0 (by decide) rfl 0 (by decide) rfl rfl q245 rfl dX0_deputies_31 (v := au_r XN) (congrArg au_q (fx_XO_0 hF)) ?_
            refine au_getN (C := RX1) (T := TX1) (N := 11) in_X1 (by decide) rfl 0 (by decide) rfl rfl q187 rfl dX0_deputies_34 (v := au_r XNn) (congrArg au_q (fx_XN_0 hF)) ?_
            refine au_iconst dX0_deputies_37 rfl rfl ?_
            refine au_iald dX0_deputies_38 rfl (by omega) (by show _ < ((6 : Nat) : Int); omega) (v := au_i (n)) (congrArg au_i (hN)) ?_
            refine au_icmp_ge (tgt := 72) dX0_deputies_39 (by decide) (fun c39 => ?_) (fun c39 => ?_)
            · have hst : s = stN B n.toNat S := st_end (by rw [show n.toNat = k by omega] at hti ⊢; exact hti)
              refine au_iload dX0_deputies_72 rfl ?_
              refine au_iload_n dX0_deputies_74 rfl ?_
              refine au_icmp_ne (tgt := 91) dX0_deputies_75 (by decide) (fun c75 => ?_) (fun c75 => ?_)
              · refine au_iinc dX0_deputies_91 rfl (show 3 < 6 by decide) (by omega) (by omega) (by decide) (by decide) ?_
                show au_Go G _ _ 94 [some (au_r XO), some (au_i (a : Int)), some (au_i ((dpB (fun S => stN B n.toNat S = a) a j : Nat) : Int)), some (au_i ((S : Int) + (-1))), some (au_i (s : Int)), some (au_i (k : Int))] [] (mi, si, hi, sl, r, nx) 0 0
                refine au_goto (tgt := 18) dX0_deputies_94 (by decide) ?_
                have e1 : ∀ z : Nat, z = dpB (fun S => stN B n.toNat S = a) a (j + 1) → au_Go G (yX0_deputies.cls, cX0_deputies, 6, (some .int), au_rm 2 0 0, yX0_deputies.name) (au_QM G (au_rm 2 0 0) (au_pure (au_i ((depR B n.toNat : Nat) : Int)) (mi, si, hi, sl, r, nx))) 18 [some (au_r XO), some (au_i (a : Int)), some (au_i (((z : Nat) : Int) : Int)), some (au_i ((S : Int) + (-1))), some (au_i (s : Int)), some (au_i (k : Int))] [] (mi, si, hi, sl, r, nx) 0 0 := fun z hz => by rw [hz]; exact ihk (j + 1) _ _ _ (by omega) (by omega) (by omega)
                have eS : a - j = S := by omega
                exact e1 _ (by
                  simp only [dpB]
                  rw [eS]
                  first
                  | exact (if_pos ⟨by omega, by omega⟩).symm
                  | exact (if_neg (fun z => by have z1 := z.1; omega)).symm
                  | exact (if_neg (fun z => by have z1 := z.2; omega)).symm)
              · refine au_iload_n dX0_deputies_78 rfl ?_
                refine au_callSp (n := 1) (kJ15_bitCount G _ (by first | exact under_lt' _ (by omega) _ | assumption | omega) (mi, si, hi, sl, r, nx)) (lw_S q1244 q1245 q162 q1246) (by decide +kernel) rfl rfl rfl (Nat.le_of_ble_eq_true rfl) (Nat.le_of_ble_eq_true rfl) (Nat.le_of_ble_eq_true rfl) (Nat.le_of_ble_eq_true rfl) (Nat.le_of_ble_eq_true rfl) dX0_deputies_79 ?_
                refine au_iload_n dX0_deputies_82 rfl ?_
                refine au_callSp (n := 1) (kJ15_bitCount G _ (by first | exact under_lt' _ (by omega) _ | assumption | omega) (mi, si, hi, sl, r, nx)) (lw_S q1244 q1245 q162 q1246) (by decide +kernel) rfl rfl rfl (Nat.le_of_ble_eq_true rfl) (Nat.le_of_ble_eq_true rfl) (Nat.le_of_ble_eq_true rfl) (Nat.le_of_ble_eq_true rfl) (Nat.le_of_ble_eq_true rfl) dX0_deputies_83 ?_
                refine au_icmp_gt (tgt := 91) dX0_deputies_86 (by decide) (fun c86 => ?_) (fun c86 => ?_)
                · refine au_iinc dX0_deputies_91 rfl (show 3 < 6 by decide) (by omega) (by omega) (by decide) (by decide) ?_
                  show au_Go G _ _ 94 [some (au_r XO), some (au_i (a : Int)), some (au_i ((dpB (fun S => stN B n.toNat S = a) a j : Nat) : Int)), some (au_i ((S : Int) + (-1))), some (au_i (s : Int)), some (au_i (k : Int))] [] (mi, si, hi, sl, r, nx) 0 0
                  refine au_goto (tgt := 18) dX0_deputies_94 (by decide) ?_
                  have e1 : ∀ z : Nat, z = dpB (fun S => stN B n.toNat S = a) a (j + 1) → au_Go G (yX0_deputies.cls, cX0_deputies, 6, (some .int), au_rm 2 0 0, yX0_deputies.name) (au_QM G (au_rm 2 0 0) (au_pure (au_i ((depR B n.toNat : Nat) : Int)) (mi, si, hi, sl, r, nx))) 18 [some (au_r XO), some (au_i (a : Int)), some (au_i (((z : Nat) : Int) : Int)), some (au_i ((S : Int) + (-1))), some (au_i (s : Int)), some (au_i (k : Int))] [] (mi, si, hi, sl, r, nx) 0 0 := fun z hz => by rw [hz]; exact ihk (j + 1) _ _ _ (by omega) (by omega) (by omega)
                  have eS : a - j = S := by omega
                  exact e1 _ (by
                    simp only [dpB]
                    rw [eS]
                    first
                    | exact (if_pos ⟨by omega, by omega⟩).symm
                    | exact (if_neg (fun z => by have z1 := z.1; omega)).symm
                    | exact (if_neg (fun z => by have z1 := z.2; omega)).symm)
                · refine au_iload_n dX0_deputies_89 rfl ?_
                  refine au_istore_n dX0_deputies_90 (show 2 < 6 by decide) ?_
                  show au_Go G _ _ 91 [some (au_r XO), some (au_i (a : Int)), some (au_i (S : Int)), some (au_i (S : Int)), some (au_i (s : Int)), some (au_i (k : Int))] [] (mi, si, hi, sl, r, nx) 0 0
                  refine au_iinc dX0_deputies_91 rfl (show 3 < 6 by decide) (by omega) (by omega) (by decide) (by decide) ?_
                  show au_Go G _ _ 94 [some (au_r XO), some (au_i (a : Int)), some (au_i (S : Int)), some (au_i ((S : Int) + (-1))), some (au_i (s : Int)), some (au_i (k : Int))] [] (mi, si, hi, sl, r, nx) 0 0
                  refine au_goto (tgt := 18) dX0_deputies_94 (by decide) ?_
                  have e1 : ∀ z : Nat, z = dpB (fun S => stN B n.toNat S = a) a (j + 1) → au_Go G (yX0_deputies.cls, cX0_deputies, 6, (some .int), au_rm 2 0 0, yX0_deputies.name) (au_QM G (au_rm 2 0 0) (au_pure (au_i ((depR B n.toNat : Nat) : Int)) (mi, si, hi, sl, r, nx))) 18 [some (au_r XO), some (au_i (a : Int)), some (au_i (((z : Nat) : Int) : Int)), some (au_i ((S : Int) + (-1))), some (au_i (s : Int)), some (au_i (k : Int))] [] (mi, si, hi, sl, r, nx) 0 0 := fun z hz => by rw [hz]; exact ihk (j + 1) _ _ _ (by omega) (by omega) (by omega)
                  have eS : a - j = S := by omega
                  exact e1 _ (by
                    simp only [dpB]
                    rw [eS]
                    first
                    | exact (if_pos ⟨by omega, by omega⟩).symm
                    | exact (if_neg (fun z => by have z1 := z.1; omega)).symm
                    | exact (if_neg (fun z => by have z1 := z.2; omega)).symm)
            · refine au_iload dX0_deputies_42 rfl ?_
              refine au_iload_n dX0_deputies_44 rfl ?_
              refine au_iload dX0_deputies_45 rfl ?_
              refine au_callSp (n := 2) (kX0_has G (S : Int) (k : Int) (mi, si, hi, sl, r, nx)) (lw_S q307 q308 q130 q309) (by decide +kernel) rfl rfl rfl (Nat.le_of_ble_eq_true rfl) (Nat.le_of_ble_eq_true rfl) (Nat.le_of_ble_eq_true rfl) (Nat.le_of_ble_eq_true rfl) (Nat.le_of_ble_eq_true rfl) dX0_deputies_47 ?_
              refine au_if_eq (tgt := 62) dX0_deputies_50 (by decide) (fun c50 => ?_) (fun c50 => ?_)
              · have c50 := au_b0 c50
                refine au_iconst dX0_deputies_62 rfl rfl ?_
                refine au_ior dX0_deputies_63 ?_
                refine au_istore dX0_deputies_64 (show 4 < 6 by decide) ?_
                show au_Go G _ _ 66 [some (au_r XO), some (au_i (a : Int)), some (au_i ((dpB (fun S => stN B n.toNat S = a) a j : Nat) : Int)), some (au_i (S : Int)), some (au_i (au_or (s : Int) 0)), some (au_i (k : Int))] [] (mi, si, hi, sl, r, nx) 0 0
                refine au_iinc dX0_deputies_66 rfl (show 5 < 6 by decide) (by omega) (by omega) (by decide) (by decide) ?_
                show au_Go G _ _ 69 [some (au_r XO), some (au_i (a : Int)), some (au_i ((dpB (fun S => stN B n.toNat S = a) a j : Nat) : Int)), some (au_i (S : Int)), some (au_i (au_or (s : Int) 0)), some (au_i ((k : Int) + 1))] [] (mi, si, hi, sl, r, nx) 0 0
                refine au_goto (tgt := 28) dX0_deputies_69 (by decide) ?_
                have hq1 : hs (S : Int) (k : Int) ↔ S.testBit k = true := au_has_nat (by omega) (by omega)
                first
                | (have hnl := nrN_lt B hb0 (k : Int)
                   rw [au_or_nat (by omega) (by omega)]
                   exact ih (k + 1) _ (by omega) (Nat.or_lt_two_pow (n := 10) (by omega) (by omega)) (st_step hti (hq1.mp c50)) (by omega))
                | (rw [au_or_0 (by omega)]
                   exact ih (k + 1) s (by omega) hsl (st_stay hti (fun z => c50 (hq1.mpr z))) (by omega))
              · have c50 := au_b1 c50
                refine au_aload_n dX0_deputies_53 rfl ?_
                refine au_iload dX0_deputies_54 rfl ?_
                refine au_callVp (n := 1) (kX0_near G (k : Int) mi si hi sl r nx hF n hN B hE hB (by omega) (by omega)) (lw_V q1294 q1296 qs54 q130 q1297) rfl (by decide +kernel) (by decide) (T := TX0) (N := 15) rfl rfl rfl rfl (Nat.le_of_ble_eq_true rfl) (Nat.le_of_ble_eq_true rfl) (Nat.le_of_ble_eq_true rfl) (Nat.le_of_ble_eq_true rfl) (Nat.le_of_ble_eq_true rfl) dX0_deputies_56 ?_
                refine au_goto (tgt := 63) dX0_deputies_59 (by decide) ?_
                refine au_ior dX0_deputies_63 ?_
                refine au_istore dX0_deputies_64 (show 4 < 6 by decide) ?_
                show au_Go G _ _ 66 [some (au_r XO), some (au_i (a : Int)), some (au_i ((dpB (fun S => stN B n.toNat S = a) a j : Nat) : Int)), some (au_i (S : Int)), some (au_i (au_or (s : Int) ((nrN B n.toNat (k : Int) : Nat) : Int))), some (au_i (k : Int))] [] (mi, si, hi, sl, r, nx) 0 0
                refine au_iinc dX0_deputies_66 rfl (show 5 < 6 by decide) (by omega) (by omega) (by decide) (by decide) ?_
                show au_Go G _ _ 69 [some (au_r XO), some (au_i (a : Int)), some (au_i ((dpB (fun S => stN B n.toNat S = a) a j : Nat) : Int)), some (au_i (S : Int)), some (au_i (au_or (s : Int) ((nrN B n.toNat (k : Int) : Nat) : Int))), some (au_i ((k : Int) + 1))] [] (mi, si, hi, sl, r, nx) 0 0
                refine au_goto (tgt := 28) dX0_deputies_69 (by decide) ?_
                have hq1 : hs (S : Int) (k : Int) ↔ S.testBit k = true := au_has_nat (by omega) (by omega)
                first
                | (have hnl := nrN_lt B hb0 (k : Int)
                   rw [au_or_nat (by omega) (by omega)]
                   exact ih (k + 1) _ (by omega) (Nat.or_lt_two_pow (n := 10) (by omega) (by omega)) (st_step hti (hq1.mp c50)) (by omega))
                | (rw [au_or_0 (by omega)]
                   exact ih (k + 1) s (by omega) hsl (st_stay hti (fun z => c50 (hq1.mpr z))) (by omega))
        exact hj_ 11 0 0 (by omega) (by omega) (fun i => by rw [Nat.zero_testBit]; exact ⟨fun z => absurd z (by decide), fun ⟨_, o, z, _⟩ => absurd z (by omega)⟩) (by omega)
  exact hk_ 1026 0 _ _ _ (by omega) (by omega) (by omega)
theorem kX2_deputies (G : au_G) (mi si hi sl : au_A → Int → Int) (r : au_A → Int → Option au_A) (nx : Nat) (hF : Fix r) (n : Int) (hN : mi MA 0 = n) (B : Int → Int) (hE : ∀ o, 0 ≤ o → o < 10 → mi MA (90 + o) = B o) (hB : Bs B n) : au_Ctr G yX2_deputies cX2_deputies 4 (some .int) 2 0 0 [au_r MO] (mi, si, hi, sl, r, nx) (au_pure (au_i ((depR B n.toNat : Nat) : Int)) (mi, si, hi, sl, r, nx)) := by
  refine au_of (by decide) (Nat.le_of_ble_eq_true rfl) ?_
  have hb0 := hB.2.1
  have hb1 := hB.1
  obtain ⟨N, hN2, hN0, hN1, hNe⟩ := au_shl_int hb1 hb0
  obtain ⟨a, rfl⟩ : ∃ a, N = a + 1 := ⟨N - 1, by omega⟩
  show au_Go G _ _ 0 [some (au_r MO), none, none, none] [] (mi, si, hi, sl, r, nx) 0 0
  have hdl := dpB_le (fun S => stN B n.toNat S = a) a
  refine au_iconst dX2_deputies_0 rfl rfl ?_
  refine au_aload_n dX2_deputies_1 rfl ?_
  refine au_getf (C := RX2) (T := TX2) (N := 35) in_X2 (by decide) rfl 0 (by decide) rfl rfl q1359 rfl dX2_deputies_2 (v := au_r MA) (congrArg au_q (fx_MO_0 hF)) ?_
  refine au_iconst dX2_deputies_5 rfl rfl ?_
  refine au_iald dX2_deputies_6 rfl (by omega) (by show _ < ((4544 : Nat) : Int); omega) (v := au_i (n)) (congrArg au_i (hN)) ?_
  refine au_ishl dX2_deputies_7 ?_
  refine au_iconst dX2_deputies_8 rfl rfl ?_
  refine au_isub dX2_deputies_9 (by omega) (by omega) ?_
  rw [hNe, show (((a + 1 : Nat) : Nat) : Int) - 1 = (a : Int) by omega]
  show au_Go G _ _ 10 [some (au_r MO), none, none, none] [au_i (a : Int)] (mi, si, hi, sl, r, nx) 0 0
  refine au_istore_n dX2_deputies_10 (show 1 < 4 by decide) ?_
  show au_Go G _ _ 11 [some (au_r MO), some (au_i (a : Int)), none, none] [] (mi, si, hi, sl, r, nx) 0 0
  refine au_iload_n dX2_deputies_11 rfl ?_
  refine au_istore_n dX2_deputies_12 (show 2 < 4 by decide) ?_
  show au_Go G _ _ 13 [some (au_r MO), some (au_i (a : Int)), some (au_i (a : Int)), none] [] (mi, si, hi, sl, r, nx) 0 0
  refine au_iload_n dX2_deputies_13 rfl ?_
  refine au_istore_n dX2_deputies_14 (show 3 < 4 by decide) ?_
  show au_Go G _ _ 15 [some (au_r MO), some (au_i (a : Int)), some (au_i (a : Int)), some (au_i (a : Int))] [] (mi, si, hi, sl, r, nx) 0 0
  have hk_ : ∀ (f : Nat) (j : Nat) (t : Int), t = (a : Int) - (j : Int) → j ≤ a + 1 → t + 1 < (f : Int) → au_Go G (yX2_deputies.cls, cX2_deputies, 4, (some .int), au_rm 2 0 0, yX2_deputies.name) (au_QM G (au_rm 2 0 0) (au_pure (au_i ((depR B n.toNat : Nat) : Int)) (mi, si, hi, sl, r, nx))) 15 [some (au_r MO), some (au_i (a : Int)), some (au_i (((dpB (fun S => stN B n.toNat S = a) a j : Nat) : Int) : Int)), some (au_i (t))] [] (mi, si, hi, sl, r, nx) 0 0 := by
    intro f
    induction f with
    | zero => intro j t ht hj hf; exfalso; omega
    | succ f ihk =>
      intro j t ht hj hf
      refine au_iload_n dX2_deputies_15 rfl ?_
      refine au_if_lt (tgt := 47) dX2_deputies_16 (by decide) (fun c16 => ?_) (fun c16 => ?_)
      · refine au_iload_n dX2_deputies_47 rfl ?_
        exact au_iret dX2_deputies_48 rfl rfl (Nat.le_of_ble_eq_true rfl) (Nat.le_of_ble_eq_true rfl) (au_pe (by rw [depR_eq (a := a) (by omega), show j = a + 1 by omega]) rfl)
      · obtain ⟨S, rfl⟩ : ∃ S : Nat, t = (S : Int) := ⟨t.toNat, by omega⟩
        have hdl_ := hdl j
        have hSN : S < 2 ^ n.toNat := by omega
        refine au_iload_n dX2_deputies_19 rfl ?_
        refine au_callSp (n := 1) (kX2_bits G _ (by first | exact under_lt' _ (by omega) _ | assumption | omega) (mi, si, hi, sl, r, nx)) (lw_S q1942 q1943 q134 q1944) (by decide +kernel) rfl rfl rfl (Nat.le_of_ble_eq_true rfl) (Nat.le_of_ble_eq_true rfl) (Nat.le_of_ble_eq_true rfl) (Nat.le_of_ble_eq_true rfl) (Nat.le_of_ble_eq_true rfl) dX2_deputies_20 ?_
        refine au_iload_n dX2_deputies_23 rfl ?_
        refine au_callSp (n := 1) (kX2_bits G _ (by first | exact under_lt' _ (by omega) _ | assumption | omega) (mi, si, hi, sl, r, nx)) (lw_S q1942 q1943 q134 q1944) (by decide +kernel) rfl rfl rfl (Nat.le_of_ble_eq_true rfl) (Nat.le_of_ble_eq_true rfl) (Nat.le_of_ble_eq_true rfl) (Nat.le_of_ble_eq_true rfl) (Nat.le_of_ble_eq_true rfl) dX2_deputies_24 ?_
        refine au_icmp_gt (tgt := 41) dX2_deputies_27 (by decide) (fun c27 => ?_) (fun c27 => ?_)
        · refine au_iinc dX2_deputies_41 rfl (show 3 < 4 by decide) (by omega) (by omega) (by decide) (by decide) ?_
          show au_Go G _ _ 44 [some (au_r MO), some (au_i (a : Int)), some (au_i ((dpB (fun S => stN B n.toNat S = a) a j : Nat) : Int)), some (au_i ((S : Int) + (-1)))] [] (mi, si, hi, sl, r, nx) 0 0
          refine au_goto (tgt := 15) dX2_deputies_44 (by decide) ?_
          have e1 : ∀ z : Nat, z = dpB (fun S => stN B n.toNat S = a) a (j + 1) → au_Go G (yX2_deputies.cls, cX2_deputies, 4, (some .int), au_rm 2 0 0, yX2_deputies.name) (au_QM G (au_rm 2 0 0) (au_pure (au_i ((depR B n.toNat : Nat) : Int)) (mi, si, hi, sl, r, nx))) 15 [some (au_r MO), some (au_i (a : Int)), some (au_i (((z : Nat) : Int) : Int)), some (au_i ((S : Int) + (-1)))] [] (mi, si, hi, sl, r, nx) 0 0 := fun z hz => by rw [hz]; exact ihk (j + 1) _ (by omega) (by omega) (by omega)
          have eS : a - j = S := by omega
          exact e1 _ (by
            simp only [dpB]
            rw [eS]
            first
            | exact (if_pos ⟨by omega, by omega⟩).symm
            | exact (if_neg (fun z => by have z1 := z.1; omega)).symm
            | exact (if_neg (fun z => by have z1 := z.2; omega)).symm)
        · refine au_aload_n dX2_deputies_30 rfl ?_
          refine au_iload_n dX2_deputies_31 rfl ?_
          refine au_callVp (n := 1) (kX2_standFor G _ mi si hi sl r nx hF n hN B hE hB (by omega)) (lw_V q1981 q1983 qs128 q134 q1984) rfl (by decide +kernel) (by decide) (T := TX2) (N := 35) rfl rfl rfl rfl (Nat.le_of_ble_eq_true rfl) (Nat.le_of_ble_eq_true rfl) (Nat.le_of_ble_eq_true rfl) (Nat.le_of_ble_eq_true rfl) (Nat.le_of_ble_eq_true rfl) dX2_deputies_32 ?_
          refine au_iload_n dX2_deputies_35 rfl ?_
          refine au_icmp_ne (tgt := 41) dX2_deputies_36 (by decide) (fun c36 => ?_) (fun c36 => ?_)
          · refine au_iinc dX2_deputies_41 rfl (show 3 < 4 by decide) (by omega) (by omega) (by decide) (by decide) ?_
            show au_Go G _ _ 44 [some (au_r MO), some (au_i (a : Int)), some (au_i ((dpB (fun S => stN B n.toNat S = a) a j : Nat) : Int)), some (au_i ((S : Int) + (-1)))] [] (mi, si, hi, sl, r, nx) 0 0
            refine au_goto (tgt := 15) dX2_deputies_44 (by decide) ?_
            have e1 : ∀ z : Nat, z = dpB (fun S => stN B n.toNat S = a) a (j + 1) → au_Go G (yX2_deputies.cls, cX2_deputies, 4, (some .int), au_rm 2 0 0, yX2_deputies.name) (au_QM G (au_rm 2 0 0) (au_pure (au_i ((depR B n.toNat : Nat) : Int)) (mi, si, hi, sl, r, nx))) 15 [some (au_r MO), some (au_i (a : Int)), some (au_i (((z : Nat) : Int) : Int)), some (au_i ((S : Int) + (-1)))] [] (mi, si, hi, sl, r, nx) 0 0 := fun z hz => by rw [hz]; exact ihk (j + 1) _ (by omega) (by omega) (by omega)
            have eS : a - j = S := by omega
            exact e1 _ (by
              simp only [dpB]
              rw [eS]
              first
              | exact (if_pos ⟨by omega, by omega⟩).symm
              | exact (if_neg (fun z => by have z1 := z.1; omega)).symm
              | exact (if_neg (fun z => by have z1 := z.2; omega)).symm)
          · refine au_iload_n dX2_deputies_39 rfl ?_
            refine au_istore_n dX2_deputies_40 (show 2 < 4 by decide) ?_
            show au_Go G _ _ 41 [some (au_r MO), some (au_i (a : Int)), some (au_i (S : Int)), some (au_i (S : Int))] [] (mi, si, hi, sl, r, nx) 0 0
            refine au_iinc dX2_deputies_41 rfl (show 3 < 4 by decide) (by omega) (by omega) (by decide) (by decide) ?_
            show au_Go G _ _ 44 [some (au_r MO), some (au_i (a : Int)), some (au_i (S : Int)), some (au_i ((S : Int) + (-1)))] [] (mi, si, hi, sl, r, nx) 0 0
            refine au_goto (tgt := 15) dX2_deputies_44 (by decide) ?_
            have e1 : ∀ z : Nat, z = dpB (fun S => stN B n.toNat S = a) a (j + 1) → au_Go G (yX2_deputies.cls, cX2_deputies, 4, (some .int), au_rm 2 0 0, yX2_deputies.name) (au_QM G (au_rm 2 0 0) (au_pure (au_i ((depR B n.toNat : Nat) : Int)) (mi, si, hi, sl, r, nx))) 15 [some (au_r MO), some (au_i (a : Int)), some (au_i (((z : Nat) : Int) : Int)), some (au_i ((S : Int) + (-1)))] [] (mi, si, hi, sl, r, nx) 0 0 := fun z hz => by rw [hz]; exact ihk (j + 1) _ (by omega) (by omega) (by omega)
            have eS : a - j = S := by omega
            exact e1 _ (by
              simp only [dpB]
              rw [eS]
              first
              | exact (if_pos ⟨by omega, by omega⟩).symm
              | exact (if_neg (fun z => by have z1 := z.1; omega)).symm
              | exact (if_neg (fun z => by have z1 := z.2; omega)).symm)
  exact hk_ 1026 0 _ (by omega) (by omega) (by omega)
