/-! DAYS PASS, steps undone, days to come, years of ApologyUp (printed by tools/m53.py) -/
set_option maxRecDepth 100000
set_option maxHeartbeats 4000000

/-- days pass, one by one: whether all of them could, what is then, how many are done with, cells -/
noncomputable def paY (Lw : au_Lw) : Nat → au_Y → Int × au_Y × Int × Nat
  | 0, y => (1, y, 0, 0)
  | k + 1, y => if y.2.2.2.2.1 0 < 9999 then
      let p := pasF y.1 y.2.1 y.2.2.1 Lw y.2.2.2.2.1
      let t := paY Lw k (y.1, y.2.1, y.2.2.1, y.2.2.2.1, p.1, keN y.2.2.2.2.2.1, keS y.2.2.2.2.2.1 y.2.2.2.2.2.2 y.2.2.2.2.1)
      (t.1, t.2.1, p.2.1 + t.2.2.1, p.2.2 + t.2.2.2) else (0, y, 0, 0)
section PAY
variable {n : Int} {B Pr Co R : Int → Int} {ns : Int} {S : Nat → Int → Int} {Lw : au_Lw}
theorem paY_s (k : Nat) (h : R 0 < 9999) : paY Lw (k + 1) (n, B, Pr, Co, R, ns, S) = ((paY Lw k (n, B, Pr, Co, (pasF n B Pr Lw R).1, keN ns, keS ns S R)).1, (paY Lw k (n, B, Pr, Co, (pasF n B Pr Lw R).1, keN ns, keS ns S R)).2.1, (pasF n B Pr Lw R).2.1 + (paY Lw k (n, B, Pr, Co, (pasF n B Pr Lw R).1, keN ns, keS ns S R)).2.2.1, (pasF n B Pr Lw R).2.2 + (paY Lw k (n, B, Pr, Co, (pasF n B Pr Lw R).1, keN ns, keS ns S R)).2.2.2) := if_pos h
theorem paY_n (k : Nat) (h : ¬ R 0 < 9999) : paY Lw (k + 1) (n, B, Pr, Co, R, ns, S) = (0, (n, B, Pr, Co, R, ns, S), 0, 0) := if_neg h
theorem YOK.pass (h : YOK (n, B, Pr, Co, R, ns, S)) (h0 : R 0 < 9999) : YOK (n, B, Pr, Co, (pasF n B Pr Lw R).1, keN ns, keS ns S R) := h.keep (pasF_ok h.1 h.2.2.2.1 h0).1
theorem pasF_20 (hB : Bs B n) (h : RowOK R n B) (h0 : R 0 < 9999) : 0 ≤ (pasF n B Pr Lw R).2.1 ∧ (pasF n B Pr Lw R).2.1 ≤ 20 := by
  have h1 := pasF_ok (Pr := Pr) (Lw := Lw) hB h h0
  have h2 := pasF_cost (Pr := Pr) (Lw := Lw) hB h
  have h3 := undN_bd R 10
  omega
end PAY
theorem paY_ok {Lw : au_Lw} : ∀ (k : Nat) (y : au_Y), YOK y → YOK (paY Lw k y).2.1 ∧ (paY Lw k y).2.1.1 = y.1 ∧ (paY Lw k y).2.1.2.1 = y.2.1 := by
  intro k
  induction k with
  | zero => intro y h; exact ⟨h, rfl, rfl⟩
  | succ k ih =>
    intro y h
    obtain ⟨n, B, Pr, Co, R, ns, S⟩ := y
    by_cases h0 : R 0 < 9999
    · rw [paY_s k h0]
      exact ih _ (h.pass h0)
    · rw [paY_n k h0]
      exact ⟨h, rfl, rfl⟩
/-- what days cost -/
theorem paY_cost {Lw : au_Lw} : ∀ (k : Nat) (y : au_Y), YOK y → (paY Lw k y).2.2.2 + undN (paY Lw k y).2.1.2.2.2.2.1 10 ≤ 10 * k + undN y.2.2.2.2.1 10 := by
  intro k
  induction k with
  | zero => intro y h; show 0 + undN _ 10 ≤ 10 * 0 + undN _ 10; exact Nat.le_refl _
  | succ k ih =>
    intro y h
    obtain ⟨n, B, Pr, Co, R, ns, S⟩ := y
    by_cases h0 : R 0 < 9999
    · rw [paY_s k h0]
      have i := ih _ (h.pass (Lw := Lw) h0)
      have hB : Bs B n := h.1
      have hR : RowOK R n B := h.2.2.2.1
      have j := pasF_cost (Pr := Pr) (Lw := Lw) hB hR
      have i : (paY Lw k (n, B, Pr, Co, (pasF n B Pr Lw R).1, keN ns, keS ns S R)).2.2.2 + undN (paY Lw k (n, B, Pr, Co, (pasF n B Pr Lw R).1, keN ns, keS ns S R)).2.1.2.2.2.2.1 10 ≤ 10 * k + undN (pasF n B Pr Lw R).1 10 := i
      show (pasF n B Pr Lw R).2.2 + (paY Lw k (n, B, Pr, Co, (pasF n B Pr Lw R).1, keN ns, keS ns S R)).2.2.2 + undN (paY Lw k (n, B, Pr, Co, (pasF n B Pr Lw R).1, keN ns, keS ns S R)).2.1.2.2.2.2.1 10 ≤ 10 * (k + 1) + undN R 10
      omega
    · rw [paY_n k h0]
      show 0 + undN R 10 ≤ 10 * (k + 1) + undN R 10
      omega
noncomputable def dayY (Lw : au_Lw) (y : au_Y) (z : Int) : Int × au_Y := if (1 ≤ z ∧ z ≤ 60) ∧ y.2.2.2.2.1 0 + z ≤ 9999 then ((paY Lw z.toNat y).2.2.1, (paY Lw z.toNat y).2.1) else (-1, y)
/-- a step undone -/
def undY (y : au_Y) : Int × au_Y := if y.2.2.2.2.2.1 = 0 then (-1, y) else (y.2.2.2.2.2.1 - 1, (y.1, y.2.1, y.2.2.1, y.2.2.2.1, mv1 (y.2.2.2.2.2.2 (y.2.2.2.2.2.1 - 1).toNat) y.2.2.2.2.1 0 0 204, y.2.2.2.2.2.1 - 1, y.2.2.2.2.2.2))
theorem undY_ok {y : au_Y} (h : YOK y) : YOK (undY y).2 := by
  obtain ⟨n, B, Pr, Co, R, ns, S⟩ := y
  unfold undY
  split
  · exact h
  · rename_i hc
    have hc : ¬ ns = 0 := hc
    obtain ⟨h1, h2, h3, h4, h5, h6⟩ := h
    have h5 : 0 ≤ ns ∧ ns ≤ 30 := h5
    exact ⟨h1, h2, h3, (h6 (ns - 1).toNat (by omega)).at (fun j a b => mv1_at _ _ a b), ⟨by show 0 ≤ ns - 1; omega, by show ns - 1 ≤ 30; omega⟩, h6⟩
theorem EnX.fr {r : au_A → Int → Option au_A} {hi mi m1 : au_A → Int → Int} {d : Nat} {n : Int} {B Pr Co R : Int → Int} {ns : Int} {S : Nat → Int → Int} {Lw : au_Lw} (h : EnX r hi mi d n B Pr Lw) (hf : FrX mi m1) (hY : XY m1 (n, B, Pr, Co, R, ns, S)) : EnX r hi m1 d n B Pr Lw :=
  h.of (hY.1.trans h.1.symm) (hf _ _ (by decide)) (fun o a b => (hY.2.1 o a b).trans (h.2.1 o a b).symm) (fun o a b => (hY.2.2.1 o a b).trans (h.2.2.2.1 o a b).symm)
theorem StX.n3 {mi : au_A → Int → Int} {ns : Int} {S : Nat → Int → Int} (h : StX mi ns S) (v : Int) : StX (au_up mi XNn 3 v) v S := ⟨au_up_self _ _ _ _, fun k hk => (au_up_neF _ _ _ (ne1 (by show 1022 + k ≠ 1002; omega))).trans (h.2 k hk)⟩
theorem XY.n3 {mi : au_A → Int → Int} {n : Int} {B Pr Co R : Int → Int} {ns : Int} {S : Nat → Int → Int} (h : XY mi (n, B, Pr, Co, R, ns, S)) (v : Int) : XY (au_up mi XNn 3 v) (n, B, Pr, Co, R, v, S) := by
  obtain ⟨h1, h2, h3, h4, h5, h6⟩ := h
  exact ⟨(au_up_ne _ _ (by decide)).trans h1, fun o a b => (au_up_ne _ _ (fun z => absurd z.1 (by decide))).trans (h2 o a b), fun o a b => (au_up_ne _ _ (fun z => absurd z.1 (by decide))).trans (h3 o a b), fun o a b => (au_up_ne _ _ (fun z => absurd z.1 (by decide))).trans (h4 o a b), (au_up_neF _ _ _ (by decide)).trans h5, h6.n3 v⟩
theorem FrX.n3 (mi : au_A → Int → Int) (v : Int) : FrX mi (au_up mi XNn 3 v) := fun a j q => au_up_ne _ _ (fun z => q (Or.inl ⟨z.1, Or.inr z.2⟩))
theorem FrX.tried (mi : au_A → Int → Int) (R : Int → Int) : FrX mi (rowS mi XTried R) := fun a j q => rowS_ne _ _ _ (fun z => q (Or.inr (Or.inr (Or.inr (by rw [z])))))
theorem XY.tried {mi : au_A → Int → Int} {y : au_Y} (h : XY mi y) (R' : Int → Int) : XY (rowS mi XTried R') y := by
  obtain ⟨h1, h2, h3, h4, h5, h6, h7⟩ := h
  exact ⟨(rowS_ne _ _ _ (by decide)).trans h1, fun o a b => (rowS_ne _ _ _ (by decide)).trans (h2 o a b), fun o a b => (rowS_ne _ _ _ (by decide)).trans (h3 o a b), fun o a b => (rowS_ne _ _ _ (by decide)).trans (h4 o a b), (rowS_neF _ _ (by decide)).trans h5, (rowS_ne _ _ _ (by decide)).trans h6, fun k hk => (rowS_neF _ _ (ne1 (by show 1022 + k ≠ 1107; omega))).trans (h7 k hk)⟩
/-- days to come, of a row that is tried: the row, cells -/
noncomputable def tfN (n : Int) (B Pr : Int → Int) (Lw : au_Lw) : Nat → (Int → Int) → (Int → Int) × Nat
  | 0, R => (R, 0)
  | k + 1, R => if R 0 < 9999 then ((tfN n B Pr Lw k (pasF n B Pr Lw R).1).1, (pasF n B Pr Lw R).2.2 + (tfN n B Pr Lw k (pasF n B Pr Lw R).1).2) else (R, 0)
theorem tfN_cost {n : Int} {B Pr : Int → Int} {Lw : au_Lw} (hB : Bs B n) : ∀ (k : Nat) (R : Int → Int), RowOK R n B → (tfN n B Pr Lw k R).2 ≤ 10 * k + undN R 10 := by
  intro k
  induction k with
  | zero => intro R h; exact Nat.zero_le _
  | succ k ih =>
    intro R h
    unfold tfN
    split
    · rename_i h0
      have i := ih _ (pasF_ok (Pr := Pr) (Lw := Lw) hB h h0).1
      have j := pasF_cost (Pr := Pr) (Lw := Lw) hB h
      show _ + _ ≤ _
      omega
    · exact Nat.zero_le _
/-- whether it is pardoned: within so many days from a day on -/
noncomputable def pdN (n : Int) (B Pr : Int → Int) (Lw : au_Lw) (a : Int) : Nat → Int → (Int → Int) → Int × Nat
  | 0, _, _ => (-1, 0)
  | k + 1, q, R => if R 0 < 9999 ∧ R (3 + 7 * a + 4) = 0 then (if (pasF n B Pr Lw R).1 (3 + 7 * a + 4) = 1 then (q, (pasF n B Pr Lw R).2.2) else ((pdN n B Pr Lw a k (q + 1) (pasF n B Pr Lw R).1).1, (pasF n B Pr Lw R).2.2 + (pdN n B Pr Lw a k (q + 1) (pasF n B Pr Lw R).1).2)) else (-1, 0)
theorem pdN_cost {n : Int} {B Pr : Int → Int} {Lw : au_Lw} (hB : Bs B n) (a : Int) : ∀ (k : Nat) (q : Int) (R : Int → Int), RowOK R n B → (pdN n B Pr Lw a k q R).2 ≤ 10 * k + undN R 10 := by
  intro k
  induction k with
  | zero => intro q R h; exact Nat.zero_le _
  | succ k ih =>
    intro q R h
    unfold pdN
    split
    · rename_i h0
      have i := ih (q + 1) _ (pasF_ok (Pr := Pr) (Lw := Lw) hB h h0.1).1
      have j := pasF_cost (Pr := Pr) (Lw := Lw) hB h
      split
      · show (pasF n B Pr Lw R).2.2 ≤ _
        omega
      · show _ + _ ≤ _
        omega
    · exact Nat.zero_le _
/-- what a number makes happen to a row: the row, cells -/
noncomputable def hpF (n : Int) (B Pr : Int → Int) (Lw : au_Lw) (x : Int) (R : Int → Int) : (Int → Int) × Nat :=
  let o := if n = 0 then -1 else x % n
  if x % 5 = 0 then @ite _ (cwP n B R o 0) (Classical.propDecidable _) (wgF R o 0 (1 + x % 20), 1) (R, 0)
  else if x % 5 = 1 then (if 0 ≤ o ∧ o < n then (awF R o (x % 4), 0) else (R, 0))
  else if R 0 < 9999 then ((pasF n B Pr Lw R).1, (pasF n B Pr Lw R).2.2) else (R, 0)
noncomputable def yrN (n : Int) (B Pr : Int → Int) (Lw : au_Lw) : Nat → (Int → Int) → (Int → Int) × Nat
  | 0, R => (R, 0)
  | k + 1, R => let p := hpF n B Pr Lw (R 1) (drF R)
    let t := yrN n B Pr Lw k p.1
    (t.1, p.2 + t.2)
noncomputable def yrY (Lw : au_Lw) (y : au_Y) (sd k : Int) : Int × au_Y :=
  if (0 ≤ sd ∧ sd ≤ 9999) ∧ 1 ≤ k ∧ k ≤ 40 then ((yrN y.1 y.2.1 y.2.2.1 Lw k.toNat (up1 y.2.2.2.2.1 1 (sd * 2 + 181))).1 0, (y.1, y.2.1, y.2.2.1, y.2.2.2.1, (yrN y.1 y.2.1 y.2.2.1 Lw k.toNat (up1 y.2.2.2.2.1 1 (sd * 2 + 181))).1, keN y.2.2.2.2.2.1, keS y.2.2.2.2.2.1 y.2.2.2.2.2.2 y.2.2.2.2.1)) else (-1, y)
theorem RowOK.draw {R : Int → Int} {n : Int} {B : Int → Int} (h : RowOK R n B) {v : Int} (h0 : 0 ≤ v) (h1 : v < 30539) : RowOK (up1 R 1 v) n B := by
  obtain ⟨⟨g0, g1, g2, g3, g4⟩, g5⟩ := h
  have e : ∀ j, j ≠ 1 → up1 R 1 v j = R j := fun j hj => up1_ne _ _ hj
  refine ⟨⟨by rw [e 0 (by decide)]; exact g0, by rw [up1_self]; exact ⟨h0, h1⟩, by rw [e 2 (by decide)]; exact g2, by rw [e 83 (by decide)]; exact g3, fun a a0 a2 => ?_⟩, fun a a0 a2 => ?_⟩
  · rw [e 2 (by decide)] at a2
    exact (g4 a a0 a2).of (fun w w0 w6 => e _ (by omega))
  · rw [e 2 (by decide)] at a2
    exact (g5 a a0 a2).of (fun w w0 w6 => e _ (by omega))
theorem RowOK.drF {R : Int → Int} {n : Int} {B : Int → Int} (h : RowOK R n B) : RowOK (drF R) n B := h.draw (by omega) (by omega)
theorem undN_eq {R R' : Int → Int} (k : Nat) (h : ∀ a : Int, 0 ≤ a → a < (k : Int) → R' (3 + 7 * a + 4) = R (3 + 7 * a + 4)) : undN R' k = undN R k :=
  Nat.le_antisymm (undN_le k (fun a a0 a1 q => (h a a0 a1).trans q)) (undN_le k (fun a a0 a1 q => (h a a0 a1).symm.trans q))
theorem undN_up1 {R R' : Int → Int} {b : Int} : ∀ k : Nat, (∀ a : Int, 0 ≤ a → a < (k : Int) → a ≠ b → R' (3 + 7 * a + 4) = R (3 + 7 * a + 4)) → undN R' k ≤ undN R k + 1 := by
  intro k
  induction k with
  | zero => intro _; exact Nat.zero_le _
  | succ k ih =>
    intro h
    by_cases e : (k : Int) = b
    · have h1 := undN_eq (R := R) (R' := R') k (fun a a0 a1 => h a a0 (by omega) (by omega))
      unfold undN
      rw [h1]
      split <;> split <;> omega
    · have h1 := ih (fun a a0 a1 q => h a a0 (by omega) q)
      have h2 := h (k : Int) (by omega) (by omega) e
      unfold undN
      rw [h2]
      omega
theorem wgF_und {R : Int → Int} (h0 : 0 ≤ R 2) (h1 : R 2 < 10) (f t z : Int) : undN (wgF R f t z) 10 ≤ undN R 10 + 1 := undN_up1 (b := R 2) 10 (fun a a0 a1 q => by
  unfold wgF
  rw [up1_ne _ _ (by omega)]
  unfold mv1
  rw [if_neg (by omega)])
theorem hpF_ok {n : Int} {B Pr : Int → Int} {Lw : au_Lw} (hB : Bs B n) {R : Int → Int} (h : RowOK R n B) {x : Int} (hx : 0 ≤ x) : RowOK (hpF n B Pr Lw x R).1 n B ∧ (hpF n B Pr Lw x R).2 + undN (hpF n B Pr Lw x R).1 10 ≤ 10 + undN R 10 := by
  have hb0 := hB.2.1
  unfold hpF
  generalize (if n = 0 then -1 else x % n) = o
  simp only
  split
  · by_cases hc : cwP n B R o 0
    · rw [show (@ite _ (cwP n B R o 0) (Classical.propDecidable _) (wgF R o 0 (1 + x % 20), 1) (R, 0)) = (wgF R o 0 (1 + x % 20), 1) from if_pos hc]
      refine ⟨wgF_ok hB h hc (by omega), ?_⟩
      have := wgF_und (R := R) h.1.2.2.1.1 hc.2.2.2 o 0 (1 + x % 20)
      show 1 + undN (wgF R o 0 (1 + x % 20)) 10 ≤ _
      omega
    · rw [show (@ite _ (cwP n B R o 0) (Classical.propDecidable _) (wgF R o 0 (1 + x % 20), 1) (R, 0)) = (R, 0) from if_neg hc]
      exact ⟨h, by show 0 + undN R 10 ≤ _; omega⟩
  · split
    · split
      · rename_i hc
        refine ⟨awF_ok h hc.1 (by omega), ?_⟩
        have := undN_eq (R := R) (R' := awF R o (x % 4)) 10 (fun a a0 a1 => up1_ne _ _ (by omega))
        show 0 + undN (awF R o (x % 4)) 10 ≤ _
        omega
      · exact ⟨h, by show 0 + undN R 10 ≤ _; omega⟩
    · split
      · rename_i h0
        exact ⟨(pasF_ok hB h h0).1, pasF_cost hB h⟩
      · exact ⟨h, by show 0 + undN R 10 ≤ _; omega⟩
theorem yrN_ok {n : Int} {B Pr : Int → Int} {Lw : au_Lw} (hB : Bs B n) : ∀ (k : Nat) (R : Int → Int), RowOK R n B → RowOK (yrN n B Pr Lw k R).1 n B ∧ (yrN n B Pr Lw k R).2 + undN (yrN n B Pr Lw k R).1 10 ≤ 10 * k + undN R 10 := by
  intro k
  induction k with
  | zero => intro R h; exact ⟨h, by show 0 + undN R 10 ≤ 10 * 0 + undN R 10; omega⟩
  | succ k ih =>
    intro R h
    obtain ⟨i1, i2⟩ := hpF_ok (Pr := Pr) (Lw := Lw) hB h.drF (x := R 1) h.1.2.1.1
    obtain ⟨j1, j2⟩ := ih _ i1
    refine ⟨j1, ?_⟩
    have e := undN_eq (R := R) (R' := drF R) 10 (fun a a0 a1 => drF_ne _ (by omega))
    show (hpF n B Pr Lw (R 1) (drF R)).2 + (yrN n B Pr Lw k (hpF n B Pr Lw (R 1) (drF R)).1).2 + undN (yrN n B Pr Lw k (hpF n B Pr Lw (R 1) (drF R)).1).1 10 ≤ 10 * (k + 1) + undN R 10
    omega
theorem yrY_ok {Lw : au_Lw} {y : au_Y} (h : YOK y) (sd k : Int) : YOK (yrY Lw y sd k).2 := by
  obtain ⟨n, B, Pr, Co, R, ns, S⟩ := y
  unfold yrY
  split
  · rename_i hc
    have hR : RowOK R n B := h.2.2.2.1
    exact h.keep (yrN_ok (Pr := Pr) (Lw := Lw) h.1 k.toNat _ (hR.draw (by omega) (by omega))).1
  · exact h

theorem kX0_passesN (G : au_G) (d : Nat) (n : Int) (B Pr : Int → Int) (Lw : au_Lw) (R : Int → Int) (mi si hi sl : au_A → Int → Int) (r : au_A → Int → Option au_A) (nx : Nat) (hF : Fix r) (hnx : 1126 ≤ nx) (hX : EnX r hi mi d n B Pr Lw) (hRw : mi XNrow = R) (hR : RowOK R n B) (h0 : R 0 < 9999) : au_Ctr G yX0_passes cX0_passes 5 (some .int) (d + 10) (pasF n B Pr Lw R).2.2 (4 * (pasF n B Pr Lw R).2.2) [au_r XO, au_r XNrow] (mi, si, hi, sl, r, nx) (fun rv M' => rv = some (au_i (pasF n B Pr Lw R).2.1) ∧ ∃ (sj : au_A → Int → Int) (nx' : Nat), nx ≤ nx' ∧ M' = (rowS mi XNrow (pasF n B Pr Lw R).1, sj, hi, sl, r, nx')) := by
  subst hRw
  exact kX0_passes G d n B Pr Lw (pasF n B Pr Lw (mi XNrow)).2.2 1003 (Or.inl rfl) mi si hi sl r nx hF hnx hX hR h0 (Nat.le_refl _)
theorem kX0_passesT (G : au_G) (d : Nat) (n : Int) (B Pr : Int → Int) (Lw : au_Lw) (R : Int → Int) (mi si hi sl : au_A → Int → Int) (r : au_A → Int → Option au_A) (nx : Nat) (hF : Fix r) (hnx : 1126 ≤ nx) (hX : EnX r hi mi d n B Pr Lw) (hRw : mi XTried = R) (hR : RowOK R n B) (h0 : R 0 < 9999) : au_Ctr G yX0_passes cX0_passes 5 (some .int) (d + 10) (pasF n B Pr Lw R).2.2 (4 * (pasF n B Pr Lw R).2.2) [au_r XO, au_r XTried] (mi, si, hi, sl, r, nx) (fun rv M' => rv = some (au_i (pasF n B Pr Lw R).2.1) ∧ ∃ (sj : au_A → Int → Int) (nx' : Nat), nx ≤ nx' ∧ M' = (rowS mi XTried (pasF n B Pr Lw R).1, sj, hi, sl, r, nx')) := by
  subst hRw
  exact kX0_passes G d n B Pr Lw (pasF n B Pr Lw (mi XTried)).2.2 1107 (Or.inr rfl) mi si hi sl r nx hF hnx hX hR h0 (Nat.le_refl _)
theorem kX0_day (G : au_G) (d : Nat) (Lw : au_Lw) (z : Int) (n : Int) (B Pr Co R : Int → Int) (ns : Int) (S : Nat → Int → Int) (c : Nat) (mi si hi sl : au_A → Int → Int) (r : au_A → Int → Option au_A) (nx : Nat) (hF : Fix r) (hnx : 1126 ≤ nx) (hX : EnX r hi mi d n B Pr Lw) (hY : XY mi (n, B, Pr, Co, R, ns, S)) (hK : YOK (n, B, Pr, Co, R, ns, S)) (hc : (1 ≤ z ∧ z ≤ 60) ∧ R 0 + z ≤ 9999 → (paY Lw z.toNat (n, B, Pr, Co, R, ns, S)).2.2.2 ≤ c) : au_Ctr G yX0_day cX0_day 4 (some .int) (d + 11) c (4 * c) [au_r XO, au_i z] (mi, si, hi, sl, r, nx) (PoX hi sl r nx mi (some (au_i (dayY Lw (n, B, Pr, Co, R, ns, S) z).1)) (dayY Lw (n, B, Pr, Co, R, ns, S) z).2) := by
  refine au_of (by decide) (Nat.le_of_ble_eq_true rfl) ?_
  obtain ⟨jN, jE, jPr, jCo, jRw, jSt⟩ := id hY
  obtain ⟨jB, jP9, jC0, jR, jns, jSR⟩ := id hK
  have hN : mi XNn 0 = n := jN
  have hE : ∀ o, 0 ≤ o → o < 10 → mi XNboss o = B o := jE
  have hPr : ∀ o, 0 ≤ o → o < 10 → mi XNpride o = Pr o := jPr
  have hCo : ∀ o, 0 ≤ o → o < 10 → mi XNcousin o = Co o := jCo
  have hRw : mi XNrow = R := jRw
  have hSt : StX mi ns S := jSt
  have hB : Bs B n := jB
  have hns : 0 ≤ ns ∧ ns ≤ 30 := jns
  have hb1 := hB.1
  have hb0 := hB.2.1
  have hn : 0 ≤ n ∧ n ≤ 10 := ⟨hb1, hb0⟩
  have hR : RowOK R n B := jR
  subst hRw
  obtain ⟨⟨r0, r0b⟩, ⟨r1, r1b⟩, ⟨r2, r2b⟩, ⟨r83, r83b⟩, rA⟩ := id hR.1
  have hq : 1003 = 1003 ∨ 1003 = 1107 := Or.inl rfl
  show au_Go G _ _ 0 [some (au_r XO), some (au_i z), none, none] [] (mi, si, hi, sl, r, nx) 0 0
  refine au_iload_n dX0_day_0 rfl ?_
  refine au_iconst dX0_day_1 rfl rfl ?_
  refine au_bipush dX0_day_2 rfl rfl ?_
  refine au_callSp (n := 3) (kX0_in G z 1 60 (mi, si, hi, sl, r, nx)) (lw_S q300 q301 q130 q302) (by decide +kernel) rfl rfl rfl (Nat.le_of_ble_eq_true rfl) (Nat.le_of_ble_eq_true rfl) (Nat.le_of_ble_eq_true rfl) (by show _ ≤ c; omega) (by show _ ≤ 4 * c; omega) dX0_day_4 ?_
  refine au_if_eq (tgt := 27) dX0_day_7 (by decide) (fun c7 => ?_) (fun c7 => ?_)
  · have c7 := au_b0 c7
    refine au_iconst dX0_day_27 rfl rfl ?_
    refine au_iret dX0_day_28 rfl rfl (by show _ ≤ c; omega) (by show _ ≤ 4 * c; omega) ?_
    first
    | exact PoX.of (show dayY Lw (n, B, Pr, Co, mi XNrow, ns, S) z = _ from if_neg (fun q => c7 q.1)) (Nat.le_refl _) hY (FrX.rf mi) rfl
    | exact PoX.of (show dayY Lw (n, B, Pr, Co, mi XNrow, ns, S) z = _ from if_neg (fun q => (show ¬ (mi XNrow 0 + z ≤ 9999) by omega) q.2)) (Nat.le_refl _) hY (FrX.rf mi) rfl
  · have c7 := au_b1 c7
    refine au_aload_n dX0_day_10 rfl ?_
    refine au_getf (C := RX0) (T := TX0) (N := 15) in_X0 (by decide) rfl 0 (by decide) rfl rfl q245 rfl dX0_day_11 (v := au_r XN) (congrArg au_q (fx_XO_0 hF)) ?_
    refine au_getN (C := RX1) (T := TX1) (N := 11) in_X1 (by decide) rfl 1 (by decide) rfl rfl q189 rfl dX0_day_14 (v := au_r XNrow) (congrArg au_q (fx_XN_1 hF)) ?_
    refine au_iconst dX0_day_17 rfl rfl ?_
    refine au_iald dX0_day_18 rfl (by omega) (by show _ < ((204 : Nat) : Int); omega) (v := au_i ((mi XNrow) 0)) (congrArg au_i (au_gi_m (show au_reg XNrow _ = 0 from au_reg_row hq _))) ?_
    refine au_iload_n dX0_day_19 rfl ?_
    refine au_iadd dX0_day_20 (by omega) (by omega) ?_
    refine au_sipush dX0_day_21 rfl rfl ?_
    refine au_icmp_le (tgt := 29) dX0_day_24 (by decide) (fun c24 => ?_) (fun c24 => ?_)
    · refine au_iconst dX0_day_29 rfl rfl ?_
      refine au_istore_n dX0_day_30 (show 2 < 4 by decide) ?_
      show au_Go G _ _ 31 [some (au_r XO), some (au_i z), some (au_i 0), none] [] (mi, si, hi, sl, r, nx) 0 0
      refine au_iconst dX0_day_31 rfl rfl ?_
      refine au_istore_n dX0_day_32 (show 3 < 4 by decide) ?_
      show au_Go G _ _ 33 [some (au_r XO), some (au_i z), some (au_i 0), some (au_i 0)] [] (mi, si, hi, sl, r, nx) 0 0
      have hcc := hc ⟨c7, by omega⟩
      have hl : ∀ (f : Nat) (e : Nat) (Rj : Int → Int) (nj : Int) (Sj : Nat → Int → Int) (dj j : Int) (wj : Nat) (mj sj : au_A → Int → Int) (xj : Nat), j + (e : Int) = z → Rj 0 + (e : Int) ≤ 9999 → (0 ≤ dj ∧ dj ≤ 20 * j) → YOK (n, B, Pr, Co, Rj, nj, Sj) → XY mj (n, B, Pr, Co, Rj, nj, Sj) → FrX mi mj → EnX r hi mj d n B Pr Lw → nx ≤ xj → wj + (paY Lw e (n, B, Pr, Co, Rj, nj, Sj)).2.2.2 ≤ c → dj + (paY Lw e (n, B, Pr, Co, Rj, nj, Sj)).2.2.1 = (paY Lw z.toNat (n, B, Pr, Co, mi XNrow, ns, S)).2.2.1 → (paY Lw e (n, B, Pr, Co, Rj, nj, Sj)).2.1 = (paY Lw z.toNat (n, B, Pr, Co, mi XNrow, ns, S)).2.1 → e < f → 0 ≤ j → au_Go G (yX0_day.cls, cX0_day, 4, (some .int), au_rm (d + 11) c (4 * c), yX0_day.name) (au_QM G (au_rm (d + 11) c (4 * c)) (PoX hi sl r nx mi (some (au_i (dayY Lw (n, B, Pr, Co, mi XNrow, ns, S) z).1)) (dayY Lw (n, B, Pr, Co, mi XNrow, ns, S) z).2)) 33 [some (au_r XO), some (au_i z), some (au_i dj), some (au_i j)] [] (mj, sj, hi, sl, r, xj) wj (4 * wj) := by
        intro f
        induction f with
        | zero => intro e Rj nj Sj dj j wj mj sj xj h1 h2 h3 hKj hYj hFj hXj hn3 hw hd hy hf hj; exfalso; omega
        | succ f ih =>
          intro e Rj nj Sj dj j wj mj sj xj h1 h2 h3 hKj hYj hFj hXj hn3 hw hd hy hf hj
          refine au_iload_n dX0_day_33 rfl ?_
          refine au_iload_n dX0_day_34 rfl ?_
          refine au_icmp_ge (tgt := 65) dX0_day_35 (by decide) (fun c35 => ?_) (fun c35 => ?_)
          · refine au_iload_n dX0_day_65 rfl ?_
            refine au_iret dX0_day_66 rfl rfl (by show _ ≤ c; omega) (by show _ ≤ 4 * c; omega) ?_
            have he : e = 0 := by omega
            subst he
            have hd : dj + 0 = _ := hd
            have hy : (n, B, Pr, Co, Rj, nj, Sj) = _ := hy
            rw [hy] at hYj
            exact PoX.of (show dayY Lw (n, B, Pr, Co, mi XNrow, ns, S) z = _ from if_pos ⟨c7, by omega⟩) (by omega) hYj hFj (congrArg au_i (by omega))
          · obtain ⟨e, rfl⟩ : ∃ e', e = e' + 1 := ⟨e - 1, by omega⟩
            have hj0 : Rj 0 < 9999 := by omega
            rw [paY_s e hj0] at hw hd hy
            have hw : wj + (_ + _) ≤ c := hw
            have hd : dj + (_ + _) = _ := hd
            have hRj : RowOK Rj n B := hKj.2.2.2.1
            have hp2 := pasF_20 (Pr := Pr) (Lw := Lw) hB hRj hj0
            have hpk := pasF_ok (Pr := Pr) (Lw := Lw) hB hRj hj0
            refine au_aload_n dX0_day_38 rfl ?_
            refine au_getf (C := RX0) (T := TX0) (N := 15) in_X0 (by decide) rfl 0 (by decide) rfl rfl q245 rfl dX0_day_39 (v := au_r XN) (congrArg au_q (fx_XO_0 hF)) ?_
            refine au_callV (n := 0) (kX1_keeps G nj Sj mj sj hi sl r xj hF hYj.2.2.2.2.2 hKj.2.2.2.2.1) (lw_V q890 q891 q892 q131 q893) rfl (by decide +kernel) (by decide) (T := TX1) (N := 11) rfl rfl rfl rfl (Nat.le_of_ble_eq_true rfl) (by show _ ≤ (d + 11); omega) (by show _ ≤ 80 * (d + 11); omega) (by show _ ≤ c; omega) (by show _ ≤ 4 * c; omega) dX0_day_42 (fun rv_ M_ hp_ => ?_)
            obtain ⟨rfl, m1, rfl, hst, hfr⟩ := hp_
            have hr1 : m1 XNrow = Rj := (hfr.F (by decide) (by decide)).trans hYj.2.2.2.2.1
            have hY1 := hYj.keep hst hfr
            have hX1 := hXj.keep hfr
            show au_Go G _ _ 45 [some (au_r XO), some (au_i z), some (au_i dj), some (au_i j)] [] (m1, sj, hi, sl, r, xj) wj (4 * wj)
            refine au_iload_n dX0_day_45 rfl ?_
            refine au_aload_n dX0_day_46 rfl ?_
            refine au_aload_n dX0_day_47 rfl ?_
            refine au_getf (C := RX0) (T := TX0) (N := 15) in_X0 (by decide) rfl 0 (by decide) rfl rfl q245 rfl dX0_day_48 (v := au_r XN) (congrArg au_q (fx_XO_0 hF)) ?_
            refine au_getN (C := RX1) (T := TX1) (N := 11) in_X1 (by decide) rfl 1 (by decide) rfl rfl q189 rfl dX0_day_51 (v := au_r XNrow) (congrArg au_q (fx_XN_1 hF)) ?_
            refine au_callV (n := 1) (kX0_passesN G d n B Pr Lw Rj m1 sj hi sl r xj hF (by omega) hX1 hr1 hKj.2.2.2.1 hj0) (lw_V q894 q896 qs25 q130 q897) rfl (by decide +kernel) (by decide) (T := TX0) (N := 15) rfl rfl rfl rfl (Nat.le_of_ble_eq_true rfl) (by show _ ≤ (d + 11); omega) (by show _ ≤ 80 * (d + 11); omega) (by show _ ≤ c; omega) (by show _ ≤ 4 * c; omega) dX0_day_54 (fun rv_ M_ hp_ => ?_)
            obtain ⟨rfl, s2, n2, hn2, rfl⟩ := hp_
            show au_Go G _ _ 57 [some (au_r XO), some (au_i z), some (au_i dj), some (au_i j)] [au_i ((pasF n B Pr Lw Rj).2.1), au_i dj] ((rowS m1 XNrow (pasF n B Pr Lw Rj).1), s2, hi, sl, r, n2) (wj + ((pasF n B Pr Lw Rj).2.2)) ((4 * wj) + (4 * (pasF n B Pr Lw Rj).2.2))
            refine au_iadd dX0_day_57 (by omega) (by omega) ?_
            refine au_istore_n dX0_day_58 (show 2 < 4 by decide) ?_
            show au_Go G _ _ 59 [some (au_r XO), some (au_i z), some (au_i (dj + ((pasF n B Pr Lw Rj).2.1))), some (au_i j)] [] ((rowS m1 XNrow (pasF n B Pr Lw Rj).1), s2, hi, sl, r, n2) (wj + ((pasF n B Pr Lw Rj).2.2)) ((4 * wj) + (4 * (pasF n B Pr Lw Rj).2.2))
            refine au_iinc dX0_day_59 rfl (show 3 < 4 by decide) (by omega) (by omega) (by decide) (by decide) ?_
            show au_Go G _ _ 62 [some (au_r XO), some (au_i z), some (au_i (dj + ((pasF n B Pr Lw Rj).2.1))), some (au_i (j + 1))] [] ((rowS m1 XNrow (pasF n B Pr Lw Rj).1), s2, hi, sl, r, n2) (wj + ((pasF n B Pr Lw Rj).2.2)) ((4 * wj) + (4 * (pasF n B Pr Lw Rj).2.2))
            refine au_goto (tgt := 33) dX0_day_62 (by decide) ?_
            rw [show 4 * wj + 4 * (pasF n B Pr Lw Rj).2.2 = 4 * (wj + (pasF n B Pr Lw Rj).2.2) by omega]
            exact ih e _ _ _ _ _ _ _ _ _ (by omega) (by rw [hpk.2.2.1]; omega) ⟨by omega, by omega⟩ (hKj.pass hj0) (hY1.row _) ((hFj.tr hfr.X).tr (FrX.row _ _)) (hX1.row 1003 hq _) (by omega) (by omega) (by omega) hy (by omega) (by omega)
      exact hl (z.toNat + 1) z.toNat (mi XNrow) ns S 0 0 0 mi si nx (by omega) (by omega) ⟨by omega, by omega⟩ hK hY (FrX.rf mi) hX (Nat.le_refl _) (by omega) (by omega) rfl (by omega) (by omega)
    · refine au_iconst dX0_day_27 rfl rfl ?_
      refine au_iret dX0_day_28 rfl rfl (by show _ ≤ c; omega) (by show _ ≤ 4 * c; omega) ?_
      first
      | exact PoX.of (show dayY Lw (n, B, Pr, Co, mi XNrow, ns, S) z = _ from if_neg (fun q => c7 q.1)) (Nat.le_refl _) hY (FrX.rf mi) rfl
      | exact PoX.of (show dayY Lw (n, B, Pr, Co, mi XNrow, ns, S) z = _ from if_neg (fun q => (show ¬ (mi XNrow 0 + z ≤ 9999) by omega) q.2)) (Nat.le_refl _) hY (FrX.rf mi) rfl
theorem kX0_passesAll (G : au_G) (d : Nat) (Lw : au_Lw) (z : Int) (n : Int) (B Pr Co R : Int → Int) (ns : Int) (S : Nat → Int → Int) (c : Nat) (mi si hi sl : au_A → Int → Int) (r : au_A → Int → Option au_A) (nx : Nat) (hF : Fix r) (hnx : 1126 ≤ nx) (hX : EnX r hi mi d n B Pr Lw) (hY : XY mi (n, B, Pr, Co, R, ns, S)) (hK : YOK (n, B, Pr, Co, R, ns, S)) (hz : 0 ≤ z ∧ z ≤ 60) (hc : (paY Lw z.toNat (n, B, Pr, Co, R, ns, S)).2.2.2 ≤ c) : au_Ctr G yX0_passesAll cX0_passesAll 3 (some .boolean) (d + 12) c (4 * c) [au_r XO, au_i z] (mi, si, hi, sl, r, nx) (PoX hi sl r nx mi (some (au_i (paY Lw z.toNat (n, B, Pr, Co, R, ns, S)).1)) (paY Lw z.toNat (n, B, Pr, Co, R, ns, S)).2.1) := by
  refine au_of (by decide) (Nat.le_of_ble_eq_true rfl) ?_
  show au_Go G _ _ 0 [some (au_r XO), some (au_i z), none] [] (mi, si, hi, sl, r, nx) 0 0
  refine au_iconst dX0_passesAll_0 rfl rfl ?_
  refine au_istore_n dX0_passesAll_1 (show 2 < 3 by decide) ?_
  show au_Go G _ _ 2 [some (au_r XO), some (au_i z), some (au_i 0)] [] (mi, si, hi, sl, r, nx) 0 0
  have hl : ∀ (f : Nat) (e : Nat) (Rj : Int → Int) (nj : Int) (Sj : Nat → Int → Int) (j : Int) (wj : Nat) (mj sj : au_A → Int → Int) (xj : Nat), j + (e : Int) = z → YOK (n, B, Pr, Co, Rj, nj, Sj) → XY mj (n, B, Pr, Co, Rj, nj, Sj) → FrX mi mj → EnX r hi mj d n B Pr Lw → nx ≤ xj → wj + (paY Lw e (n, B, Pr, Co, Rj, nj, Sj)).2.2.2 ≤ c → (paY Lw e (n, B, Pr, Co, Rj, nj, Sj)).1 = (paY Lw z.toNat (n, B, Pr, Co, R, ns, S)).1 → (paY Lw e (n, B, Pr, Co, Rj, nj, Sj)).2.1 = (paY Lw z.toNat (n, B, Pr, Co, R, ns, S)).2.1 → e < f → 0 ≤ j → au_Go G (yX0_passesAll.cls, cX0_passesAll, 3, (some .boolean), au_rm (d + 12) c (4 * c), yX0_passesAll.name) (au_QM G (au_rm (d + 12) c (4 * c)) (PoX hi sl r nx mi (some (au_i (paY Lw z.toNat (n, B, Pr, Co, R, ns, S)).1)) (paY Lw z.toNat (n, B, Pr, Co, R, ns, S)).2.1)) 2 [some (au_r XO), some (au_i z), some (au_i j)] [] (mj, sj, hi, sl, r, xj) wj (4 * wj) := by
    intro f
    induction f with
    | zero => intro e Rj nj Sj j wj mj sj xj h1 hKj hYj hFj hXj hn3 hw hb hy hf hj; exfalso; omega
    | succ f ih =>
      intro e Rj nj Sj j wj mj sj xj h1 hKj hYj hFj hXj hn3 hw hb hy hf hj
      have hw0 : wj ≤ c := Nat.le_trans (Nat.le_add_right _ _) hw
      refine au_iload_n dX0_passesAll_2 rfl ?_
      refine au_iload_n dX0_passesAll_3 rfl ?_
      refine au_icmp_ge (tgt := 24) dX0_passesAll_4 (by decide) (fun c4 => ?_) (fun c4 => ?_)
      · refine au_iconst dX0_passesAll_24 rfl rfl ?_
        refine au_zret dX0_passesAll_25 rfl (Or.inr rfl) rfl (by show _ ≤ c; omega) (by show _ ≤ 4 * c; omega) ?_
        have he : e = 0 := by omega
        subst he
        have hy : (n, B, Pr, Co, Rj, nj, Sj) = _ := hy
        rw [hy] at hYj
        exact ⟨by rw [← hb]; rfl, mj, sj, xj, by omega, rfl, hYj, hFj⟩
      · obtain ⟨e, rfl⟩ : ∃ e', e = e' + 1 := ⟨e - 1, by omega⟩
        have hRj : RowOK Rj n B := hKj.2.2.2.1
        have hdj : 0 ≤ Rj 0 ∧ Rj 0 ≤ 9999 := hRj.1.1
        have hw1 : wj + (paY Lw 1 (n, B, Pr, Co, Rj, nj, Sj)).2.2.2 ≤ c := by
          by_cases h0 : Rj 0 < 9999
          · rw [paY_s e h0] at hw
            rw [paY_s 0 h0]
            have hw : wj + (_ + _) ≤ c := hw
            show wj + (_ + 0) ≤ c
            omega
          · rw [paY_n 0 h0]
            show wj + 0 ≤ c
            omega
        refine au_aload_n dX0_passesAll_7 rfl ?_
        refine au_iconst dX0_passesAll_8 rfl rfl ?_
        refine au_callV (n := 1) (kX0_day G d Lw 1 n B Pr Co Rj nj Sj (paY Lw 1 (n, B, Pr, Co, Rj, nj, Sj)).2.2.2 mj sj hi sl r xj hF (by omega) hXj hYj hKj (fun _ => Nat.le_refl _)) (lw_V q1138 q887 q888 q130 q889) rfl (by decide +kernel) (by decide) (T := TX0) (N := 15) rfl rfl rfl rfl (Nat.le_of_ble_eq_true rfl) (by show _ ≤ (d + 12); omega) (by show _ ≤ 80 * (d + 12); omega) (by show _ ≤ c; omega) (by show _ ≤ 4 * c; omega) dX0_passesAll_9 (fun rv_ M_ hp_ => ?_)
        obtain ⟨rfl, m2, s2, n2, hn2, rfl, hY2, hF2⟩ := hp_
        show au_Go G _ _ 12 [some (au_r XO), some (au_i z), some (au_i j)] [au_i ((dayY Lw (n, B, Pr, Co, Rj, nj, Sj) 1).1)] (m2, s2, hi, sl, r, n2) (wj + ((paY Lw 1 (n, B, Pr, Co, Rj, nj, Sj)).2.2.2)) ((4 * wj) + (4 * (paY Lw 1 (n, B, Pr, Co, Rj, nj, Sj)).2.2.2))
        refine au_iconst dX0_passesAll_12 rfl rfl ?_
        refine au_icmp_ne (tgt := 18) dX0_passesAll_13 (by decide) (fun c13 => ?_) (fun c13 => ?_)
        · refine au_iinc dX0_passesAll_18 rfl (show 2 < 3 by decide) (by omega) (by omega) (by decide) (by decide) ?_
          show au_Go G _ _ 21 [some (au_r XO), some (au_i z), some (au_i (j + 1))] [] (m2, s2, hi, sl, r, n2) (wj + ((paY Lw 1 (n, B, Pr, Co, Rj, nj, Sj)).2.2.2)) ((4 * wj) + (4 * (paY Lw 1 (n, B, Pr, Co, Rj, nj, Sj)).2.2.2))
          refine au_goto (tgt := 2) dX0_passesAll_21 (by decide) ?_
          have h0 : Rj 0 < 9999 := Classical.byContradiction fun q => c13 (congrArg Prod.fst (show (dayY Lw (n, B, Pr, Co, Rj, nj, Sj) 1) = (-1, (n, B, Pr, Co, Rj, nj, Sj)) from if_neg (fun z => q (by have := z.2; show Rj 0 < 9999; have h9 : Rj 0 + 1 ≤ 9999 := this; omega))))
          have e1 : (dayY Lw (n, B, Pr, Co, Rj, nj, Sj) 1) = ((paY Lw 1 (n, B, Pr, Co, Rj, nj, Sj)).2.2.1, (paY Lw 1 (n, B, Pr, Co, Rj, nj, Sj)).2.1) := if_pos ⟨⟨by decide, by decide⟩, by show Rj 0 + 1 ≤ 9999; omega⟩
          rw [e1, paY_s 0 h0] at hY2
          rw [paY_s e h0] at hw hb hy
          have e5 : (paY Lw 1 (n, B, Pr, Co, Rj, nj, Sj)).2.2.2 = (pasF n B Pr Lw Rj).2.2 := by rw [paY_s 0 h0]; rfl
          rw [e5]
          have hBj : Bs B n := hKj.1
          have hpk := pasF_ok (Pr := Pr) (Lw := Lw) hBj hRj h0
          have hw : wj + (_ + _) ≤ c := hw
          rw [show 4 * wj + 4 * (pasF n B Pr Lw Rj).2.2 = 4 * (wj + (pasF n B Pr Lw Rj).2.2) by omega]
          refine ih e _ _ _ _ _ _ _ _ (by omega) (hKj.pass h0) hY2 (hFj.tr hF2) (EnX.fr hXj hF2 hY2) (by omega) (by omega) hb hy (by omega) (by omega)
        · refine au_iconst dX0_passesAll_16 rfl rfl ?_
          refine au_zret dX0_passesAll_17 rfl (Or.inl rfl) rfl (by show _ ≤ c; omega) (by show _ ≤ 4 * c; omega) ?_
          have e1 : ¬ Rj 0 < 9999 := fun h0 => by
            have e1 : (dayY Lw (n, B, Pr, Co, Rj, nj, Sj) 1) = ((paY Lw 1 (n, B, Pr, Co, Rj, nj, Sj)).2.2.1, (paY Lw 1 (n, B, Pr, Co, Rj, nj, Sj)).2.1) := if_pos ⟨⟨by decide, by decide⟩, by show Rj 0 + 1 ≤ 9999; omega⟩
            rw [e1, paY_s 0 h0] at c13
            have hBj : Bs B n := hKj.1
            have h3 := pasF_20 (Pr := Pr) (Lw := Lw) hBj hRj h0
            have c13 : _ + (0 : Int) = -1 := c13
            omega
          have e2 : (dayY Lw (n, B, Pr, Co, Rj, nj, Sj) 1) = (-1, (n, B, Pr, Co, Rj, nj, Sj)) := if_neg (fun z => e1 (by have h9 : Rj 0 + 1 ≤ 9999 := z.2; omega))
          rw [paY_n e e1] at hb hy
          rw [e2] at hY2
          have hy : (n, B, Pr, Co, Rj, nj, Sj) = _ := hy
          rw [hy] at hY2
          exact ⟨by rw [← hb], m2, s2, n2, by omega, rfl, hY2, hFj.tr hF2⟩
  exact hl (z.toNat + 1) z.toNat R ns S 0 0 mi si nx (by omega) hK hY (FrX.rf mi) hX (Nat.le_refl _) (by omega) rfl rfl (by omega) (by omega)
theorem kX0_undo (G : au_G) (n : Int) (B Pr Co R : Int → Int) (ns : Int) (S : Nat → Int → Int) (mi si hi sl : au_A → Int → Int) (r : au_A → Int → Option au_A) (nx : Nat) (hF : Fix r) (hY : XY mi (n, B, Pr, Co, R, ns, S)) (hK : YOK (n, B, Pr, Co, R, ns, S)) : au_Ctr G yX0_undo cX0_undo 1 (some .int) 2 0 0 [au_r XO] (mi, si, hi, sl, r, nx) (PoX hi sl r nx mi (some (au_i (undY (n, B, Pr, Co, R, ns, S)).1)) (undY (n, B, Pr, Co, R, ns, S)).2) := by
  refine au_of (by decide) (Nat.le_of_ble_eq_true rfl) ?_
  obtain ⟨jN, jE, jPr, jCo, jRw, jSt⟩ := id hY
  obtain ⟨jB, jP9, jC0, jR, jns, jSR⟩ := id hK
  have hN : mi XNn 0 = n := jN
  have hE : ∀ o, 0 ≤ o → o < 10 → mi XNboss o = B o := jE
  have hPr : ∀ o, 0 ≤ o → o < 10 → mi XNpride o = Pr o := jPr
  have hCo : ∀ o, 0 ≤ o → o < 10 → mi XNcousin o = Co o := jCo
  have hRw : mi XNrow = R := jRw
  have hSt : StX mi ns S := jSt
  have hB : Bs B n := jB
  have hns : 0 ≤ ns ∧ ns ≤ 30 := jns
  have hb1 := hB.1
  have hb0 := hB.2.1
  have hn : 0 ≤ n ∧ n ≤ 10 := ⟨hb1, hb0⟩
  have hR : RowOK R n B := jR
  subst hRw
  obtain ⟨⟨r0, r0b⟩, ⟨r1, r1b⟩, ⟨r2, r2b⟩, ⟨r83, r83b⟩, rA⟩ := id hR.1
  have hq : 1003 = 1003 ∨ 1003 = 1107 := Or.inl rfl
  obtain ⟨m, rfl⟩ : ∃ m : Nat, ns = (m : Int) := ⟨ns.toNat, by omega⟩
  show au_Go G _ _ 0 [some (au_r XO)] [] (mi, si, hi, sl, r, nx) 0 0
  refine au_aload_n dX0_undo_0 rfl ?_
  refine au_getf (C := RX0) (T := TX0) (N := 15) in_X0 (by decide) rfl 0 (by decide) rfl rfl q245 rfl dX0_undo_1 (v := au_r XN) (congrArg au_q (fx_XO_0 hF)) ?_
  refine au_getN (C := RX1) (T := TX1) (N := 11) in_X1 (by decide) rfl 0 (by decide) rfl rfl q187 rfl dX0_undo_4 (v := au_r XNn) (congrArg au_q (fx_XN_0 hF)) ?_
  refine au_iconst dX0_undo_7 rfl rfl ?_
  refine au_iald dX0_undo_8 rfl (by omega) (by show _ < ((6 : Nat) : Int); omega) (v := au_i ((m : Int))) (congrArg au_i hSt.1) ?_
  refine au_if_ne (tgt := 14) dX0_undo_9 (by decide) (fun c9 => ?_) (fun c9 => ?_)
  · refine au_aload_n dX0_undo_14 rfl ?_
    refine au_getf (C := RX0) (T := TX0) (N := 15) in_X0 (by decide) rfl 0 (by decide) rfl rfl q245 rfl dX0_undo_15 (v := au_r XN) (congrArg au_q (fx_XO_0 hF)) ?_
    refine au_getN (C := RX1) (T := TX1) (N := 11) in_X1 (by decide) rfl 0 (by decide) rfl rfl q187 rfl dX0_undo_18 (v := au_r XNn) (congrArg au_q (fx_XN_0 hF)) ?_
    refine au_iconst dX0_undo_21 rfl rfl ?_
    refine au_dup2 dX0_undo_22 rfl rfl ?_
    refine au_iald dX0_undo_23 rfl (by omega) (by show _ < ((6 : Nat) : Int); omega) (v := au_i ((m : Int))) (congrArg au_i hSt.1) ?_
    refine au_iconst dX0_undo_24 rfl rfl ?_
    refine au_isub dX0_undo_25 (by omega) (by omega) ?_
    refine au_iast dX0_undo_26 rfl (by decide) (by omega) (by show _ < ((6 : Nat) : Int); omega) (M' := ((au_up mi XNn 3 ((m : Int) - 1)), si, hi, sl, r, nx)) (by rfl) ?_
    refine au_aload_n dX0_undo_27 rfl ?_
    refine au_getf (C := RX0) (T := TX0) (N := 15) in_X0 (by decide) rfl 0 (by decide) rfl rfl q245 rfl dX0_undo_28 (v := au_r XN) (congrArg au_q (fx_XO_0 hF)) ?_
    refine au_getN (C := RX1) (T := TX1) (N := 11) in_X1 (by decide) rfl 9 (by decide) rfl rfl q205 rfl dX0_undo_31 (v := au_r XNstep) (congrArg au_q (fx_XN_9 hF)) ?_
    refine au_aload_n dX0_undo_34 rfl ?_
    refine au_getf (C := RX0) (T := TX0) (N := 15) in_X0 (by decide) rfl 0 (by decide) rfl rfl q245 rfl dX0_undo_35 (v := au_r XN) (congrArg au_q (fx_XO_0 hF)) ?_
    refine au_getN (C := RX1) (T := TX1) (N := 11) in_X1 (by decide) rfl 0 (by decide) rfl rfl q187 rfl dX0_undo_38 (v := au_r XNn) (congrArg au_q (fx_XN_0 hF)) ?_
    refine au_iconst dX0_undo_41 rfl rfl ?_
    refine au_iald dX0_undo_42 rfl (by omega) (by show _ < ((6 : Nat) : Int); omega) (v := au_i ((m : Int) - 1)) (by rfl) ?_
    refine au_aald dX0_undo_43 (by decide) (by decide) (by omega) (by show _ < ((30 : Nat) : Int); omega) (v := au_r (1022 + (m - 1), 204, 40)) (congrArg au_q ((by rw [show (m : Int) - 1 = ((m - 1 : Nat) : Int) by omega]; exact (hF.2.1 (m - 1) (by omega)).1))) ?_
    refine au_aload_n dX0_undo_44 rfl ?_
    refine au_getf (C := RX0) (T := TX0) (N := 15) in_X0 (by decide) rfl 0 (by decide) rfl rfl q245 rfl dX0_undo_45 (v := au_r XN) (congrArg au_q (fx_XO_0 hF)) ?_
    refine au_getN (C := RX1) (T := TX1) (N := 11) in_X1 (by decide) rfl 1 (by decide) rfl rfl q189 rfl dX0_undo_48 (v := au_r XNrow) (congrArg au_q (fx_XN_1 hF)) ?_
    refine au_callSN (n := 2) (kX1_copy G (1022 + (m - 1)) 1003 204 204 (au_up mi XNn 3 ((m : Int) - 1)) si hi sl r nx (fun j => au_reg_lo (by omega) (by omega) j) (fun j => au_reg_lo (by omega) (by omega) j) (by omega) (by omega) (by omega)) q1155 q237 q131 q238 (by decide +kernel) rfl rfl rfl (Nat.le_of_ble_eq_true rfl) (Nat.le_of_ble_eq_true rfl) (Nat.le_of_ble_eq_true rfl) (Nat.le_of_ble_eq_true rfl) (Nat.le_of_ble_eq_true rfl) dX0_undo_51 (fun rv_ M_ hp_ => ?_)
    obtain ⟨rfl, rfl⟩ := hp_
    show au_Go G _ _ 54 [some (au_r XO)] [] ((rowS (au_up mi XNn 3 ((m : Int) - 1)) XNrow (mv1 ((au_up mi XNn 3 ((m : Int) - 1)) (1022 + (m - 1), 204, 40)) ((au_up mi XNn 3 ((m : Int) - 1)) XNrow) 0 0 ((204 : Nat) : Int))), si, hi, sl, r, nx) 0 0
    refine au_aload_n dX0_undo_54 rfl ?_
    refine au_getf (C := RX0) (T := TX0) (N := 15) in_X0 (by decide) rfl 0 (by decide) rfl rfl q245 rfl dX0_undo_55 (v := au_r XN) (congrArg au_q (fx_XO_0 hF)) ?_
    refine au_getN (C := RX1) (T := TX1) (N := 11) in_X1 (by decide) rfl 0 (by decide) rfl rfl q187 rfl dX0_undo_58 (v := au_r XNn) (congrArg au_q (fx_XN_0 hF)) ?_
    refine au_iconst dX0_undo_61 rfl rfl ?_
    refine au_iald dX0_undo_62 rfl (by omega) (by show _ < ((6 : Nat) : Int); omega) (v := au_i ((m : Int) - 1)) (congrArg au_i (show (rowS (au_up mi XNn 3 ((m : Int) - 1)) XNrow (mv1 ((au_up mi XNn 3 ((m : Int) - 1)) (1022 + (m - 1), 204, 40)) ((au_up mi XNn 3 ((m : Int) - 1)) XNrow) 0 0 ((204 : Nat) : Int))) XNn 3 = (m : Int) - 1 from (rowS_ne _ _ _ (show XNn ≠ XNrow by decide)).trans (au_up_self _ _ _ _))) ?_
    refine au_iret dX0_undo_63 rfl rfl (Nat.le_of_ble_eq_true rfl) (Nat.le_of_ble_eq_true rfl) ?_
    have e1 : au_up mi XNn 3 ((m : Int) - 1) (1022 + (m - 1), 204, 40) = S (m - 1) := (au_up_neF _ _ _ (ne1 (by show 1022 + (m - 1) ≠ 1002; omega))).trans (hSt.2 (m - 1) (by omega))
    have e2 : au_up mi XNn 3 ((m : Int) - 1) XNrow = mi XNrow := au_up_neF _ _ _ (by decide)
    refine PoX.of (w := (m : Int) - 1) (y := (n, B, Pr, Co, mv1 (S (m - 1)) (mi XNrow) 0 0 204, (m : Int) - 1, S)) ?_ (Nat.le_refl _) ?_ ((FrX.n3 mi _).tr (FrX.row _ _)) rfl
    · rw [show undY (n, B, Pr, Co, mi XNrow, (m : Int), S) = _ from if_neg c9]
      show ((m : Int) - 1, (n, B, Pr, Co, mv1 (S ((m : Int) - 1).toNat) (mi XNrow) 0 0 204, (m : Int) - 1, S)) = _
      rw [show ((m : Int) - 1).toNat = m - 1 by omega]
    · rw [e1]
      have h3 := (hY.n3 ((m : Int) - 1)).row (mv1 (S (m - 1)) (au_up mi XNn 3 ((m : Int) - 1) XNrow) 0 0 ((204 : Nat) : Int))
      rw [e2] at h3 ⊢
      exact h3
  · refine au_iconst dX0_undo_12 rfl rfl ?_
    exact au_iret dX0_undo_13 rfl rfl (Nat.le_of_ble_eq_true rfl) (Nat.le_of_ble_eq_true rfl) (PoX.of (show undY (n, B, Pr, Co, mi XNrow, (m : Int), S) = _ from if_pos c9) (Nat.le_refl _) hY (FrX.rf mi) rfl)
