/-! PURE: a row stays well formed; a day of a row -/
set_option maxRecDepth 100000
theorem chB_fuel {B : Int → Int} {n : Int} (hB : Bs B n) {a : Int} (ha : 0 ≤ a) : ∀ (k : Nat) (u : Int), -1 ≤ u → u < n → u < (k : Int) → (chB B a (k + 1) u ↔ chB B a k u) := by
  intro k
  induction k with
  | zero =>
    intro u h0 h1 h2
    simp only [chB]
    constructor
    · rintro (h | h)
      · omega
      · exact h.1 (by omega)
    · exact fun h => h.elim
  | succ k ih =>
    intro u h0 h1 h2
    have e : chB B a (k + 1 + 1) u ↔ (u = a ∨ (¬ u = -1 ∧ chB B a (k + 1) (B u))) := Iff.rfl
    have e2 : chB B a (k + 1) u ↔ (u = a ∨ (¬ u = -1 ∧ chB B a k (B u))) := Iff.rfl
    rw [e, e2]
    by_cases hu : u = -1
    · constructor
      · rintro (h | h)
        · exact Or.inl h
        · exact absurd hu h.1
      · rintro (h | h)
        · exact Or.inl h
        · exact absurd hu h.1
    · have h3 := hB.2.2 u (by omega) h1
      have h4 := ih (B u) h3.2.1 (by omega) (by omega)
      constructor
      · rintro (h | h)
        · exact Or.inl h
        · exact Or.inr ⟨hu, h4.mp h.2⟩
      · rintro (h | h)
        · exact Or.inl h
        · exact Or.inr ⟨hu, h4.mpr h.2⟩
theorem below_iff {B : Int → Int} {n : Int} (hB : Bs B n) {o a : Int} (h0 : 0 ≤ o) (h1 : o < n) (ha : 0 ≤ a) : below B o a ↔ (B o = a ∨ (¬ B o = -1 ∧ below B (B o) a)) := by
  have hb0 := hB.2.1
  have h3 := hB.2.2 o h0 h1
  have e : below B o a ↔ (B o = a ∨ (¬ B o = -1 ∧ chB B a 9 (B (B o)))) := Iff.rfl
  rw [e]
  by_cases hu : B o = -1
  · constructor
    · rintro (h | h)
      · exact Or.inl h
      · exact absurd hu h.1
    · rintro (h | h)
      · exact Or.inl h
      · exact absurd hu h.1
  · have h4 := hB.2.2 (B o) (by omega) (by omega)
    have h5 := chB_fuel hB ha 9 (B (B o)) h4.2.1 (by omega) (by omega)
    constructor
    · rintro (h | h)
      · exact Or.inl h
      · exact Or.inr ⟨hu, h5.mpr h.2⟩
    · rintro (h | h)
      · exact Or.inl h
      · exact Or.inr ⟨hu, h5.mp h.2⟩
/-- who is below somebody has a boss -/
theorem below_boss {B : Int → Int} {n : Int} (hB : Bs B n) {o a : Int} (h0 : 0 ≤ o) (h1 : o < n) (ha : 0 ≤ a) (h : below B o a) : 0 ≤ B o ∧ B o < n := by
  have h3 := hB.2.2 o h0 h1
  rcases (below_iff hB h0 h1 ha).mp h with h | h
  · omega
  · omega
theorem below_step {B : Int → Int} {n : Int} (hB : Bs B n) {o a : Int} (h0 : 0 ≤ o) (h1 : o < n) (ha : 0 ≤ a) (h : below B o a) (hne : ¬ B o = a) : below B (B o) a := by
  rcases (below_iff hB h0 h1 ha).mp h with h | h
  · exact absurd h hne
  · exact h.2
theorem toW_below {B : Int → Int} {n : Int} (hB : Bs B n) {a : Int} (ha : 0 ≤ a) : ∀ (k : Nat) (u : Int), 0 ≤ u → u < n → u < (k : Int) → chB B a k (B u) → toW B a k u = u ∨ below B u (toW B a k u) := by
  intro k
  induction k with
  | zero => intro u _ _ _ h; exact h.elim
  | succ k ih =>
    intro u h0 h1 h2 h
    have hu := hB.2.2 u h0 h1
    simp only [toW]
    simp only [chB] at h
    split
    · exact Or.inl rfl
    · rename_i q
      rcases h with h | h
      · exact absurd h q
      · obtain ⟨z0, z1, -⟩ := toW_bd hB ha k (B u) (by omega) (by omega) (by omega) h.2
        rcases ih (B u) (by omega) (by omega) (by omega) h.2 with e | e
        · exact Or.inr ((below_iff hB h0 h1 z0).mpr (Or.inl e.symm))
        · exact Or.inr ((below_iff hB h0 h1 z0).mpr (Or.inr ⟨h.1, e⟩))
theorem towards_below {B : Int → Int} {n : Int} (hB : Bs B n) {a o : Int} (ha : 0 ≤ a) (h0 : 0 ≤ o) (h1 : o < n) (h : below B o a) : towards B a o = o ∨ below B o (towards B a o) := toW_below hB ha 10 o h0 h1 (by have := hB.2.1; omega) h
/-- only an apology's places, the draw and the book differ -/
def SmE (R R' : Int → Int) (a : Int) : Prop := ∀ j, j < 83 → j ≠ 1 → ¬ (3 + 7 * a ≤ j ∧ j ≤ 9 + 7 * a) → R' j = R j
theorem SmE.tr {R R' R'' : Int → Int} {a : Int} (h : SmE R R' a) (k : SmE R' R'' a) : SmE R R'' a := fun j x y z => (k j x y z).trans (h j x y z)
theorem SmE.up (R : Int → Int) {a w v : Int} (hw : 0 ≤ w) (hw6 : w ≤ 6) : SmE R (up1 R (3 + 7 * a + w) v) a := fun j _ _ z => up1_ne _ _ (by omega)
theorem SmE.wr {R : Int → Int} (h : 0 ≤ R 83 ∧ R 83 ≤ 30) (a w b : Int) : SmE R (wrF R a w) b := fun j x _ _ => wrF_lo R a w h.1 h.2 x
theorem SmE.dr (R : Int → Int) (b : Int) : SmE R (drF R) b := fun j _ y _ => drF_ne _ y
theorem SmE.ap {R R' : Int → Int} {a : Int} (h : SmE R R' a) {b : Int} (hb : 0 ≤ b) (hb2 : b < 10) (hab : b ≠ a) : ∀ w, 0 ≤ w → w ≤ 6 → R' (3 + 7 * b + w) = R (3 + 7 * b + w) := fun w w0 w6 => h _ (by omega) (by omega) (by omega)
theorem RowOK.sm {R R' : Int → Int} {n : Int} {B : Int → Int} (h : RowOK R n B) {a : Int} (ha : 0 ≤ a) (hI : RowIn R' n) (hS : SmE R R' a) (hA : ApBel R' B a) : RowOK R' n B ∧ R' 2 = R 2 ∧ R' 0 = R 0 := by
  have e2 : R' 2 = R 2 := hS 2 (by decide) (by decide) (by omega)
  have e0 : R' 0 = R 0 := hS 0 (by decide) (by decide) (by omega)
  refine ⟨⟨hI, fun b hb hb2 => ?_⟩, e2, e0⟩
  by_cases hab : b = a
  · rw [hab]; exact hA
  · rw [e2] at hb2
    exact (h.2 b hb hb2).of (hS.ap hb (by have := h.1.2.2.1.2; omega) hab)
section AUQ
variable {n : Int} {B Pr : Int → Int} {Lw : au_Lw}
theorem u1F_in (hB : Bs B n) {R : Int → Int} (h : RowIn R n) {a : Int} (ha : 0 ≤ a) (ha2 : a < R 2) (hb : 0 ≤ B (R (3 + 7 * a + 2)) ∧ B (R (3 + 7 * a + 2)) < n) : RowIn (u1F n B Pr Lw R a) n :=
  (h.up ha ha2 (w := 2) (by decide) (by decide) ⟨by intro _; exact hb, by omega, by omega, by omega⟩).gr ha (by rw [up1_ne _ _ (by omega)]; exact ha2) (lawV_bd Lw 0 _ _ (by decide)).1
theorem u1F_sm (R : Int → Int) (a : Int) : SmE R (u1F n B Pr Lw R a) a := (SmE.up R (w := 2) (by decide) (by decide)).tr (SmE.up _ (w := 3) (by decide) (by decide))
theorem u1F_w (R : Int → Int) (a : Int) {w : Int} (h0 : 0 ≤ w) (h6 : w ≤ 6) : u1F n B Pr Lw R a (3 + 7 * a + w) = if w = 2 then B (R (3 + 7 * a + 2)) else if w = 3 then min 9999 (R (3 + 7 * a + 3) + lawA n B Pr Lw R a (B (R (3 + 7 * a + 2)))) else R (3 + 7 * a + w) := by
  unfold u1F grF
  rw [up1_ne (R := R) (j := 3 + 7 * a + 2) (k := 3 + 7 * a + 3) _ (by omega)]
  unfold up1
  by_cases e2 : w = 2
  · rw [if_neg (by omega), if_pos (by omega), if_pos e2]
  · rw [if_neg e2]
    by_cases e3 : w = 3
    · rw [if_pos (by omega), if_pos e3]
    · rw [if_neg (by omega), if_neg (by omega), if_neg e3]
theorem jdF_ok {R : Int → Int} (hI : RowIn R n) {a : Int} (ha : 0 ≤ a) (ha2 : a < R 2) (h4 : R (3 + 7 * a + 4) = 0) (h2 : R (3 + 7 * a + 2) = R (3 + 7 * a + 1)) (hb : below B (R (3 + 7 * a + 0)) (R (3 + 7 * a + 1))) : RowIn (jdF n B Pr Lw R a) n ∧ SmE R (jdF n B Pr Lw R a) a ∧ ApBel (jdF n B Pr Lw R a) B a := by
  have ha3 : a < drF R 2 := by rw [drF_ne _ (by decide)]; exact ha2
  have ed : ∀ w, 0 ≤ w → w ≤ 6 → drF R (3 + 7 * a + w) = R (3 + 7 * a + w) := fun w w0 w6 => drF_ne _ (by omega)
  have ha10 : a < 10 := by have := hI.2.2.1.2; omega
  unfold jdF
  split
  · have i1 : RowIn (up1 (drF R) (3 + 7 * a + 4) 1) n := hI.dr.up ha ha3 (by decide) (by decide) ⟨by omega, by omega, by intro _; omega, by omega⟩
    have ew : ∀ w, 0 ≤ w → w ≤ 6 → wrF (up1 (drF R) (3 + 7 * a + 4) 1) a 0 (3 + 7 * a + w) = if w = 4 then 1 else R (3 + 7 * a + w) := by
      intro w w0 w6
      rw [wrF_lo _ _ _ i1.2.2.2.1.1 i1.2.2.2.1.2 (by omega)]
      unfold up1
      by_cases e4 : w = 4
      · rw [if_pos (by omega), if_pos e4]
      · rw [if_neg (by omega), if_neg e4, ed w w0 w6]
    refine ⟨i1.wr a 0, ((SmE.dr R a).tr (SmE.up _ (w := 4) (by decide) (by decide))).tr (SmE.wr i1.2.2.2.1 a 0 a), ?_⟩
    unfold ApBel
    rw [ew 0 (by decide) (by decide), ew 1 (by decide) (by decide), ew 2 (by decide) (by decide), ew 4 (by decide) (by decide)]
    simp only [show ¬ ((0 : Int) = 4) by decide, show ¬ ((1 : Int) = 4) by decide, show ¬ ((2 : Int) = 4) by decide, if_false, if_true]
    exact ⟨hb, fun q => absurd q (by decide), fun _ => by rw [h2]; exact hb⟩
  · have i1 : RowIn (rfF (drF R) a) n := hI.dr.rf ha ha3
    have ew : ∀ w, 0 ≤ w → w ≤ 6 → wrF (rfF (drF R) a) a 1 (3 + 7 * a + w) = if w = 2 then R (3 + 7 * a + 0) else if w = 3 then rfF (drF R) a (3 + 7 * a + 3) else R (3 + 7 * a + w) := by
      intro w w0 w6
      rw [wrF_lo _ _ _ i1.2.2.2.1.1 i1.2.2.2.1.2 (by omega)]
      by_cases e3 : w = 3
      · rw [if_neg (by omega), if_pos e3, e3]
      · rw [if_neg e3]
        have e0 : grF (drF R) a (drF R (3 + 7 * a + 3)) (3 + 7 * a + 0) = R (3 + 7 * a + 0) := (grF_ne _ (by omega)).trans (ed 0 (by decide) (by decide))
        unfold rfF
        rw [e0]
        unfold up1
        by_cases e2 : w = 2
        · rw [if_pos (by omega), if_pos e2]
        · rw [if_neg (by omega), if_neg e2, grF_ne _ (by omega), ed w w0 w6]
    refine ⟨i1.wr a 1, (((SmE.dr R a).tr (SmE.up _ (w := 3) (by decide) (by decide))).tr (SmE.up _ (w := 2) (by decide) (by decide))).tr (SmE.wr i1.2.2.2.1 a 1 a), ?_⟩
    unfold ApBel
    rw [ew 0 (by decide) (by decide), ew 1 (by decide) (by decide), ew 2 (by decide) (by decide), ew 4 (by decide) (by decide)]
    simp only [show ¬ ((0 : Int) = 2) by decide, show ¬ ((1 : Int) = 2) by decide, show ¬ ((4 : Int) = 2) by decide, show ¬ ((0 : Int) = 3) by decide, show ¬ ((1 : Int) = 3) by decide, show ¬ ((4 : Int) = 3) by decide, if_false, if_true]
    exact ⟨hb, fun _ => hb, fun q => by rw [h4] at q; exact absurd q (by decide)⟩
theorem upF_ok (hB : Bs B n) {R : Int → Int} (h : RowOK R n B) {a : Int} (ha : 0 ≤ a) (ha2 : a < R 2) (h4 : R (3 + 7 * a + 4) = 0) : RowOK (upF n B Pr Lw R a) n B ∧ SmE R (upF n B Pr Lw R a) a := by
  obtain ⟨hb0, hb1, hb2⟩ := h.2 a ha ha2
  obtain ⟨f0, t0, p0, s0, w0, g0⟩ := h.1.2.2.2.2 a ha ha2
  have hbo := below_boss hB p0.1 p0.2 t0.1 (hb1 h4)
  have i1 : RowIn (u1F n B Pr Lw R a) n := u1F_in hB h.1 ha ha2 hbo
  have s1 : SmE R (u1F n B Pr Lw R a) a := u1F_sm R a
  have w1 := fun (w : Int) (w0 : 0 ≤ w) (w6 : w ≤ 6) => u1F_w (n := n) (B := B) (Pr := Pr) (Lw := Lw) R a w0 w6
  have x0 := w1 0 (by decide) (by decide)
  have x1 := w1 1 (by decide) (by decide)
  have x2 := w1 2 (by decide) (by decide)
  have x4 := w1 4 (by decide) (by decide)
  simp only [show ¬ ((0 : Int) = 2) by decide, show ¬ ((1 : Int) = 2) by decide, show ¬ ((4 : Int) = 2) by decide, show ¬ ((0 : Int) = 3) by decide, show ¬ ((1 : Int) = 3) by decide, show ¬ ((4 : Int) = 3) by decide, if_false, if_true] at x0 x1 x2 x4
  unfold upF
  split
  · rename_i hc
    have e2 : a < u1F n B Pr Lw R a 2 := by rw [s1 2 (by decide) (by decide) (by omega)]; exact ha2
    obtain ⟨j1, j2, j3⟩ := jdF_ok (B := B) (Pr := Pr) (Lw := Lw) i1 ha e2 (by rw [x4]; exact h4) (by rw [x2, x1]; exact hc) (by rw [x0, x1]; exact hb0)
    exact ⟨(h.sm ha j1 (s1.tr j2) j3).1, s1.tr j2⟩
  · rename_i hc
    refine ⟨(h.sm ha i1 s1 ?_).1, s1⟩
    unfold ApBel
    rw [x0, x1, x2, x4]
    exact ⟨hb0, fun _ => below_step hB p0.1 p0.2 t0.1 (hb1 h4) hc, fun q => by rw [h4] at q; exact absurd q (by decide)⟩
theorem d1F_w (R : Int → Int) (a : Int) {w : Int} (h0 : 0 ≤ w) (h6 : w ≤ 6) : d1F n B Pr Lw R a (3 + 7 * a + w) = if w = 2 then dnT B R a else if w = 3 then lawW n B Pr Lw R a (dnT B R a) else R (3 + 7 * a + w) := by
  unfold d1F up1
  by_cases e2 : w = 2
  · rw [if_pos (by omega), if_pos e2]
  · rw [if_neg (by omega), if_neg e2]
    by_cases e3 : w = 3
    · rw [if_pos (by omega), if_pos e3]
    · rw [if_neg (by omega), if_neg e3]
theorem dnF_ok (hB : Bs B n) {R : Int → Int} (h : RowOK R n B) {a : Int} (ha : 0 ≤ a) (ha2 : a < R 2) (h4 : R (3 + 7 * a + 4) = 1) : RowOK (dnF n B Pr Lw R a) n B ∧ SmE R (dnF n B Pr Lw R a) a := by
  obtain ⟨hb0, hb1, hb2⟩ := h.2 a ha ha2
  obtain ⟨f0, t0, p0, s0, w0, g0⟩ := h.1.2.2.2.2 a ha ha2
  have ha10 : a < 10 := by have := h.1.2.2.1.2; omega
  obtain ⟨z0, z1, z2⟩ := towards_bd hB p0.1 f0.1 f0.2 (hb2 h4)
  have zb : dnT B R a = R (3 + 7 * a + 0) ∨ below B (R (3 + 7 * a + 0)) (dnT B R a) := towards_below hB p0.1 f0.1 f0.2 (hb2 h4)
  have z0 : 0 ≤ dnT B R a := z0
  have z1 : dnT B R a < n := z1
  have i1 : RowIn (d1F n B Pr Lw R a) n := (h.1.up ha ha2 (w := 3) (by decide) (by decide) ⟨by omega, by intro _; exact lawV_bd Lw 2 _ _ (by decide), by omega, by omega⟩).up ha (by rw [up1_ne _ _ (by omega)]; exact ha2) (w := 2) (by decide) (by decide) ⟨by intro _; exact ⟨z0, z1⟩, by omega, by omega, by omega⟩
  have s1 : SmE R (d1F n B Pr Lw R a) a := (SmE.up R (w := 3) (by decide) (by decide)).tr (SmE.up _ (w := 2) (by decide) (by decide))
  have w1 := fun (w : Int) (w0 : 0 ≤ w) (w6 : w ≤ 6) => d1F_w (n := n) (B := B) (Pr := Pr) (Lw := Lw) R a w0 w6
  have x0 := w1 0 (by decide) (by decide)
  have x1 := w1 1 (by decide) (by decide)
  have x2 := w1 2 (by decide) (by decide)
  have x4 := w1 4 (by decide) (by decide)
  simp only [show ¬ ((0 : Int) = 2) by decide, show ¬ ((1 : Int) = 2) by decide, show ¬ ((4 : Int) = 2) by decide, show ¬ ((0 : Int) = 3) by decide, show ¬ ((1 : Int) = 3) by decide, show ¬ ((4 : Int) = 3) by decide, if_false, if_true] at x0 x1 x2 x4
  unfold dnF
  split
  · rename_i hc
    have e2 : a < d1F n B Pr Lw R a 2 := by rw [s1 2 (by decide) (by decide) (by omega)]; exact ha2
    have i2 : RowIn (up1 (d1F n B Pr Lw R a) (3 + 7 * a + 4) 2) n := i1.up ha e2 (by decide) (by decide) ⟨by omega, by omega, by intro _; omega, by omega⟩
    have s2 : SmE R (wrF (up1 (d1F n B Pr Lw R a) (3 + 7 * a + 4) 2) a 2) a := (s1.tr (SmE.up _ (w := 4) (by decide) (by decide))).tr (SmE.wr i2.2.2.2.1 a 2 a)
    have ew : ∀ w, 0 ≤ w → w ≤ 6 → w ≠ 4 → wrF (up1 (d1F n B Pr Lw R a) (3 + 7 * a + 4) 2) a 2 (3 + 7 * a + w) = d1F n B Pr Lw R a (3 + 7 * a + w) := fun w w0 w6 w4 => (wrF_lo _ _ _ i2.2.2.2.1.1 i2.2.2.2.1.2 (by omega)).trans (up1_ne _ _ (by omega))
    have e4 : wrF (up1 (d1F n B Pr Lw R a) (3 + 7 * a + 4) 2) a 2 (3 + 7 * a + 4) = 2 := (wrF_lo _ _ _ i2.2.2.2.1.1 i2.2.2.2.1.2 (by omega)).trans (up1_self _ _ _)
    refine ⟨(h.sm ha (i2.wr a 2) s2 ?_).1, s2⟩
    unfold ApBel
    rw [ew 0 (by decide) (by decide) (by decide), ew 1 (by decide) (by decide) (by decide), e4, x0, x1]
    exact ⟨hb0, fun q => absurd q (by decide), fun q => absurd q (by decide)⟩
  · rename_i hc
    refine ⟨(h.sm ha i1 s1 ?_).1, s1⟩
    unfold ApBel
    rw [x0, x1, x2, x4]
    exact ⟨hb0, fun q => by rw [h4] at q; exact absurd q (by decide), fun _ => zb.resolve_left hc⟩
/-- whether it waits -/
def waF (R : Int → Int) (a : Int) : Prop := R 0 < R (3 + 7 * a + 6) ∨ R 0 < R (73 + R (3 + 7 * a + 2))
/-- a day's run over a row: the row, how many are done with, how many cells it takes -/
abbrev au_D : Type := (Int → Int) × Int × Nat
noncomputable def act1 (n : Int) (B Pr : Int → Int) (Lw : au_Lw) (s : au_D) (a : Int) : au_D :=
  @ite _ (s.1 (3 + 7 * a + 4) = 2 ∨ waF s.1 a) (Classical.propDecidable _) s
    (if s.1 (3 + 7 * a + 4) = 0 then (upF n B Pr Lw s.1 a, s.2.1, s.2.2 + 1) else (dnF n B Pr Lw s.1 a, s.2.1 + (if dnT B s.1 a = s.1 (3 + 7 * a + 0) then 1 else 0), s.2.2 + 1))
theorem act1_skip {s : au_D} {a : Int} (h : s.1 (3 + 7 * a + 4) = 2 ∨ waF s.1 a) : act1 n B Pr Lw s a = s := if_pos h
theorem act1_up {s : au_D} {a : Int} (h : ¬ (s.1 (3 + 7 * a + 4) = 2 ∨ waF s.1 a)) (h4 : s.1 (3 + 7 * a + 4) = 0) : act1 n B Pr Lw s a = (upF n B Pr Lw s.1 a, s.2.1, s.2.2 + 1) := (if_neg h).trans (if_pos h4)
theorem act1_dn {s : au_D} {a : Int} (h : ¬ (s.1 (3 + 7 * a + 4) = 2 ∨ waF s.1 a)) (h4 : ¬ s.1 (3 + 7 * a + 4) = 0) : act1 n B Pr Lw s a = (dnF n B Pr Lw s.1 a, s.2.1 + (if dnT B s.1 a = s.1 (3 + 7 * a + 0) then 1 else 0), s.2.2 + 1) := (if_neg h).trans (if_neg h4)
noncomputable def actN (n : Int) (B Pr : Int → Int) (Lw : au_Lw) : Nat → au_D → au_D
  | 0, s => s
  | k + 1, s => act1 n B Pr Lw (actN n B Pr Lw k s) (k : Int)
def mtF (R : Int → Int) (a b : Int) : Prop := R (3 + 7 * a + 4) = 0 ∧ R (3 + 7 * b + 4) = 0 ∧ R (3 + 7 * a + 1) = R (3 + 7 * b + 1) ∧ R (3 + 7 * a + 2) = R (3 + 7 * b + 2)
noncomputable def mrg1 (s : au_D) (a b : Int) : au_D := @ite _ (mtF s.1 a b) (Classical.propDecidable _) (mgF s.1 a b, s.2.1 + 1, s.2.2 + 1) s
noncomputable def mrgB (a : Int) : Nat → au_D → au_D
  | 0, s => s
  | k + 1, s => mrg1 (mrgB a k s) a (a + 1 + (k : Int))
noncomputable def mrgN (m : Nat) : Nat → au_D → au_D
  | 0, s => s
  | k + 1, s => mrgB (k : Int) (m - 1 - k) (mrgN m k s)
noncomputable def pasF (n : Int) (B Pr : Int → Int) (Lw : au_Lw) (R : Int → Int) : au_D :=
  let s := mrgN (R 2).toNat (R 2).toNat (actN n B Pr Lw (R 2).toNat (R, 0, 0))
  (up1 s.1 0 (s.1 0 + 1), s.2.1, s.2.2)
theorem act1_ok (hB : Bs B n) {s : au_D} (h : RowOK s.1 n B) {a : Int} (ha : 0 ≤ a) (ha2 : a < s.1 2) : RowOK (act1 n B Pr Lw s a).1 n B ∧ SmE s.1 (act1 n B Pr Lw s a).1 a ∧ s.2.2 ≤ (act1 n B Pr Lw s a).2.2 ∧ (act1 n B Pr Lw s a).2.2 ≤ s.2.2 + 1 ∧ (s.1 (3 + 7 * a + 4) = 2 → (act1 n B Pr Lw s a).1 (3 + 7 * a + 4) = 2) ∧ s.2.1 ≤ (act1 n B Pr Lw s a).2.1 ∧ (act1 n B Pr Lw s a).2.1 + (s.2.2 : Int) ≤ s.2.1 + ((act1 n B Pr Lw s a).2.2 : Int) := by
  by_cases hc : s.1 (3 + 7 * a + 4) = 2 ∨ waF s.1 a
  · rw [act1_skip hc]
    exact ⟨h, fun _ _ _ _ => rfl, Nat.le_refl _, Nat.le_succ _, fun q => q, by omega, by omega⟩
  · have h2 : ¬ s.1 (3 + 7 * a + 4) = 2 := fun q => hc (Or.inl q)
    by_cases h4 : s.1 (3 + 7 * a + 4) = 0
    · rw [act1_up hc h4]
      obtain ⟨x, y⟩ := upF_ok (Pr := Pr) (Lw := Lw) hB h ha ha2 h4
      exact ⟨x, y, Nat.le_succ _, Nat.le_refl _, fun q => absurd q h2, by show s.2.1 ≤ s.2.1; omega, by show s.2.1 + (s.2.2 : Int) ≤ s.2.1 + ((s.2.2 + 1 : Nat) : Int); omega⟩
    · rw [act1_dn hc h4]
      have hr := (h.1.2.2.2.2 a ha ha2).2.2.2.2.1
      obtain ⟨x, y⟩ := dnF_ok (Pr := Pr) (Lw := Lw) hB h ha ha2 (by omega)
      refine ⟨x, y, Nat.le_succ _, Nat.le_refl _, fun q => absurd q h2, ?_, ?_⟩
      · show s.2.1 ≤ s.2.1 + _
        split <;> omega
      · show s.2.1 + _ + (s.2.2 : Int) ≤ s.2.1 + ((s.2.2 + 1 : Nat) : Int)
        split <;> omega
/-- a row goes on: well formed, as many apologies, the same day -/
def Kp (n : Int) (B : Int → Int) (s t : au_D) : Prop := RowOK t.1 n B ∧ t.1 2 = s.1 2 ∧ t.1 0 = s.1 0 ∧ s.2.2 ≤ t.2.2 ∧ s.2.1 ≤ t.2.1 ∧ t.2.1 + (s.2.2 : Int) ≤ s.2.1 + (t.2.2 : Int)
theorem act1_kp (hB : Bs B n) {s : au_D} (h : RowOK s.1 n B) {a : Int} (ha : 0 ≤ a) (ha2 : a < s.1 2) : Kp n B s (act1 n B Pr Lw s a) := by
  obtain ⟨x, y, z, -, -, z2, z3⟩ := act1_ok (Pr := Pr) (Lw := Lw) hB h ha ha2
  exact ⟨x, y 2 (by decide) (by decide) (by omega), y 0 (by decide) (by decide) (by omega), z, z2, z3⟩
theorem Kp.tr {s t u : au_D} (h : Kp n B s t) (k : Kp n B t u) : Kp n B s u := ⟨k.1, k.2.1.trans h.2.1, k.2.2.1.trans h.2.2.1, Nat.le_trans h.2.2.2.1 k.2.2.2.1, Int.le_trans h.2.2.2.2.1 k.2.2.2.2.1, by have h1 := h.2.2.2.2.2; have k1 := k.2.2.2.2.2; omega⟩
theorem Kp.rf {s : au_D} (h : RowOK s.1 n B) : Kp n B s s := ⟨h, rfl, rfl, Nat.le_refl _, Int.le_refl _, Int.le_refl _⟩
theorem actN_kp (hB : Bs B n) {s : au_D} (h : RowOK s.1 n B) : ∀ k : Nat, (k : Int) ≤ s.1 2 → Kp n B s (actN n B Pr Lw k s) := by
  intro k
  induction k with
  | zero => intro _; exact Kp.rf h
  | succ k ih =>
    intro hk
    have i := ih (by omega)
    exact i.tr (act1_kp hB i.1 (by omega) (by rw [i.2.1]; omega))
theorem mgF_ok {R : Int → Int} (h : RowOK R n B) {a b : Int} (ha : 0 ≤ a) (hab : a < b) (hb2 : b < R 2) : RowOK (mgF R a b) n B ∧ (mgF R a b) 2 = R 2 ∧ (mgF R a b) 0 = R 0 ∧ (∀ c w, 0 ≤ c → c < 10 → 0 ≤ w → w ≤ 6 → w ≠ 3 → ¬ (c = b ∧ w = 4) → mgF R a b (3 + 7 * c + w) = R (3 + 7 * c + w)) ∧ mgF R a b (3 + 7 * b + 4) = 2 := by
  have h10 := h.1.2.2.1.2
  have sa := (h.1.2.2.2.2 a ha (by omega)).2.2.2.1
  have sb := (h.1.2.2.2.2 b (by omega) hb2).2.2.2.1
  unfold mgF
  obtain ⟨v, hv⟩ : ∃ v, v = min 9999 (max (R (3 + 7 * a + 3)) (R (3 + 7 * b + 3)) + min (R (3 + 7 * a + 3)) (R (3 + 7 * b + 3)) / 2) := ⟨_, rfl⟩
  have hv0 : 0 ≤ v ∧ v ≤ 9999 := by omega
  rw [← hv]
  have i1 : RowIn (up1 R (3 + 7 * a + 3) v) n := h.1.up ha (by omega) (by decide) (by decide) ⟨by omega, by intro _; exact hv0, by omega, by omega⟩
  have i2 : RowIn (up1 (up1 R (3 + 7 * a + 3) v) (3 + 7 * b + 3) 0) n := i1.up (a := b) (by omega) (by rw [up1_ne _ _ (by omega)]; exact hb2) (by decide) (by decide) ⟨by omega, by intro _; omega, by omega, by omega⟩
  have i3 : RowIn (up1 (up1 (up1 R (3 + 7 * a + 3) v) (3 + 7 * b + 3) 0) (3 + 7 * b + 4) 2) n := i2.up (a := b) (by omega) (by rw [up1_ne _ _ (by omega), up1_ne _ _ (by omega)]; exact hb2) (by decide) (by decide) ⟨by omega, by omega, by intro _; omega, by omega⟩
  have e : ∀ j, j < 83 → wrF (up1 (up1 (up1 R (3 + 7 * a + 3) v) (3 + 7 * b + 3) 0) (3 + 7 * b + 4) 2) b 3 j = up1 (up1 (up1 R (3 + 7 * a + 3) v) (3 + 7 * b + 3) 0) (3 + 7 * b + 4) 2 j := fun j hj => wrF_lo _ _ _ i3.2.2.2.1.1 i3.2.2.2.1.2 hj
  have e2 : ∀ j, j < 83 → j ≠ 3 + 7 * a + 3 → j ≠ 3 + 7 * b + 3 → j ≠ 3 + 7 * b + 4 → wrF (up1 (up1 (up1 R (3 + 7 * a + 3) v) (3 + 7 * b + 3) 0) (3 + 7 * b + 4) 2) b 3 j = R j := fun j hj j1 j2 j3 => (e j hj).trans ((up1_ne _ _ j3).trans ((up1_ne _ _ j2).trans (up1_ne _ _ j1)))
  have k4 : ∀ c w, 0 ≤ c → c < 10 → 0 ≤ w → w ≤ 6 → w ≠ 3 → ¬ (c = b ∧ w = 4) → wrF (up1 (up1 (up1 R (3 + 7 * a + 3) v) (3 + 7 * b + 3) 0) (3 + 7 * b + 4) 2) b 3 (3 + 7 * c + w) = R (3 + 7 * c + w) := fun c w c0 c1 w0 w1 w3 hn => e2 _ (by omega) (by omega) (by omega) (by omega)
  have k5 : wrF (up1 (up1 (up1 R (3 + 7 * a + 3) v) (3 + 7 * b + 3) 0) (3 + 7 * b + 4) 2) b 3 (3 + 7 * b + 4) = 2 := (e _ (by omega)).trans (up1_self _ _ _)
  have k2 := e2 2 (by decide) (by omega) (by omega) (by omega)
  refine ⟨⟨i3.wr b 3, fun c c0 c2 => ?_⟩, k2, e2 0 (by decide) (by omega) (by omega) (by omega), k4, k5⟩
  rw [k2] at c2
  obtain ⟨q0, q1, q2⟩ := h.2 c c0 c2
  unfold ApBel
  rw [k4 c 0 c0 (by omega) (by decide) (by decide) (by decide) (by omega), k4 c 1 c0 (by omega) (by decide) (by decide) (by decide) (by omega), k4 c 2 c0 (by omega) (by decide) (by decide) (by decide) (by omega)]
  by_cases hcb : c = b
  · rw [hcb, k5]
    rw [hcb] at q0
    exact ⟨q0, fun q => absurd q (by decide), fun q => absurd q (by decide)⟩
  · rw [k4 c 4 c0 (by omega) (by decide) (by decide) (by decide) (by omega)]
    exact ⟨q0, q1, q2⟩
theorem mrg1_kp {s : au_D} (h : RowOK s.1 n B) {a b : Int} (ha : 0 ≤ a) (hab : a < b) (hb2 : b < s.1 2) : Kp n B s (mrg1 s a b) := by
  by_cases hc : mtF s.1 a b
  · have e : mrg1 s a b = (mgF s.1 a b, s.2.1 + 1, s.2.2 + 1) := if_pos hc
    rw [e]
    obtain ⟨x, y, z, -, -⟩ := mgF_ok h ha hab hb2
    exact ⟨x, y, z, Nat.le_succ _, by show s.2.1 ≤ s.2.1 + 1; omega, by show s.2.1 + 1 + (s.2.2 : Int) ≤ s.2.1 + ((s.2.2 + 1 : Nat) : Int); omega⟩
  · have e : mrg1 s a b = s := if_neg hc
    rw [e]; exact Kp.rf h
theorem mrgB_kp {s : au_D} (h : RowOK s.1 n B) {a : Int} (ha : 0 ≤ a) : ∀ k : Nat, a + 1 + (k : Int) ≤ s.1 2 → Kp n B s (mrgB a k s) := by
  intro k
  induction k with
  | zero => intro _; exact Kp.rf h
  | succ k ih =>
    intro hk
    have i := ih (by omega)
    exact i.tr (mrg1_kp i.1 ha (by omega) (by rw [i.2.1]; omega))
theorem mrgN_kp {s : au_D} (h : RowOK s.1 n B) {m : Nat} (hm : (m : Int) = s.1 2) : ∀ k : Nat, k ≤ m → Kp n B s (mrgN m k s) := by
  intro k
  induction k with
  | zero => intro _; exact Kp.rf h
  | succ k ih =>
    intro hk
    have i := ih (by omega)
    exact i.tr (mrgB_kp i.1 (by omega) (m - 1 - k) (by rw [i.2.1]; omega))
/-- cells grow from step to step -/
theorem actN_le (hB : Bs B n) {s : au_D} (h : RowOK s.1 n B) {k m : Nat} (hk : k ≤ m) (hm : (m : Int) ≤ s.1 2) : (actN n B Pr Lw k s).2.2 ≤ (actN n B Pr Lw m s).2.2 := by
  induction m with
  | zero => rw [show k = 0 by omega]; exact Nat.le_refl _
  | succ m ih =>
    rcases Nat.lt_or_ge m k with q | q
    · rw [show k = m + 1 by omega]; exact Nat.le_refl _
    · have i := actN_kp (Pr := Pr) (Lw := Lw) hB h m (by omega)
      exact Nat.le_trans (ih q (by omega)) (act1_kp hB i.1 (by omega) (by rw [i.2.1]; omega)).2.2.2.1
theorem mrgB_le {s : au_D} (h : RowOK s.1 n B) {a : Int} (ha : 0 ≤ a) {k m : Nat} (hk : k ≤ m) (hm : a + 1 + (m : Int) ≤ s.1 2) : (mrgB a k s).2.2 ≤ (mrgB a m s).2.2 := by
  induction m with
  | zero => rw [show k = 0 by omega]; exact Nat.le_refl _
  | succ m ih =>
    rcases Nat.lt_or_ge m k with q | q
    · rw [show k = m + 1 by omega]; exact Nat.le_refl _
    · have i := mrgB_kp h ha m (by omega)
      exact Nat.le_trans (ih q (by omega)) (mrg1_kp (n := n) (B := B) i.1 ha (by omega) (by rw [i.2.1]; omega)).2.2.2.1
theorem mrgN_le {s : au_D} (h : RowOK s.1 n B) {m : Nat} (hm : (m : Int) = s.1 2) {k j : Nat} (hk : k ≤ j) (hj : j ≤ m) : (mrgN m k s).2.2 ≤ (mrgN m j s).2.2 := by
  induction j with
  | zero => rw [show k = 0 by omega]; exact Nat.le_refl _
  | succ j ih =>
    rcases Nat.lt_or_ge j k with q | q
    · rw [show k = j + 1 by omega]; exact Nat.le_refl _
    · have i := mrgN_kp h hm j (by omega)
      exact Nat.le_trans (ih q (by omega)) (mrgB_kp i.1 (by omega) (m - 1 - j) (by rw [i.2.1]; omega)).2.2.2.1
/-- the next day -/
theorem RowOK.day {R : Int → Int} (h : RowOK R n B) (h0 : R 0 < 9999) : RowOK (up1 R 0 (R 0 + 1)) n B := by
  obtain ⟨⟨⟨a0, a1⟩, a2, a3, a4, a5⟩, b⟩ := h
  have e : ∀ j, j ≠ 0 → up1 R 0 (R 0 + 1) j = R j := fun j hj => up1_ne _ _ hj
  refine ⟨⟨by rw [up1_self]; omega, by rw [e 1 (by decide)]; exact a2, by rw [e 2 (by decide)]; exact a3, by rw [e 83 (by decide)]; exact a4, fun c c0 c2 => ?_⟩, fun c c0 c2 => ?_⟩
  · rw [e 2 (by decide)] at c2
    exact (a5 c c0 c2).of (fun w w0 w6 => e _ (by omega))
  · rw [e 2 (by decide)] at c2
    exact (b c c0 c2).of (fun w w0 w6 => e _ (by omega))
theorem pasF_ok (hB : Bs B n) {R : Int → Int} (h : RowOK R n B) (h0 : R 0 < 9999) : RowOK (pasF n B Pr Lw R).1 n B ∧ (pasF n B Pr Lw R).1 2 = R 2 ∧ (pasF n B Pr Lw R).1 0 = R 0 + 1 ∧ 0 ≤ (pasF n B Pr Lw R).2.1 ∧ (pasF n B Pr Lw R).2.1 ≤ ((pasF n B Pr Lw R).2.2 : Int) := by
  have r2 := h.1.2.2.1
  have i := actN_kp (Pr := Pr) (Lw := Lw) hB (s := (R, 0, 0)) h (R 2).toNat (by show _ ≤ R 2; omega)
  have k := mrgN_kp (n := n) (B := B) i.1 (m := (R 2).toNat) (by rw [i.2.1]; show _ = R 2; omega) (R 2).toNat (Nat.le_refl _)
  have j := i.tr k
  unfold pasF
  have j2 : _ = R 2 := j.2.1
  have j0 : _ = R 0 := j.2.2.1
  have jc : _ + ((0 : Nat) : Int) ≤ (0 : Int) + _ := j.2.2.2.2.2
  refine ⟨j.1.day (by rw [j0]; exact h0), ?_, ?_, j.2.2.2.2.1, ?_⟩
  · exact (show up1 (mrgN (R 2).toNat (R 2).toNat (actN n B Pr Lw (R 2).toNat (R, 0, 0))).1 0 ((mrgN (R 2).toNat (R 2).toNat (actN n B Pr Lw (R 2).toNat (R, 0, 0))).1 0 + 1) 2 = R 2 from (up1_ne _ _ (show (2 : Int) ≠ 0 by decide)).trans j2)
  · exact (show up1 (mrgN (R 2).toNat (R 2).toNat (actN n B Pr Lw (R 2).toNat (R, 0, 0))).1 0 ((mrgN (R 2).toNat (R 2).toNat (actN n B Pr Lw (R 2).toNat (R, 0, 0))).1 0 + 1) 0 = R 0 + 1 from (up1_self _ _ _).trans (by rw [j0]))
  · show (mrgN (R 2).toNat (R 2).toNat (actN n B Pr Lw (R 2).toNat (R, 0, 0))).2.1 ≤ ((mrgN (R 2).toNat (R 2).toNat (actN n B Pr Lw (R 2).toNat (R, 0, 0))).2.2 : Int)
    omega
/-- how many aren't done with -/
def undN (R : Int → Int) : Nat → Nat
  | 0 => 0
  | k + 1 => undN R k + if R (3 + 7 * (k : Int) + 4) = 2 then 0 else 1
theorem undN_bd (R : Int → Int) : ∀ k, undN R k ≤ k := by
  intro k
  induction k with
  | zero => exact Nat.le_refl _
  | succ k ih => unfold undN; split <;> omega
theorem undN_le {R R' : Int → Int} : ∀ (k : Nat), (∀ a : Int, 0 ≤ a → a < (k : Int) → R (3 + 7 * a + 4) = 2 → R' (3 + 7 * a + 4) = 2) → undN R' k ≤ undN R k := by
  intro k
  induction k with
  | zero => intro _; exact Nat.le_refl _
  | succ k ih =>
    intro h
    have h1 := ih (fun a a0 a1 => h a a0 (by omega))
    have h2 := h (k : Int) (by omega) (by omega)
    unfold undN
    by_cases e : R (3 + 7 * (k : Int) + 4) = 2
    · rw [if_pos e, if_pos (h2 e)]; omega
    · rw [if_neg e]; split <;> omega
theorem undN_lt {R R' : Int → Int} {b : Int} (hb : 0 ≤ b) : ∀ (k : Nat), b < (k : Int) → (∀ a : Int, 0 ≤ a → a < (k : Int) → R (3 + 7 * a + 4) = 2 → R' (3 + 7 * a + 4) = 2) → R (3 + 7 * b + 4) ≠ 2 → R' (3 + 7 * b + 4) = 2 → undN R' k + 1 ≤ undN R k := by
  intro k
  induction k with
  | zero => intro h; omega
  | succ k ih =>
    intro hk h h1 h2
    by_cases e : b = (k : Int)
    · have h3 := undN_le (R := R) (R' := R') k (fun a a0 a1 => h a a0 (by omega))
      unfold undN
      rw [← e, if_pos h2, if_neg h1]; omega
    · have h3 := ih (by omega) (fun a a0 a1 => h a a0 (by omega)) h1 h2
      have h4 := h (k : Int) (by omega) (by omega)
      unfold undN
      by_cases e : R (3 + 7 * (k : Int) + 4) = 2
      · rw [if_pos e, if_pos (h4 e)]; omega
      · rw [if_neg e]; split <;> omega
theorem actN_und (hB : Bs B n) {s : au_D} (h : RowOK s.1 n B) : ∀ k : Nat, (k : Int) ≤ s.1 2 → (actN n B Pr Lw k s).2.2 ≤ s.2.2 + k ∧ undN (actN n B Pr Lw k s).1 10 ≤ undN s.1 10 := by
  intro k
  induction k with
  | zero => intro _; exact ⟨Nat.le_refl _, Nat.le_refl _⟩
  | succ k ih =>
    intro hk
    have i := ih (by omega)
    have j := actN_kp (Pr := Pr) (Lw := Lw) hB h k (by omega)
    have o := act1_ok (Pr := Pr) (Lw := Lw) hB j.1 (a := (k : Int)) (by omega) (by rw [j.2.1]; omega)
    refine ⟨Nat.le_trans o.2.2.2.1 (by omega), Nat.le_trans (undN_le 10 (fun a a0 a1 q => ?_)) i.2⟩
    by_cases e : a = (k : Int)
    · rw [e]; rw [e] at q; exact o.2.2.2.2.1 q
    · exact (o.2.1.ap a0 a1 e 4 (by decide) (by decide)).trans q
theorem mrg1_und {s : au_D} (h : RowOK s.1 n B) {a b : Int} (ha : 0 ≤ a) (hab : a < b) (hb2 : b < s.1 2) : (mrg1 s a b).2.2 + undN (mrg1 s a b).1 10 ≤ s.2.2 + undN s.1 10 := by
  have h10 := h.1.2.2.1.2
  by_cases hc : mtF s.1 a b
  · have e : mrg1 s a b = (mgF s.1 a b, s.2.1 + 1, s.2.2 + 1) := if_pos hc
    rw [e]
    obtain ⟨-, -, -, k4, k5⟩ := mgF_ok h ha hab hb2
    have := undN_lt (R := s.1) (R' := mgF s.1 a b) (b := b) (by omega) 10 (by omega) (fun c c0 c1 q => by
      by_cases e : c = b
      · rw [e]; exact k5
      · rw [k4 c 4 c0 c1 (by decide) (by decide) (by decide) (fun z => e z.1)]; exact q) (by rw [hc.2.1]; decide) k5
    show s.2.2 + 1 + undN (mgF s.1 a b) 10 ≤ _
    omega
  · have e : mrg1 s a b = s := if_neg hc
    rw [e]; exact Nat.le_refl _
theorem mrgB_und {s : au_D} (h : RowOK s.1 n B) {a : Int} (ha : 0 ≤ a) : ∀ k : Nat, a + 1 + (k : Int) ≤ s.1 2 → (mrgB a k s).2.2 + undN (mrgB a k s).1 10 ≤ s.2.2 + undN s.1 10 := by
  intro k
  induction k with
  | zero => intro _; exact Nat.le_refl _
  | succ k ih =>
    intro hk
    have i := ih (by omega)
    have j := mrgB_kp h ha k (by omega)
    exact Nat.le_trans (mrg1_und (n := n) (B := B) j.1 ha (by omega) (by rw [j.2.1]; omega)) i
theorem mrgN_und {s : au_D} (h : RowOK s.1 n B) {m : Nat} (hm : (m : Int) = s.1 2) : ∀ k : Nat, k ≤ m → (mrgN m k s).2.2 + undN (mrgN m k s).1 10 ≤ s.2.2 + undN s.1 10 := by
  intro k
  induction k with
  | zero => intro _; exact Nat.le_refl _
  | succ k ih =>
    intro hk
    have i := ih (by omega)
    have j := mrgN_kp h hm k (by omega)
    exact Nat.le_trans (mrgB_und j.1 (by omega) (m - 1 - k) (by rw [j.2.1]; omega)) i
/-- what a day costs -/
theorem pasF_cost (hB : Bs B n) {R : Int → Int} (h : RowOK R n B) : (pasF n B Pr Lw R).2.2 + undN (pasF n B Pr Lw R).1 10 ≤ 10 + undN R 10 := by
  have r2 := h.1.2.2.1
  have i := actN_kp (Pr := Pr) (Lw := Lw) hB (s := (R, 0, 0)) h (R 2).toNat (by show _ ≤ R 2; omega)
  have iu := actN_und (Pr := Pr) (Lw := Lw) hB (s := (R, 0, 0)) h (R 2).toNat (by show _ ≤ R 2; omega)
  have k := mrgN_und (n := n) (B := B) i.1 (m := (R 2).toNat) (by rw [i.2.1]; show _ = R 2; omega) (R 2).toNat (Nat.le_refl _)
  unfold pasF
  have e : undN (up1 (mrgN (R 2).toNat (R 2).toNat (actN n B Pr Lw (R 2).toNat (R, 0, 0))).1 0 ((mrgN (R 2).toNat (R 2).toNat (actN n B Pr Lw (R 2).toNat (R, 0, 0))).1 0 + 1)) 10 ≤ undN (mrgN (R 2).toNat (R 2).toNat (actN n B Pr Lw (R 2).toNat (R, 0, 0))).1 10 := undN_le 10 (fun a a0 a1 q => (up1_ne _ _ (by omega)).trans q)
  have iu1 : _ ≤ 0 + (R 2).toNat := iu.1
  have iu2 : _ ≤ undN R 10 := iu.2
  have iu3 : (R 2).toNat ≤ 10 := by omega
  exact (show (mrgN (R 2).toNat (R 2).toNat (actN n B Pr Lw (R 2).toNat (R, 0, 0))).2.2 + undN (up1 (mrgN (R 2).toNat (R 2).toNat (actN n B Pr Lw (R 2).toNat (R, 0, 0))).1 0 ((mrgN (R 2).toNat (R 2).toNat (actN n B Pr Lw (R 2).toNat (R, 0, 0))).1 0 + 1)) 10 ≤ 10 + undN R 10 by omega)
end AUQ
