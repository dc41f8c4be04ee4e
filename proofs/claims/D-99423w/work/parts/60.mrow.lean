/-! PURE: a row as the model keeps it -/
set_option maxRecDepth 100000
/-- the row's numbers, but the book -/
def MRow (A R : Int → Int) : Prop := A 6 = R 0 ∧ A 7 = R 1 ∧ A 8 = R 2 ∧ (∀ o, 0 ≤ o → o < 10 → A (10 + o) = R (73 + o)) ∧ ∀ k w, 0 ≤ k → k < 10 → 0 ≤ w → w ≤ 6 → A (20 + 7 * k + w) = R (3 + 7 * k + w)
/-- the book's pages within bounds -/
def BkIn (R : Int → Int) : Prop := ∀ k, 0 ≤ k → k < 30 → (0 ≤ R (84 + 4 * k + 1) ∧ R (84 + 4 * k + 1) ≤ 9) ∧ (0 ≤ R (84 + 4 * k + 2) ∧ R (84 + 4 * k + 2) ≤ 3) ∧ 0 ≤ R (84 + 4 * k + 3) ∧ R (84 + 4 * k + 3) ≤ 9999
/-- the book -/
def MBk (A R : Int → Int) : Prop := A 9 = R 83 ∧ ∀ k, 0 ≤ k → k < 30 → A (4484 + 2 * k) = R (84 + 4 * k + 0) ∧ A (4484 + 2 * k + 1) = (R (84 + 4 * k + 1) * 4 + R (84 + 4 * k + 2)) * 10000 + R (84 + 4 * k + 3)
/-- the row's numbers one behind the other -/
def enc84 (R : Int → Int) (j : Int) : Int := if j = 0 then R 0 else if j = 1 then R 1 else if j = 2 then R 2 else if j = 3 then R 83 else if j < 14 then R (69 + j) else R (j - 11)
def encB (R : Int → Int) (j : Int) : Int := if j % 2 = 0 then R (84 + 4 * (j / 2) + 0) else (R (84 + 4 * (j / 2) + 1) * 4 + R (84 + 4 * (j / 2) + 2)) * 10000 + R (84 + 4 * (j / 2) + 3)
theorem MRow.enc {A R : Int → Int} (h : MRow A R) {j : Int} (h0 : 0 ≤ j) (h1 : j < 84) (h3 : j ≠ 3) : A (6 + j) = enc84 R j := by
  obtain ⟨a, b, c, d, e⟩ := h
  unfold enc84
  by_cases e0 : j = 0
  · rw [if_pos e0, e0]; exact a
  rw [if_neg e0]
  by_cases e1 : j = 1
  · rw [if_pos e1, e1]; exact b
  rw [if_neg e1]
  by_cases e2 : j = 2
  · rw [if_pos e2, e2]; exact c
  rw [if_neg e2, if_neg h3]
  by_cases e4 : j < 14
  · rw [if_pos e4]
    have := d (j - 4) (by omega) (by omega)
    rw [show 10 + (j - 4) = 6 + j by omega, show 73 + (j - 4) = 69 + j by omega] at this
    exact this
  · rw [if_neg e4]
    have := e ((j - 14) / 7) ((j - 14) % 7) (by omega) (by omega) (by omega) (by omega)
    rw [show 20 + 7 * ((j - 14) / 7) + (j - 14) % 7 = 6 + j by omega, show 3 + 7 * ((j - 14) / 7) + (j - 14) % 7 = j - 11 by omega] at this
    exact this
theorem MRow.ofenc {A R : Int → Int} (h : ∀ j, 0 ≤ j → j < 84 → j ≠ 3 → A (6 + j) = enc84 R j) : MRow A R := by
  refine ⟨h 0 (by decide) (by decide) (by decide), h 1 (by decide) (by decide) (by decide), h 2 (by decide) (by decide) (by decide), fun o o0 o1 => ?_, fun k w k0 k1 w0 w1 => ?_⟩
  · have := h (4 + o) (by omega) (by omega) (by omega)
    unfold enc84 at this
    rw [if_neg (by omega), if_neg (by omega), if_neg (by omega), if_neg (by omega), if_pos (by omega), show 6 + (4 + o) = 10 + o by omega, show 69 + (4 + o) = 73 + o by omega] at this
    exact this
  · have := h (14 + 7 * k + w) (by omega) (by omega) (by omega)
    unfold enc84 at this
    rw [if_neg (by omega), if_neg (by omega), if_neg (by omega), if_neg (by omega), if_neg (by omega), show 6 + (14 + 7 * k + w) = 20 + 7 * k + w by omega, show 14 + 7 * k + w - 11 = 3 + 7 * k + w by omega] at this
    exact this
theorem enc84_3 (R : Int → Int) : enc84 R 3 = R 83 := rfl
theorem MBk.enc {A R : Int → Int} (h : MBk A R) {j : Int} (h0 : 0 ≤ j) (h1 : j < 60) : A (4484 + j) = encB R j := by
  have := h.2 (j / 2) (by omega) (by omega)
  unfold encB
  by_cases e : j % 2 = 0
  · rw [if_pos e, ← this.1]; congr 1; omega
  · rw [if_neg e, ← this.2]; congr 1; omega
theorem MBk.ofenc {A R : Int → Int} (h9 : A 9 = R 83) (h : ∀ j, 0 ≤ j → j < 60 → A (4484 + j) = encB R j) : MBk A R := by
  refine ⟨h9, fun k k0 k1 => ⟨?_, ?_⟩⟩
  · have := h (2 * k) (by omega) (by omega)
    unfold encB at this
    rw [if_pos (by omega), show 2 * k / 2 = k by omega] at this
    exact this
  · have := h (2 * k + 1) (by omega) (by omega)
    unfold encB at this
    rw [if_neg (by omega), show (2 * k + 1) / 2 = k by omega, show 4484 + (2 * k + 1) = 4484 + 2 * k + 1 by omega] at this
    exact this
theorem MRow.put {A R : Int → Int} (h : MRow A R) {k w : Int} (v : Int) (k0 : 0 ≤ k) (k1 : k < 10) (w0 : 0 ≤ w) (w1 : w ≤ 6) : MRow (up1 A (20 + 7 * k + w) v) (up1 R (3 + 7 * k + w) v) := by
  obtain ⟨a, b, c, d, e⟩ := h
  refine ⟨?_, ?_, ?_, fun o o0 o1 => ?_, fun q x q0 q1 x0 x1 => ?_⟩
  · rw [up1_ne _ _ (by omega), up1_ne _ _ (by omega)]; exact a
  · rw [up1_ne _ _ (by omega), up1_ne _ _ (by omega)]; exact b
  · rw [up1_ne _ _ (by omega), up1_ne _ _ (by omega)]; exact c
  · rw [up1_ne _ _ (by omega), up1_ne _ _ (by omega)]; exact d o o0 o1
  · unfold up1
    by_cases z : 20 + 7 * q + x = 20 + 7 * k + w
    · rw [if_pos z, if_pos (by omega)]
    · rw [if_neg z, if_neg (by omega)]; exact e q x q0 q1 x0 x1
theorem MRow.day {A R : Int → Int} (h : MRow A R) (v : Int) : MRow (up1 A 6 v) (up1 R 0 v) := by
  obtain ⟨a, b, c, d, e⟩ := h
  refine ⟨by rw [up1_self, up1_self], ?_, ?_, fun o o0 o1 => ?_, fun q x q0 q1 x0 x1 => ?_⟩
  · rw [up1_ne _ _ (by decide), up1_ne _ _ (by decide)]; exact b
  · rw [up1_ne _ _ (by decide), up1_ne _ _ (by decide)]; exact c
  · rw [up1_ne _ _ (by omega), up1_ne _ _ (by omega)]; exact d o o0 o1
  · rw [up1_ne _ _ (by omega), up1_ne _ _ (by omega)]; exact e q x q0 q1 x0 x1
theorem MRow.drawn {A R : Int → Int} (h : MRow A R) (v : Int) : MRow (up1 A 7 v) (up1 R 1 v) := by
  obtain ⟨a, b, c, d, e⟩ := h
  refine ⟨?_, by rw [up1_self, up1_self], ?_, fun o o0 o1 => ?_, fun q x q0 q1 x0 x1 => ?_⟩
  · rw [up1_ne _ _ (by decide), up1_ne _ _ (by decide)]; exact a
  · rw [up1_ne _ _ (by decide), up1_ne _ _ (by decide)]; exact c
  · rw [up1_ne _ _ (by omega), up1_ne _ _ (by omega)]; exact d o o0 o1
  · rw [up1_ne _ _ (by omega), up1_ne _ _ (by omega)]; exact e q x q0 q1 x0 x1
theorem MRow.count {A R : Int → Int} (h : MRow A R) (v : Int) : MRow (up1 A 8 v) (up1 R 2 v) := by
  obtain ⟨a, b, c, d, e⟩ := h
  refine ⟨?_, ?_, by rw [up1_self, up1_self], fun o o0 o1 => ?_, fun q x q0 q1 x0 x1 => ?_⟩
  · rw [up1_ne _ _ (by decide), up1_ne _ _ (by decide)]; exact a
  · rw [up1_ne _ _ (by decide), up1_ne _ _ (by decide)]; exact b
  · rw [up1_ne _ _ (by omega), up1_ne _ _ (by omega)]; exact d o o0 o1
  · rw [up1_ne _ _ (by omega), up1_ne _ _ (by omega)]; exact e q x q0 q1 x0 x1
theorem MRow.away {A R : Int → Int} (h : MRow A R) {o : Int} (v : Int) (o0 : 0 ≤ o) (o1 : o < 10) : MRow (up1 A (10 + o) v) (up1 R (73 + o) v) := by
  obtain ⟨a, b, c, d, e⟩ := h
  refine ⟨?_, ?_, ?_, fun p p0 p1 => ?_, fun q x q0 q1 x0 x1 => ?_⟩
  · rw [up1_ne _ _ (by omega), up1_ne _ _ (by omega)]; exact a
  · rw [up1_ne _ _ (by omega), up1_ne _ _ (by omega)]; exact b
  · rw [up1_ne _ _ (by omega), up1_ne _ _ (by omega)]; exact c
  · unfold up1
    by_cases z : 10 + p = 10 + o
    · rw [if_pos z, if_pos (by omega)]
    · rw [if_neg z, if_neg (by omega)]; exact d p p0 p1
  · rw [up1_ne _ _ (by omega), up1_ne _ _ (by omega)]; exact e q x q0 q1 x0 x1
/-- elsewhere written -/
theorem MRow.of {A A' R R' : Int → Int} (h : MRow A R) (eA : ∀ j, 6 ≤ j → j < 90 → j ≠ 9 → A' j = A j) (eR : ∀ j, 0 ≤ j → j < 83 → R' j = R j) : MRow A' R' := by
  obtain ⟨a, b, c, d, e⟩ := h
  refine ⟨?_, ?_, ?_, fun o o0 o1 => ?_, fun q x q0 q1 x0 x1 => ?_⟩
  · rw [eA 6 (by decide) (by decide) (by decide), eR 0 (by decide) (by decide)]; exact a
  · rw [eA 7 (by decide) (by decide) (by decide), eR 1 (by decide) (by decide)]; exact b
  · rw [eA 8 (by decide) (by decide) (by decide), eR 2 (by decide) (by decide)]; exact c
  · rw [eA _ (by omega) (by omega) (by omega), eR _ (by omega) (by omega)]; exact d o o0 o1
  · rw [eA _ (by omega) (by omega) (by omega), eR _ (by omega) (by omega)]; exact e q x q0 q1 x0 x1
theorem MBk.of {A A' R R' : Int → Int} (h : MBk A R) (e9 : A' 9 = A 9) (eA : ∀ j, 4484 ≤ j → j < 4544 → A' j = A j) (eR : ∀ j, 83 ≤ j → j < 204 → R' j = R j) : MBk A' R' := by
  refine ⟨by rw [e9, eR 83 (by decide) (by decide)]; exact h.1, fun k k0 k1 => ?_⟩
  rw [eA _ (by omega) (by omega), eA _ (by omega) (by omega), eR _ (by omega) (by omega), eR _ (by omega) (by omega), eR _ (by omega) (by omega), eR _ (by omega) (by omega)]
  exact h.2 k k0 k1
theorem BkIn.of {R R' : Int → Int} (h : BkIn R) (eR : ∀ j, 83 ≤ j → j < 204 → R' j = R j) : BkIn R' := by
  intro k k0 k1
  rw [eR _ (by omega) (by omega), eR _ (by omega) (by omega), eR _ (by omega) (by omega)]
  exact h k k0 k1
/-- the model's book with room: the oldest page gone when it is full -/
def mw1 (A : Int → Int) : Int → Int := if A 9 = 30 then fun j => if j = 9 then 29 else if 4484 ≤ j ∧ j < 4542 then A (j + 2) else A j else A
def mw2 (A : Int → Int) (d v : Int) : Int → Int := up1 (up1 (up1 A (4484 + 2 * A 9) d) (4484 + 2 * A 9 + 1) v) 9 (A 9 + 1)
theorem wr1_pg (R : Int → Int) {k x : Int} (k0 : 0 ≤ k) (k1 : k < 30) (x0 : 0 ≤ x) (x1 : x ≤ 3) : wr1 R (84 + 4 * k + x) = if R 83 = 30 ∧ k < 29 then R (84 + 4 * (k + 1) + x) else R (84 + 4 * k + x) := by
  unfold wr1
  by_cases h : R 83 = 30
  · rw [if_pos h, up1_ne _ _ (by omega)]
    unfold mv1
    by_cases hk : k < 29
    · rw [if_pos (by omega), if_pos ⟨h, hk⟩]; congr 1; omega
    · rw [if_neg (by omega), if_neg (fun z => hk z.2)]
  · rw [if_neg h, if_neg (fun z => h z.1)]
theorem mw1_bk {A R : Int → Int} (h : MBk A R) (hB : BkIn R) (h0 : 0 ≤ R 83) (h1 : R 83 ≤ 30) : MBk (mw1 A) (wr1 R) ∧ BkIn (wr1 R) := by
  have e9 := h.1
  constructor
  · refine ⟨?_, fun k k0 k1 => ?_⟩
    · unfold mw1 wr1
      by_cases c : R 83 = 30
      · rw [if_pos (by omega), if_pos c, up1_self]; rfl
      · rw [if_neg (by omega), if_neg c]; exact e9
    · rw [wr1_pg R k0 k1 (by decide) (by decide), wr1_pg R k0 k1 (by decide) (by decide), wr1_pg R k0 k1 (by decide) (by decide), wr1_pg R k0 k1 (by decide) (by decide)]
      unfold mw1
      by_cases c : R 83 = 30
      · rw [if_pos (by omega)]
        by_cases hk : k < 29
        · rw [if_pos (show R 83 = 30 ∧ k < 29 from ⟨c, hk⟩), if_pos (show R 83 = 30 ∧ k < 29 from ⟨c, hk⟩), if_pos (show R 83 = 30 ∧ k < 29 from ⟨c, hk⟩), if_pos (show R 83 = 30 ∧ k < 29 from ⟨c, hk⟩)]
          show (if 4484 + 2 * k = 9 then _ else _) = _ ∧ (if 4484 + 2 * k + 1 = 9 then _ else _) = _
          rw [if_neg (by omega), if_pos (by omega), if_neg (by omega), if_pos (by omega)]
          have := h.2 (k + 1) (by omega) (by omega)
          rw [show 4484 + 2 * (k + 1) = 4484 + 2 * k + 2 by omega] at this
          rw [show 4484 + 2 * k + 1 + 2 = 4484 + 2 * k + 2 + 1 by omega]
          exact this
        · rw [if_neg (show ¬ (R 83 = 30 ∧ k < 29) from fun z => hk z.2), if_neg (show ¬ (R 83 = 30 ∧ k < 29) from fun z => hk z.2), if_neg (show ¬ (R 83 = 30 ∧ k < 29) from fun z => hk z.2), if_neg (show ¬ (R 83 = 30 ∧ k < 29) from fun z => hk z.2)]
          show (if 4484 + 2 * k = 9 then _ else _) = _ ∧ (if 4484 + 2 * k + 1 = 9 then _ else _) = _
          rw [if_neg (by omega), if_neg (by omega), if_neg (by omega), if_neg (by omega)]
          exact h.2 k k0 k1
      · rw [if_neg (by omega), if_neg (show ¬ (R 83 = 30 ∧ k < 29) from fun z => c z.1), if_neg (show ¬ (R 83 = 30 ∧ k < 29) from fun z => c z.1), if_neg (show ¬ (R 83 = 30 ∧ k < 29) from fun z => c z.1), if_neg (show ¬ (R 83 = 30 ∧ k < 29) from fun z => c z.1)]
        exact h.2 k k0 k1
  · intro k k0 k1
    rw [wr1_pg R k0 k1 (by decide) (by decide), wr1_pg R k0 k1 (by decide) (by decide), wr1_pg R k0 k1 (by decide) (by decide)]
    by_cases c : R 83 = 30 ∧ k < 29
    · rw [if_pos c, if_pos c, if_pos c]; exact hB (k + 1) (by omega) (by omega)
    · rw [if_neg c, if_neg c, if_neg c]; exact hB k k0 k1
theorem wr2_pg (R : Int → Int) (a w : Int) (h0 : 0 ≤ R 83) {k x : Int} (k0 : 0 ≤ k) (x0 : 0 ≤ x) (x1 : x ≤ 3) : wr2 R a w (84 + 4 * k + x) = if k = R 83 then pgF (R 0) a w (R (3 + 7 * a + 3)) x else R (84 + 4 * k + x) := by
  unfold wr2
  rw [up1_ne _ _ (by omega)]
  unfold mv1
  by_cases h : k = R 83
  · rw [if_pos (by omega), if_pos h]; congr 1; omega
  · rw [if_neg (by omega), if_neg h]
theorem mw2_bk {A R : Int → Int} (h : MBk A R) (hB : BkIn R) (h0 : 0 ≤ R 83) (h1 : R 83 < 30) {a w : Int} (a0 : 0 ≤ a) (a1 : a ≤ 9) (w0 : 0 ≤ w) (w1 : w ≤ 3) (s0 : 0 ≤ R (3 + 7 * a + 3)) (s1 : R (3 + 7 * a + 3) ≤ 9999) : MBk (mw2 A (R 0) ((a * 4 + w) * 10000 + R (3 + 7 * a + 3))) (wr2 R a w) ∧ BkIn (wr2 R a w) := by
  have e9 := h.1
  have p0 : pgF (R 0) a w (R (3 + 7 * a + 3)) 0 = R 0 := rfl
  have p1 : pgF (R 0) a w (R (3 + 7 * a + 3)) 1 = a := rfl
  have p2 : pgF (R 0) a w (R (3 + 7 * a + 3)) 2 = w := rfl
  have p3 : pgF (R 0) a w (R (3 + 7 * a + 3)) 3 = R (3 + 7 * a + 3) := rfl
  constructor
  · refine ⟨?_, fun k k0 k1 => ?_⟩
    · unfold mw2 wr2
      rw [up1_self, up1_self, e9]
    · rw [wr2_pg R a w h0 k0 (by decide) (by decide), wr2_pg R a w h0 k0 (by decide) (by decide), wr2_pg R a w h0 k0 (by decide) (by decide), wr2_pg R a w h0 k0 (by decide) (by decide), p0, p1, p2, p3]
      unfold mw2
      rw [up1_ne _ _ (show 4484 + 2 * k ≠ 9 by omega), up1_ne _ _ (show 4484 + 2 * k + 1 ≠ 9 by omega), e9]
      by_cases c : k = R 83
      · rw [if_pos c, if_pos c, if_pos c, if_pos c, c, up1_ne _ _ (by omega), up1_self, up1_self]
        exact ⟨rfl, rfl⟩
      · rw [if_neg c, if_neg c, if_neg c, if_neg c, up1_ne _ _ (by omega), up1_ne _ _ (by omega), up1_ne _ _ (by omega), up1_ne _ _ (by omega)]
        exact h.2 k k0 k1
  · intro k k0 k1
    rw [wr2_pg R a w h0 k0 (by decide) (by decide), wr2_pg R a w h0 k0 (by decide) (by decide), wr2_pg R a w h0 k0 (by decide) (by decide), p1, p2, p3]
    by_cases c : k = R 83
    · rw [if_pos c, if_pos c, if_pos c]; exact ⟨⟨a0, a1⟩, ⟨w0, w1⟩, s0, s1⟩
    · rw [if_neg c, if_neg c, if_neg c]; exact hB k k0 k1
theorem mw_bk {A R : Int → Int} (h : MBk A R) (hB : BkIn R) (h0 : 0 ≤ R 83) (h1 : R 83 ≤ 30) {a w : Int} (a0 : 0 ≤ a) (a1 : a ≤ 9) (w0 : 0 ≤ w) (w1 : w ≤ 3) (s0 : 0 ≤ R (3 + 7 * a + 3)) (s1 : R (3 + 7 * a + 3) ≤ 9999) : MBk (mw2 (mw1 A) (R 0) ((a * 4 + w) * 10000 + R (3 + 7 * a + 3))) (wrF R a w) ∧ BkIn (wrF R a w) := by
  obtain ⟨x, y⟩ := mw1_bk h hB h0 h1
  obtain ⟨z0, z1⟩ := wr1_83 R h0 h1
  have e0 : wr1 R 0 = R 0 := wr1_lo R (by decide)
  have e3 : wr1 R (3 + 7 * a + 3) = R (3 + 7 * a + 3) := wr1_lo R (by omega)
  have := mw2_bk x y z0 z1 a0 a1 w0 w1 (by rw [e3]; exact s0) (by rw [e3]; exact s1)
  rw [e0, e3] at this
  exact this
/-- the row and, if it is written down, the book -/
def MRel (wr : Int) (A R : Int → Int) : Prop := MRow A R ∧ (wr = 1 → MBk A R ∧ BkIn R)
/-- what a day leaves as it was -/
def FrW (wr : Int) (A A' : Int → Int) : Prop := (∀ j, ¬ ((6 ≤ j ∧ j < 90) ∨ (4484 ≤ j ∧ j < 4544)) → A' j = A j) ∧ (wr = 0 → A' 9 = A 9 ∧ ∀ j, 4484 ≤ j → A' j = A j)
theorem FrW.rf (wr : Int) (A : Int → Int) : FrW wr A A := ⟨fun _ _ => rfl, fun _ => ⟨rfl, fun _ _ => rfl⟩⟩
theorem FrW.tr {wr : Int} {A A' A'' : Int → Int} (h : FrW wr A A') (k : FrW wr A' A'') : FrW wr A A'' := ⟨fun j q => (k.1 j q).trans (h.1 j q), fun w => ⟨(k.2 w).1.trans (h.2 w).1, fun j q => ((k.2 w).2 j q).trans ((h.2 w).2 j q)⟩⟩
/-- a place of the row written that isn't the book's count -/
theorem FrW.up (wr : Int) (A : Int → Int) {j : Int} (v : Int) (h0 : 6 ≤ j) (h1 : j < 90) (h9 : j ≠ 9) : FrW wr A (up1 A j v) := ⟨fun i q => up1_ne _ _ (fun z => q (Or.inl (by omega))), fun _ => ⟨up1_ne _ _ (fun z => h9 z.symm), fun i q => up1_ne _ _ (by omega)⟩⟩
theorem MRel.put {wr : Int} {A R : Int → Int} (h : MRel wr A R) {k w : Int} (v : Int) (k0 : 0 ≤ k) (k1 : k < 10) (w0 : 0 ≤ w) (w1 : w ≤ 6) : MRel wr (up1 A (20 + 7 * k + w) v) (up1 R (3 + 7 * k + w) v) :=
  ⟨h.1.put v k0 k1 w0 w1, fun q => ⟨(h.2 q).1.of (up1_ne _ _ (by omega)) (fun j _ _ => up1_ne _ _ (by omega)) (fun j _ _ => up1_ne _ _ (by omega)), (h.2 q).2.of (fun j _ _ => up1_ne _ _ (by omega))⟩⟩
theorem MRel.day {wr : Int} {A R : Int → Int} (h : MRel wr A R) (v : Int) : MRel wr (up1 A 6 v) (up1 R 0 v) :=
  ⟨h.1.day v, fun q => ⟨(h.2 q).1.of (up1_ne _ _ (by decide)) (fun j _ _ => up1_ne _ _ (by omega)) (fun j _ _ => up1_ne _ _ (by omega)), (h.2 q).2.of (fun j _ _ => up1_ne _ _ (by omega))⟩⟩
theorem MRel.drawn {wr : Int} {A R : Int → Int} (h : MRel wr A R) (v : Int) : MRel wr (up1 A 7 v) (up1 R 1 v) :=
  ⟨h.1.drawn v, fun q => ⟨(h.2 q).1.of (up1_ne _ _ (by decide)) (fun j _ _ => up1_ne _ _ (by omega)) (fun j _ _ => up1_ne _ _ (by omega)), (h.2 q).2.of (fun j _ _ => up1_ne _ _ (by omega))⟩⟩
theorem MRel.count {wr : Int} {A R : Int → Int} (h : MRel wr A R) (v : Int) : MRel wr (up1 A 8 v) (up1 R 2 v) :=
  ⟨h.1.count v, fun q => ⟨(h.2 q).1.of (up1_ne _ _ (by decide)) (fun j _ _ => up1_ne _ _ (by omega)) (fun j _ _ => up1_ne _ _ (by omega)), (h.2 q).2.of (fun j _ _ => up1_ne _ _ (by omega))⟩⟩
theorem MRel.away {wr : Int} {A R : Int → Int} (h : MRel wr A R) {o : Int} (v : Int) (o0 : 0 ≤ o) (o1 : o < 10) : MRel wr (up1 A (10 + o) v) (up1 R (73 + o) v) :=
  ⟨h.1.away v o0 o1, fun q => ⟨(h.2 q).1.of (up1_ne _ _ (by omega)) (fun j _ _ => up1_ne _ _ (by omega)) (fun j _ _ => up1_ne _ _ (by omega)), (h.2 q).2.of (fun j _ _ => up1_ne _ _ (by omega))⟩⟩
/-- a page written -/
theorem MRel.wr {A R : Int → Int} (h : MRel 1 A R) (h0 : 0 ≤ R 83) (h1 : R 83 ≤ 30) {a w : Int} (a0 : 0 ≤ a) (a1 : a ≤ 9) (w0 : 0 ≤ w) (w1 : w ≤ 3) (s0 : 0 ≤ R (3 + 7 * a + 3)) (s1 : R (3 + 7 * a + 3) ≤ 9999) : MRel 1 (mw2 (mw1 A) (R 0) ((a * 4 + w) * 10000 + R (3 + 7 * a + 3))) (wrF R a w) ∧ FrW 1 A (mw2 (mw1 A) (R 0) ((a * 4 + w) * 10000 + R (3 + 7 * a + 3))) := by
  have e9 := (h.2 rfl).1.1
  have e91 : 0 ≤ mw1 A 9 ∧ mw1 A 9 < 30 := by
    unfold mw1
    split
    · exact ⟨by show (0 : Int) ≤ 29; decide, by show (29 : Int) < 30; decide⟩
    · omega
  have key : ∀ j, ¬ (4484 ≤ j ∧ j < 4544) → j ≠ 9 → mw2 (mw1 A) (R 0) ((a * 4 + w) * 10000 + R (3 + 7 * a + 3)) j = A j := fun j j1 j2 => by
    unfold mw2
    rw [up1_ne _ _ j2, up1_ne _ _ (by omega), up1_ne _ _ (by omega)]
    unfold mw1
    split
    · show (if j = 9 then _ else _) = _
      rw [if_neg j2, if_neg (by omega)]
    · rfl
  exact ⟨⟨h.1.of (fun j j0 j1 j2 => key j (by omega) j2) (fun j _ j1 => wrF_lo R a w h0 h1 j1), fun _ => mw_bk (h.2 rfl).1 (h.2 rfl).2 h0 h1 a0 a1 w0 w1 s0 s1⟩, fun j q => key j (fun z => q (Or.inr z)) (fun z => q (Or.inl (by omega))), fun q => absurd q (by decide)⟩
theorem MRel.wr0 {A R : Int → Int} (h : MRel 0 A R) (h0 : 0 ≤ R 83) (h1 : R 83 ≤ 30) (a w : Int) : MRel 0 A (wrF R a w) := ⟨h.1.of (fun _ _ _ _ => rfl) (fun j _ j1 => wrF_lo R a w h0 h1 j1), fun q => absurd q (by decide)⟩
