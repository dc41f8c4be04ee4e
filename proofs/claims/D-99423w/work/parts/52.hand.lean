/-! WRONGS, WAYS OFF, SIDEWAYS of ApologyUp (printed by tools/m52.py) -/
set_option maxRecDepth 100000
set_option maxHeartbeats 4000000

/-- what changes: officers, their bosses, pride, cousins, the row, the steps -/
abbrev au_Y : Type := Int × (Int → Int) × (Int → Int) × (Int → Int) × (Int → Int) × Int × (Nat → Int → Int)
def XY (mi : au_A → Int → Int) (y : au_Y) : Prop :=
  mi XNn 0 = y.1 ∧ (∀ o, 0 ≤ o → o < 10 → mi XNboss o = y.2.1 o) ∧ (∀ o, 0 ≤ o → o < 10 → mi XNpride o = y.2.2.1 o) ∧ (∀ o, 0 ≤ o → o < 10 → mi XNcousin o = y.2.2.2.1 o) ∧ mi XNrow = y.2.2.2.2.1 ∧ StX mi y.2.2.2.2.2.1 y.2.2.2.2.2.2
/-- well formed -/
def YOK (y : au_Y) : Prop :=
  Bs y.2.1 y.1 ∧ (∀ o, 0 ≤ o → o < y.1 → 0 ≤ y.2.2.1 o ∧ y.2.2.1 o ≤ 9) ∧ (∀ o, y.1 ≤ o → o < 10 → y.2.2.2.1 o = 0) ∧ RowOK y.2.2.2.2.1 y.1 y.2.1 ∧ (0 ≤ y.2.2.2.2.2.1 ∧ y.2.2.2.2.2.1 ≤ 30) ∧ ∀ k : Nat, k < 30 → RowOK (y.2.2.2.2.2.2 k) y.1 y.2.1
/-- what stays as it was -/
def FrX (mi mi' : au_A → Int → Int) : Prop := ∀ (a : au_A) (j : Int), ¬ ((a = XNn ∧ (j = 0 ∨ j = 3)) ∨ (1003 ≤ a.1 ∧ a.1 ≤ 1006) ∨ (1022 ≤ a.1 ∧ a.1 < 1052) ∨ a.1 = 1107) → mi' a j = mi a j
theorem FrX.rf (mi : au_A → Int → Int) : FrX mi mi := fun _ _ _ => rfl
theorem FrX.tr {m1 m2 m3 : au_A → Int → Int} (h : FrX m1 m2) (k : FrX m2 m3) : FrX m1 m3 := fun a j q => (k a j q).trans (h a j q)
theorem FrK.X {mi mi' : au_A → Int → Int} (h : FrK mi mi') : FrX mi mi' := fun a j q => h a j (fun z => q (Or.inl ⟨z.1, Or.inr z.2⟩)) (fun z => q (Or.inr (Or.inr (Or.inl z))))
theorem FrX.row (mi : au_A → Int → Int) (R : Int → Int) : FrX mi (rowS mi XNrow R) := fun a j q => rowS_ne _ _ _ (fun z => q (Or.inr (Or.inl (by rw [z]; decide))))
theorem StX.row {mi : au_A → Int → Int} {ns : Int} {S : Nat → Int → Int} (h : StX mi ns S) (R : Int → Int) : StX (rowS mi XNrow R) ns S :=
  ⟨(rowS_ne _ _ _ (by decide)).trans h.1, fun k hk => (rowS_neF _ _ (ne1 (by show 1022 + k ≠ 1003; omega))).trans (h.2 k hk)⟩
theorem XY.row {mi : au_A → Int → Int} {n : Int} {B Pr Co R : Int → Int} {ns : Int} {S : Nat → Int → Int} (h : XY mi (n, B, Pr, Co, R, ns, S)) (R' : Int → Int) : XY (rowS mi XNrow R') (n, B, Pr, Co, R', ns, S) := by
  obtain ⟨h1, h2, h3, h4, h5, h6⟩ := h
  exact ⟨(rowS_ne _ _ _ (by decide)).trans h1, fun o a b => (rowS_ne _ _ _ (by decide)).trans (h2 o a b), fun o a b => (rowS_ne _ _ _ (by decide)).trans (h3 o a b), fun o a b => (rowS_ne _ _ _ (by decide)).trans (h4 o a b), rowS_selfF _ _ _, h6.row R'⟩
theorem XY.keep {mi m1 : au_A → Int → Int} {n : Int} {B Pr Co R : Int → Int} {ns : Int} {S : Nat → Int → Int} (h : XY mi (n, B, Pr, Co, R, ns, S)) (hs : StX m1 (keN ns) (keS ns S (mi XNrow))) (hf : FrK mi m1) : XY m1 (n, B, Pr, Co, R, keN ns, keS ns S R) := by
  obtain ⟨h1, h2, h3, h4, h5, h6⟩ := h
  rw [show mi XNrow = R from h5] at hs
  exact ⟨(hf _ _ (by decide) (by decide)).trans h1, fun o a b => (hf _ _ (fun z => absurd z.1 (by decide)) (by decide)).trans (h2 o a b), fun o a b => (hf _ _ (fun z => absurd z.1 (by decide)) (by decide)).trans (h3 o a b), fun o a b => (hf _ _ (fun z => absurd z.1 (by decide)) (by decide)).trans (h4 o a b), (hf.F (by decide) (by decide)).trans h5, hs⟩
theorem EnX.of {r : au_A → Int → Option au_A} {hi mi mi' : au_A → Int → Int} {d : Nat} {n : Int} {B Pr : Int → Int} {Lw : au_Lw} (h : EnX r hi mi d n B Pr Lw) (e0 : mi' XNn 0 = mi XNn 0) (e2 : mi' XNn 2 = mi XNn 2) (eb : ∀ o, 0 ≤ o → o < 10 → mi' XNboss o = mi XNboss o) (ep : ∀ o, 0 ≤ o → o < 10 → mi' XNpride o = mi XNpride o) : EnX r hi mi' d n B Pr Lw := by
  obtain ⟨h1, h2, h3, h4, h5, t, h6, h7⟩ := h
  refine ⟨e0.trans h1, fun o a b => (eb o a b).trans (h2 o a b), h3, fun o a b => (ep o a b).trans (h4 o a b), h5, t, ?_, h7⟩
  unfold RuAt at h6 ⊢
  rw [e2]; exact h6
theorem EnX.keep {r : au_A → Int → Option au_A} {hi mi m1 : au_A → Int → Int} {d : Nat} {n : Int} {B Pr : Int → Int} {Lw : au_Lw} (h : EnX r hi mi d n B Pr Lw) (hf : FrK mi m1) : EnX r hi m1 d n B Pr Lw :=
  h.of (hf _ _ (by decide) (by decide)) (hf _ _ (by decide) (by decide)) (fun o _ _ => hf _ _ (fun z => absurd z.1 (by decide)) (by decide)) (fun o _ _ => hf _ _ (fun z => absurd z.1 (by decide)) (by decide))
theorem keN_bd {ns : Int} (h : 0 ≤ ns ∧ ns ≤ 30) : 0 ≤ keN ns ∧ keN ns ≤ 30 := by
  unfold keN; split <;> omega
/-- within a row's places a copy is the same -/
theorem mv1_at (R T : Int → Int) {j : Int} (h0 : 0 ≤ j) (h1 : j < 204) : mv1 R T 0 0 204 j = R j := by
  unfold mv1
  rw [if_pos (by omega)]
  congr 1
  omega
theorem RowOK.at {R R' : Int → Int} {n : Int} {B : Int → Int} (h : RowOK R n B) (e : ∀ j, 0 ≤ j → j < 204 → R' j = R j) : RowOK R' n B := by
  obtain ⟨⟨h0, h1, h2, h3, h4⟩, h5⟩ := h
  have e2 := e 2 (by decide) (by decide)
  refine ⟨⟨by rw [e 0 (by decide) (by decide)]; exact h0, by rw [e 1 (by decide) (by decide)]; exact h1, by rw [e2]; exact h2, by rw [e 83 (by decide) (by decide)]; exact h3, fun a a0 a2 => ?_⟩, fun a a0 a2 => ?_⟩
  · rw [e2] at a2
    exact (h4 a a0 a2).of (fun w w0 w6 => e _ (by omega) (by omega))
  · rw [e2] at a2
    exact (h5 a a0 a2).of (fun w w0 w6 => e _ (by omega) (by omega))
theorem keS_ok {n : Int} {B : Int → Int} {ns : Int} {S : Nat → Int → Int} {R : Int → Int} (hR : RowOK R n B) (hS : ∀ k : Nat, k < 30 → RowOK (S k) n B) : ∀ k : Nat, k < 30 → RowOK (keS ns S R k) n B := by
  intro k hk
  unfold keS
  split
  · show RowOK (if k < 29 then _ else _) n B
    split
    · exact (hS (k + 1) (by omega)).at (fun j a b => mv1_at _ _ a b)
    · exact hR.at (fun j a b => mv1_at _ _ a b)
  · show RowOK (if (k : Int) = ns then _ else _) n B
    split
    · exact hR.at (fun j a b => mv1_at _ _ a b)
    · exact hS k hk
theorem YOK.keep {n : Int} {B Pr Co R R' : Int → Int} {ns : Int} {S : Nat → Int → Int} (h : YOK (n, B, Pr, Co, R, ns, S)) (hR : RowOK R' n B) : YOK (n, B, Pr, Co, R', keN ns, keS ns S R) :=
  ⟨h.1, h.2.1, h.2.2.1, hR, keN_bd h.2.2.2.2.1, keS_ok h.2.2.2.1 h.2.2.2.2.2⟩
theorem YOK.row {n : Int} {B Pr Co R R' : Int → Int} {ns : Int} {S : Nat → Int → Int} (h : YOK (n, B, Pr, Co, R, ns, S)) (hR : RowOK R' n B) : YOK (n, B, Pr, Co, R', ns, S) :=
  ⟨h.1, h.2.1, h.2.2.1, hR, h.2.2.2.2.1, h.2.2.2.2.2⟩
theorem sevF_at (f t z d : Int) : sevF f t z d 0 = f ∧ sevF f t z d 1 = t ∧ sevF f t z d 2 = f ∧ sevF f t z d 3 = z ∧ sevF f t z d 4 = 0 ∧ sevF f t z d 5 = d ∧ sevF f t z d 6 = 0 := ⟨rfl, rfl, rfl, rfl, rfl, rfl, rfl⟩
theorem wgF_ok {R : Int → Int} {n : Int} {B : Int → Int} (hB : Bs B n) (h : RowOK R n B) {f t z : Int} (hc : cwP n B R f t) (hz : 1 ≤ z ∧ z ≤ 9999) : RowOK (wgF R f t z) n B := by
  obtain ⟨c1, c2, c3, c4⟩ := hc
  obtain ⟨⟨h0, h1, h2, h3, h4⟩, h5⟩ := h
  have e2 : wgF R f t z 2 = R 2 + 1 := up1_self _ _ _
  have e : ∀ j, j ≠ 2 → ¬ (3 + 7 * R 2 ≤ j ∧ j < 3 + 7 * R 2 + 7) → wgF R f t z j = R j := fun j j2 jr => by
    unfold wgF
    rw [up1_ne _ _ j2]
    unfold mv1
    rw [if_neg jr]
  have ev : ∀ w, 0 ≤ w → w ≤ 6 → wgF R f t z (3 + 7 * R 2 + w) = sevF f t z (R 0) w := fun w w0 w6 => by
    unfold wgF
    rw [up1_ne _ _ (by omega)]
    unfold mv1
    rw [if_pos (by omega)]
    congr 1
    omega
  obtain ⟨s0, s1, s2, s3, s4, s5, s6⟩ := sevF_at f t z (R 0)
  refine ⟨⟨by rw [e 0 (by decide) (by omega)]; exact h0, by rw [e 1 (by decide) (by omega)]; exact h1, by rw [e2]; omega, by rw [e 83 (by decide) (by omega)]; exact h3, fun a a0 a2 => ?_⟩, fun a a0 a2 => ?_⟩
  · rw [e2] at a2
    by_cases ha : a = R 2
    · rw [ha]
      unfold ApIn
      rw [ev 0 (by decide) (by decide), ev 1 (by decide) (by decide), ev 2 (by decide) (by decide), ev 3 (by decide) (by decide), ev 4 (by decide) (by decide), ev 5 (by decide) (by decide), s0, s1, s2, s3, s4, s5]
      exact ⟨c1, c2, c1, by omega, by decide, h0⟩
    · exact (h4 a a0 (by omega)).of (fun w w0 w6 => e _ (by omega) (by omega))
  · rw [e2] at a2
    by_cases ha : a = R 2
    · rw [ha]
      unfold ApBel
      rw [ev 0 (by decide) (by decide), ev 1 (by decide) (by decide), ev 2 (by decide) (by decide), ev 4 (by decide) (by decide), s0, s1, s2, s4]
      exact ⟨c3, fun _ => c3, fun q => absurd q (by decide)⟩
    · exact (h5 a a0 (by omega)).of (fun w w0 w6 => e _ (by omega) (by omega))
theorem awF_ok {R : Int → Int} {n : Int} {B : Int → Int} (h : RowOK R n B) {o d : Int} (h0 : 0 ≤ o) (h1 : o < 10) : RowOK (awF R o d) n B := by
  obtain ⟨⟨g0, g1, g2, g3, g4⟩, g5⟩ := h
  have e : ∀ j, j < 73 ∨ 83 ≤ j → awF R o d j = R j := fun j hj => up1_ne _ _ (by omega)
  refine ⟨⟨by rw [e 0 (by decide)]; exact g0, by rw [e 1 (by decide)]; exact g1, by rw [e 2 (by decide)]; exact g2, by rw [e 83 (by decide)]; exact g3, fun a a0 a2 => ?_⟩, fun a a0 a2 => ?_⟩
  · rw [e 2 (by decide)] at a2
    exact (g4 a a0 a2).of (fun w w0 w6 => e _ (by omega))
  · rw [e 2 (by decide)] at a2
    exact (g5 a a0 a2).of (fun w w0 w6 => e _ (by omega))
theorem sdF_ok {R : Int → Int} {n : Int} {B Co : Int → Int} (h : RowOK R n B) {a t : Int} (hp : sdP n B Co R a t) : RowOK (sdF R a t) n B := by
  obtain ⟨⟨a0, a2⟩, ⟨t0, t1⟩, h4, h6, hc, hb⟩ := hp
  have i1 : RowIn (up1 R (3 + 7 * a + 2) t) n := h.1.up a0 a2 (by decide) (by decide) ⟨by intro _; omega, by omega, by omega, by omega⟩
  have i2 : RowIn (sdF R a t) n := i1.up a0 (by rw [up1_ne _ _ (by omega)]; exact a2) (by decide) (by decide) ⟨by omega, by omega, by omega, by omega⟩
  refine (h.sm a0 i2 ((SmE.up R (w := 2) (by decide) (by decide)).tr (SmE.up _ (w := 6) (by decide) (by decide))) ?_).1
  have ew : ∀ w, 0 ≤ w → w < 6 → sdF R a t (3 + 7 * a + w) = if w = 2 then t else R (3 + 7 * a + w) := fun w w0 w6 => by
    unfold sdF
    rw [up1_ne _ _ (by omega)]
    unfold up1
    by_cases e2 : w = 2
    · rw [if_pos (by omega), if_pos e2]
    · rw [if_neg (by omega), if_neg e2]
  obtain ⟨q0, q1, q2⟩ := h.2 a a0 a2
  unfold ApBel
  rw [ew 0 (by decide) (by decide), ew 1 (by decide) (by decide), ew 2 (by decide) (by decide), ew 4 (by decide) (by decide)]
  simp only [show ¬ ((0 : Int) = 2) by decide, show ¬ ((1 : Int) = 2) by decide, show ¬ ((4 : Int) = 2) by decide, if_false, if_true]
  exact ⟨q0, fun _ => hb, fun q => by rw [h4] at q; exact absurd q (by decide)⟩
noncomputable def wrY (y : au_Y) (f t z : Int) : Int × au_Y :=
  @ite _ (cwP y.1 y.2.1 y.2.2.2.2.1 f t ∧ 1 ≤ z ∧ z ≤ 9999) (Classical.propDecidable _) (y.2.2.2.2.1 2, (y.1, y.2.1, y.2.2.1, y.2.2.2.1, wgF y.2.2.2.2.1 f t z, keN y.2.2.2.2.2.1, keS y.2.2.2.2.2.1 y.2.2.2.2.2.2 y.2.2.2.2.1)) (-1, y)
def awY (y : au_Y) (o d : Int) : Int × au_Y :=
  if (0 ≤ o ∧ o < y.1) ∧ 0 ≤ d ∧ d ≤ 99 then (1, (y.1, y.2.1, y.2.2.1, y.2.2.2.1, awF y.2.2.2.2.1 o d, keN y.2.2.2.2.2.1, keS y.2.2.2.2.2.1 y.2.2.2.2.2.2 y.2.2.2.2.1)) else (0, y)
noncomputable def sdY (y : au_Y) (a t : Int) : Int × au_Y :=
  @ite _ (sdP y.1 y.2.1 y.2.2.2.1 y.2.2.2.2.1 a t) (Classical.propDecidable _) (1, (y.1, y.2.1, y.2.2.1, y.2.2.2.1, sdF y.2.2.2.2.1 a t, keN y.2.2.2.2.2.1, keS y.2.2.2.2.2.1 y.2.2.2.2.2.2 y.2.2.2.2.1)) (0, y)
theorem wrY_ok {y : au_Y} (h : YOK y) (f t z : Int) : YOK (wrY y f t z).2 := by
  obtain ⟨n, B, Pr, Co, R, ns, S⟩ := y
  by_cases hc : cwP n B R f t ∧ 1 ≤ z ∧ z ≤ 9999
  · rw [show wrY (n, B, Pr, Co, R, ns, S) f t z = _ from if_pos hc]
    exact h.keep (wgF_ok h.1 h.2.2.2.1 hc.1 hc.2)
  · rw [show wrY (n, B, Pr, Co, R, ns, S) f t z = _ from if_neg hc]
    exact h
theorem awY_ok {y : au_Y} (h : YOK y) (o d : Int) : YOK (awY y o d).2 := by
  obtain ⟨n, B, Pr, Co, R, ns, S⟩ := y
  unfold awY
  split
  · rename_i hc
    have hc : (0 ≤ o ∧ o < n) ∧ _ := hc
    have hb : n ≤ 10 := h.1.2.1
    exact h.keep (awF_ok h.2.2.2.1 hc.1.1 (by omega))
  · exact h
theorem sdY_ok {y : au_Y} (h : YOK y) (a t : Int) : YOK (sdY y a t).2 := by
  obtain ⟨n, B, Pr, Co, R, ns, S⟩ := y
  by_cases hc : sdP n B Co R a t
  · rw [show sdY (n, B, Pr, Co, R, ns, S) a t = _ from if_pos hc]
    exact h.keep (sdF_ok h.2.2.2.1 hc)
  · rw [show sdY (n, B, Pr, Co, R, ns, S) a t = _ from if_neg hc]
    exact h
/-- how a method of ApologyUp that changes what changes ends -/
def PoX (hi sl : au_A → Int → Int) (r : au_A → Int → Option au_A) (nx : Nat) (mi : au_A → Int → Int) (v : Option au_V) (y : au_Y) : Option au_V → au_M → Prop := fun rv M' => rv = v ∧ ∃ (mi' sj : au_A → Int → Int) (nx' : Nat), nx ≤ nx' ∧ M' = (mi', sj, hi, sl, r, nx') ∧ XY mi' y ∧ FrX mi mi'
theorem PoX.of {hi sl : au_A → Int → Int} {r : au_A → Int → Option au_A} {nx : Nat} {mi : au_A → Int → Int} {v : au_V} {w : Int} {y : au_Y} {p : Int × au_Y} (e : p = (w, y)) {mi' sj : au_A → Int → Int} {nx' : Nat} (hn : nx ≤ nx') (hY : XY mi' y) (hf : FrX mi mi') (hv : v = au_i w) : PoX hi sl r nx mi (some (au_i p.1)) p.2 (some v) (mi', sj, hi, sl, r, nx') := by
  subst e
  exact ⟨by rw [hv], mi', sj, nx', hn, rfl, hY, hf⟩

theorem kX0_canWrong (G : au_G) (f t : Int) (n : Int) (B : Int → Int) (mi si hi sl : au_A → Int → Int) (r : au_A → Int → Option au_A) (nx : Nat) (hF : Fix r) (hN : mi XNn 0 = n) (hE : ∀ o, 0 ≤ o → o < 10 → mi XNboss o = B o) (hB : Bs B n) : au_Ctr G yX0_canWrong cX0_canWrong 3 (some .boolean) 2 0 0 [au_r XO, au_i f, au_i t] (mi, si, hi, sl, r, nx) (au_pure (au_i (au_b (cwP n B (mi XNrow) f t))) (mi, si, hi, sl, r, nx)) := by
  refine au_of (by decide) (Nat.le_of_ble_eq_true rfl) ?_
  have hb1 := hB.1
  have hb0 := hB.2.1
  have hn : 0 ≤ n ∧ n ≤ 10 := ⟨hb1, hb0⟩
  show au_Go G _ _ 0 [some (au_r XO), some (au_i f), some (au_i t)] [] (mi, si, hi, sl, r, nx) 0 0
  refine au_aload_n dX0_canWrong_0 rfl ?_
  refine au_iload_n dX0_canWrong_1 rfl ?_
  refine au_callVp (n := 1) (kX0_isOfficer G f mi si hi sl r nx hF n hN hn ) (lw_V q296 q298 qs0 q130 q299) rfl (by decide +kernel) (by decide) (T := TX0) (N := 15) rfl rfl rfl rfl (Nat.le_of_ble_eq_true rfl) (Nat.le_of_ble_eq_true rfl) (Nat.le_of_ble_eq_true rfl) (Nat.le_of_ble_eq_true rfl) (Nat.le_of_ble_eq_true rfl) dX0_canWrong_2 ?_
  refine au_if_eq (tgt := 43) dX0_canWrong_5 (by decide) (fun c5 => ?_) (fun c5 => ?_)
  · have c5 := au_b0 c5
    refine au_iconst dX0_canWrong_43 rfl rfl ?_
    exact au_zret dX0_canWrong_44 rfl (Or.inl rfl) rfl (Nat.le_of_ble_eq_true rfl) (Nat.le_of_ble_eq_true rfl) (au_pf (by first | exact ⟨c5, c13, c22, by omega⟩ | exact fun z => c5 z.1 | exact fun z => c13 z.2.1 | exact fun z => c22 z.2.2.1 | exact fun z => absurd z.2.2.2 (by omega)) rfl)
  · have c5 := au_b1 c5
    refine au_aload_n dX0_canWrong_8 rfl ?_
    refine au_iload_n dX0_canWrong_9 rfl ?_
    refine au_callVp (n := 1) (kX0_isOfficer G t mi si hi sl r nx hF n hN hn ) (lw_V q296 q298 qs0 q130 q299) rfl (by decide +kernel) (by decide) (T := TX0) (N := 15) rfl rfl rfl rfl (Nat.le_of_ble_eq_true rfl) (Nat.le_of_ble_eq_true rfl) (Nat.le_of_ble_eq_true rfl) (Nat.le_of_ble_eq_true rfl) (Nat.le_of_ble_eq_true rfl) dX0_canWrong_10 ?_
    refine au_if_eq (tgt := 43) dX0_canWrong_13 (by decide) (fun c13 => ?_) (fun c13 => ?_)
    · have c13 := au_b0 c13
      refine au_iconst dX0_canWrong_43 rfl rfl ?_
      exact au_zret dX0_canWrong_44 rfl (Or.inl rfl) rfl (Nat.le_of_ble_eq_true rfl) (Nat.le_of_ble_eq_true rfl) (au_pf (by first | exact ⟨c5, c13, c22, by omega⟩ | exact fun z => c5 z.1 | exact fun z => c13 z.2.1 | exact fun z => c22 z.2.2.1 | exact fun z => absurd z.2.2.2 (by omega)) rfl)
    · have c13 := au_b1 c13
      refine au_aload_n dX0_canWrong_16 rfl ?_
      refine au_iload_n dX0_canWrong_17 rfl ?_
      refine au_iload_n dX0_canWrong_18 rfl ?_
      refine au_callVp (n := 2) (kX0_isBelow G f t mi si hi sl r nx hF n hN B hE hB (by omega) (by omega) (by omega)) (lw_V q1078 q1080 qs36 q130 q1081) rfl (by decide +kernel) (by decide) (T := TX0) (N := 15) rfl rfl rfl rfl (Nat.le_of_ble_eq_true rfl) (Nat.le_of_ble_eq_true rfl) (Nat.le_of_ble_eq_true rfl) (Nat.le_of_ble_eq_true rfl) (Nat.le_of_ble_eq_true rfl) dX0_canWrong_19 ?_
      refine au_if_eq (tgt := 43) dX0_canWrong_22 (by decide) (fun c22 => ?_) (fun c22 => ?_)
      · have c22 := au_b0 c22
        refine au_iconst dX0_canWrong_43 rfl rfl ?_
        exact au_zret dX0_canWrong_44 rfl (Or.inl rfl) rfl (Nat.le_of_ble_eq_true rfl) (Nat.le_of_ble_eq_true rfl) (au_pf (by first | exact ⟨c5, c13, c22, by omega⟩ | exact fun z => c5 z.1 | exact fun z => c13 z.2.1 | exact fun z => c22 z.2.2.1 | exact fun z => absurd z.2.2.2 (by omega)) rfl)
      · have c22 := au_b1 c22
        refine au_aload_n dX0_canWrong_25 rfl ?_
        refine au_getf (C := RX0) (T := TX0) (N := 15) in_X0 (by decide) rfl 0 (by decide) rfl rfl q245 rfl dX0_canWrong_26 (v := au_r XN) (congrArg au_q (fx_XO_0 hF)) ?_
        refine au_getN (C := RX1) (T := TX1) (N := 11) in_X1 (by decide) rfl 1 (by decide) rfl rfl q189 rfl dX0_canWrong_29 (v := au_r XNrow) (congrArg au_q (fx_XN_1 hF)) ?_
        refine au_iconst dX0_canWrong_32 rfl rfl ?_
        refine au_iald dX0_canWrong_33 rfl (by omega) (by show _ < ((204 : Nat) : Int); omega) (v := au_i (mi XNrow 2)) (by rfl) ?_
        refine au_bipush dX0_canWrong_34 rfl rfl ?_
        refine au_icmp_ge (tgt := 43) dX0_canWrong_36 (by decide) (fun c36 => ?_) (fun c36 => ?_)
        · refine au_iconst dX0_canWrong_43 rfl rfl ?_
          exact au_zret dX0_canWrong_44 rfl (Or.inl rfl) rfl (Nat.le_of_ble_eq_true rfl) (Nat.le_of_ble_eq_true rfl) (au_pf (by first | exact ⟨c5, c13, c22, by omega⟩ | exact fun z => c5 z.1 | exact fun z => c13 z.2.1 | exact fun z => c22 z.2.2.1 | exact fun z => absurd z.2.2.2 (by omega)) rfl)
        · refine au_iconst dX0_canWrong_39 rfl rfl ?_
          refine au_goto (tgt := 44) dX0_canWrong_40 (by decide) ?_
          exact au_zret dX0_canWrong_44 rfl (Or.inr rfl) rfl (Nat.le_of_ble_eq_true rfl) (Nat.le_of_ble_eq_true rfl) (au_pt (by first | exact ⟨c5, c13, c22, by omega⟩ | exact fun z => c5 z.1 | exact fun z => c13 z.2.1 | exact fun z => c22 z.2.2.1 | exact fun z => absurd z.2.2.2 (by omega)) rfl)
theorem kX0_wrongs (G : au_G) (f t z : Int) (mi si hi sl : au_A → Int → Int) (r : au_A → Int → Option au_A) (nx : Nat) (hF : Fix r) (hnx : 1126 ≤ nx) (h0 : 0 ≤ mi XNrow 2) (h1 : mi XNrow 2 < 10) : au_Ctr G yX0_wrongs cX0_wrongs 6 (some .int) 1 1 7 [au_r XO, au_i f, au_i t, au_i z] (mi, si, hi, sl, r, nx) (fun rv M' => rv = some (au_i (mi XNrow 2)) ∧ ∃ sj : au_A → Int → Int, M' = (rowS mi XNrow (wgF (mi XNrow) f t z), sj, hi, sl, r, nx + 1)) := by
  refine au_of (by decide) (Nat.le_of_ble_eq_true rfl) ?_
  show au_Go G _ _ 0 [some (au_r XO), some (au_i f), some (au_i t), some (au_i z), none, none] [] (mi, si, hi, sl, r, nx) 0 0
  refine au_aload_n dX0_wrongs_0 rfl ?_
  refine au_getf (C := RX0) (T := TX0) (N := 15) in_X0 (by decide) rfl 0 (by decide) rfl rfl q245 rfl dX0_wrongs_1 (v := au_r XN) (congrArg au_q (fx_XO_0 hF)) ?_
  refine au_getN (C := RX1) (T := TX1) (N := 11) in_X1 (by decide) rfl 1 (by decide) rfl rfl q189 rfl dX0_wrongs_4 (v := au_r XNrow) (congrArg au_q (fx_XN_1 hF)) ?_
  refine au_astore dX0_wrongs_7 (show 4 < 6 by decide) ?_
  show au_Go G _ _ 9 [some (au_r XO), some (au_i f), some (au_i t), some (au_i z), some (au_r XNrow), none] [] (mi, si, hi, sl, r, nx) 0 0
  refine au_bipush dX0_wrongs_9 rfl rfl ?_
  refine au_newi dX0_wrongs_11 (by decide) (by decide) (by omega) (Nat.le_of_ble_eq_true rfl) (Nat.le_of_ble_eq_true rfl) ?_
  show au_Go G _ _ 13 [some (au_r XO), some (au_i f), some (au_i t), some (au_i z), some (au_r XNrow), none] [au_r (nx, 7, 40)] (mi, (au_zr si (nx, 7, 40) 0), hi, sl, r, nx + 1) 1 7
  refine au_dup dX0_wrongs_13 rfl ?_
  refine au_iconst dX0_wrongs_14 rfl rfl ?_
  refine au_iload_n dX0_wrongs_15 rfl ?_
  refine au_iast dX0_wrongs_16 rfl (by show 1000 ≤ _; omega) (by omega) (by show _ < ((7 : Nat) : Int); omega) (M' := (mi, (au_up (au_zr si (nx, 7, 40) 0) (nx, 7, 40) 0 f), hi, sl, r, nx + 1)) (au_wv_s (au_reg_dyn (by omega) _)) ?_
  refine au_dup dX0_wrongs_17 rfl ?_
  refine au_iconst dX0_wrongs_18 rfl rfl ?_
  refine au_iload_n dX0_wrongs_19 rfl ?_
  refine au_iast dX0_wrongs_20 rfl (by show 1000 ≤ _; omega) (by omega) (by show _ < ((7 : Nat) : Int); omega) (M' := (mi, (au_up (au_up (au_zr si (nx, 7, 40) 0) (nx, 7, 40) 0 f) (nx, 7, 40) 1 t), hi, sl, r, nx + 1)) (au_wv_s (au_reg_dyn (by omega) _)) ?_
  refine au_dup dX0_wrongs_21 rfl ?_
  refine au_iconst dX0_wrongs_22 rfl rfl ?_
  refine au_iload_n dX0_wrongs_23 rfl ?_
  refine au_iast dX0_wrongs_24 rfl (by show 1000 ≤ _; omega) (by omega) (by show _ < ((7 : Nat) : Int); omega) (M' := (mi, (au_up (au_up (au_up (au_zr si (nx, 7, 40) 0) (nx, 7, 40) 0 f) (nx, 7, 40) 1 t) (nx, 7, 40) 2 f), hi, sl, r, nx + 1)) (au_wv_s (au_reg_dyn (by omega) _)) ?_
  refine au_dup dX0_wrongs_25 rfl ?_
  refine au_iconst dX0_wrongs_26 rfl rfl ?_
  refine au_iload_n dX0_wrongs_27 rfl ?_
  refine au_iast dX0_wrongs_28 rfl (by show 1000 ≤ _; omega) (by omega) (by show _ < ((7 : Nat) : Int); omega) (M' := (mi, (au_up (au_up (au_up (au_up (au_zr si (nx, 7, 40) 0) (nx, 7, 40) 0 f) (nx, 7, 40) 1 t) (nx, 7, 40) 2 f) (nx, 7, 40) 3 z), hi, sl, r, nx + 1)) (au_wv_s (au_reg_dyn (by omega) _)) ?_
  refine au_dup dX0_wrongs_29 rfl ?_
  refine au_iconst dX0_wrongs_30 rfl rfl ?_
  refine au_iconst dX0_wrongs_31 rfl rfl ?_
  refine au_iast dX0_wrongs_32 rfl (by show 1000 ≤ _; omega) (by omega) (by show _ < ((7 : Nat) : Int); omega) (M' := (mi, (au_up (au_up (au_up (au_up (au_up (au_zr si (nx, 7, 40) 0) (nx, 7, 40) 0 f) (nx, 7, 40) 1 t) (nx, 7, 40) 2 f) (nx, 7, 40) 3 z) (nx, 7, 40) 4 0), hi, sl, r, nx + 1)) (au_wv_s (au_reg_dyn (by omega) _)) ?_
  refine au_dup dX0_wrongs_33 rfl ?_
  refine au_iconst dX0_wrongs_34 rfl rfl ?_
  refine au_aload dX0_wrongs_35 rfl ?_
  refine au_iconst dX0_wrongs_37 rfl rfl ?_
  refine au_iald dX0_wrongs_38 rfl (by omega) (by show _ < ((204 : Nat) : Int); omega) (v := au_i (mi XNrow 0)) (by rfl) ?_
  refine au_iast dX0_wrongs_39 rfl (by show 1000 ≤ _; omega) (by omega) (by show _ < ((7 : Nat) : Int); omega) (M' := (mi, (au_up (au_up (au_up (au_up (au_up (au_up (au_zr si (nx, 7, 40) 0) (nx, 7, 40) 0 f) (nx, 7, 40) 1 t) (nx, 7, 40) 2 f) (nx, 7, 40) 3 z) (nx, 7, 40) 4 0) (nx, 7, 40) 5 (mi XNrow 0)), hi, sl, r, nx + 1)) (au_wv_s (au_reg_dyn (by omega) _)) ?_
  refine au_dup dX0_wrongs_40 rfl ?_
  refine au_bipush dX0_wrongs_41 rfl rfl ?_
  refine au_iconst dX0_wrongs_43 rfl rfl ?_
  refine au_iast dX0_wrongs_44 rfl (by show 1000 ≤ _; omega) (by omega) (by show _ < ((7 : Nat) : Int); omega) (M' := (mi, (au_up (au_up (au_up (au_up (au_up (au_up (au_up (au_zr si (nx, 7, 40) 0) (nx, 7, 40) 0 f) (nx, 7, 40) 1 t) (nx, 7, 40) 2 f) (nx, 7, 40) 3 z) (nx, 7, 40) 4 0) (nx, 7, 40) 5 (mi XNrow 0)) (nx, 7, 40) 6 0), hi, sl, r, nx + 1)) (au_wv_s (au_reg_dyn (by omega) _)) ?_
  refine au_astore dX0_wrongs_45 (show 5 < 6 by decide) ?_
  show au_Go G _ _ 47 [some (au_r XO), some (au_i f), some (au_i t), some (au_i z), some (au_r XNrow), some (au_r (nx, 7, 40))] [] (mi, (au_up (au_up (au_up (au_up (au_up (au_up (au_up (au_zr si (nx, 7, 40) 0) (nx, 7, 40) 0 f) (nx, 7, 40) 1 t) (nx, 7, 40) 2 f) (nx, 7, 40) 3 z) (nx, 7, 40) 4 0) (nx, 7, 40) 5 (mi XNrow 0)) (nx, 7, 40) 6 0), hi, sl, r, nx + 1) 1 7
  refine au_aload dX0_wrongs_47 rfl ?_
  refine au_iconst dX0_wrongs_49 rfl rfl ?_
  refine au_aload dX0_wrongs_50 rfl ?_
  refine au_iconst dX0_wrongs_52 rfl rfl ?_
  refine au_bipush dX0_wrongs_53 rfl rfl ?_
  refine au_aload dX0_wrongs_55 rfl ?_
  refine au_iconst dX0_wrongs_57 rfl rfl ?_
  refine au_iald dX0_wrongs_58 rfl (by omega) (by show _ < ((204 : Nat) : Int); omega) (v := au_i (mi XNrow 2)) (by rfl) ?_
  refine au_imul dX0_wrongs_59 (by omega) (by omega) ?_
  refine au_iadd dX0_wrongs_60 (by omega) (by omega) ?_
  refine au_bipush dX0_wrongs_61 rfl rfl ?_
  refine au_copy_sm (a := (nx, 7, 40)) (b := XNrow) q1054 q241 q240 q133 rfl rfl rfl (fun _ => au_reg_dyn (by omega) _) (fun _ => rfl) (by decide) (by omega) (by omega) (by omega) (by show _ ≤ ((7 : Nat) : Int); omega) (by show _ ≤ ((204 : Nat) : Int); omega) (Nat.le_of_ble_eq_true rfl) (Nat.le_of_ble_eq_true rfl) (by decide) dX0_wrongs_63 ?_
  show au_Go G _ _ 66 [some (au_r XO), some (au_i f), some (au_i t), some (au_i z), some (au_r XNrow), some (au_r (nx, 7, 40))] [] ((au_cp (au_up (au_up (au_up (au_up (au_up (au_up (au_up (au_zr si (nx, 7, 40) 0) (nx, 7, 40) 0 f) (nx, 7, 40) 1 t) (nx, 7, 40) 2 f) (nx, 7, 40) 3 z) (nx, 7, 40) 4 0) (nx, 7, 40) 5 (mi XNrow 0)) (nx, 7, 40) 6 0) mi (nx, 7, 40) 0 XNrow (3 + (7 * (mi XNrow 2))) 7), (au_up (au_up (au_up (au_up (au_up (au_up (au_up (au_zr si (nx, 7, 40) 0) (nx, 7, 40) 0 f) (nx, 7, 40) 1 t) (nx, 7, 40) 2 f) (nx, 7, 40) 3 z) (nx, 7, 40) 4 0) (nx, 7, 40) 5 (mi XNrow 0)) (nx, 7, 40) 6 0), hi, sl, r, nx + 1) 1 7
  refine au_aload dX0_wrongs_66 rfl ?_
  refine au_iconst dX0_wrongs_68 rfl rfl ?_
  refine au_dup2 dX0_wrongs_69 rfl rfl ?_
  refine au_iald dX0_wrongs_70 rfl (by omega) (by show _ < ((204 : Nat) : Int); omega) (v := au_i (mi XNrow 2)) (congrArg au_i ((au_cp_b (au_up (au_up (au_up (au_up (au_up (au_up (au_up (au_zr si (nx, 7, 40) 0) (nx, 7, 40) 0 f) (nx, 7, 40) 1 t) (nx, 7, 40) 2 f) (nx, 7, 40) 3 z) (nx, 7, 40) 4 0) (nx, 7, 40) 5 (mi XNrow 0)) (nx, 7, 40) 6 0) mi (nx, 7, 40) XNrow 0 (3 + (7 * (mi XNrow 2))) 7 2).trans (if_neg (by omega)))) ?_
  refine au_iconst dX0_wrongs_71 rfl rfl ?_
  refine au_iadd dX0_wrongs_72 (by omega) (by omega) ?_
  refine au_iast dX0_wrongs_73 rfl (by decide) (by omega) (by show _ < ((204 : Nat) : Int); omega) (M' := ((au_up (au_cp (au_up (au_up (au_up (au_up (au_up (au_up (au_up (au_zr si (nx, 7, 40) 0) (nx, 7, 40) 0 f) (nx, 7, 40) 1 t) (nx, 7, 40) 2 f) (nx, 7, 40) 3 z) (nx, 7, 40) 4 0) (nx, 7, 40) 5 (mi XNrow 0)) (nx, 7, 40) 6 0) mi (nx, 7, 40) 0 XNrow (3 + (7 * (mi XNrow 2))) 7) XNrow 2 ((mi XNrow 2) + 1)), (au_up (au_up (au_up (au_up (au_up (au_up (au_up (au_zr si (nx, 7, 40) 0) (nx, 7, 40) 0 f) (nx, 7, 40) 1 t) (nx, 7, 40) 2 f) (nx, 7, 40) 3 z) (nx, 7, 40) 4 0) (nx, 7, 40) 5 (mi XNrow 0)) (nx, 7, 40) 6 0), hi, sl, r, nx + 1)) (by rfl) ?_
  refine au_aload dX0_wrongs_74 rfl ?_
  refine au_iconst dX0_wrongs_76 rfl rfl ?_
  refine au_iald dX0_wrongs_77 rfl (by omega) (by show _ < ((204 : Nat) : Int); omega) (v := au_i ((mi XNrow 2) + 1)) (by rfl) ?_
  refine au_iconst dX0_wrongs_78 rfl rfl ?_
  refine au_isub dX0_wrongs_79 (by omega) (by omega) ?_
  refine au_iret dX0_wrongs_80 rfl rfl (Nat.le_of_ble_eq_true rfl) (Nat.le_of_ble_eq_true rfl) ?_
  refine ⟨congrArg (fun z => some (au_i z)) (by omega), (au_up (au_up (au_up (au_up (au_up (au_up (au_up (au_zr si (nx, 7, 40) 0) (nx, 7, 40) 0 f) (nx, 7, 40) 1 t) (nx, 7, 40) 2 f) (nx, 7, 40) 3 z) (nx, 7, 40) 4 0) (nx, 7, 40) 5 (mi XNrow 0)) (nx, 7, 40) 6 0), ?_⟩
  rw [au_cp_row, au_up_row, rowS_selfF, rowS_rowS]
  refine congrArg (fun zz => ((rowS mi XNrow zz, (au_up (au_up (au_up (au_up (au_up (au_up (au_up (au_zr si (nx, 7, 40) 0) (nx, 7, 40) 0 f) (nx, 7, 40) 1 t) (nx, 7, 40) 2 f) (nx, 7, 40) 3 z) (nx, 7, 40) 4 0) (nx, 7, 40) 5 (mi XNrow 0)) (nx, 7, 40) 6 0), hi, sl, r, nx + 1) : au_M)) ?_
  unfold wgF
  have hpg : (au_up (au_up (au_up (au_up (au_up (au_up (au_up (au_zr si (nx, 7, 40) 0) (nx, 7, 40) 0 f) (nx, 7, 40) 1 t) (nx, 7, 40) 2 f) (nx, 7, 40) 3 z) (nx, 7, 40) 4 0) (nx, 7, 40) 5 (mi XNrow 0)) (nx, 7, 40) 6 0) (nx, 7, 40) = sevF f t z (mi XNrow 0) := by
    funext j
    simp only [au_up, au_zr, sevF, true_and, if_true]
  rw [hpg]
theorem kX0_goesAway (G : au_G) (o e : Int) (mi si hi sl : au_A → Int → Int) (r : au_A → Int → Option au_A) (nx : Nat) (hF : Fix r) (h0 : 0 ≤ o) (h1 : o < 10) (h2 : 0 ≤ mi XNrow 0 ∧ mi XNrow 0 ≤ 9999) (h3 : 0 ≤ e ∧ e ≤ 99) : au_Ctr G yX0_goesAway cX0_goesAway 3 none 0 0 0 [au_r XO, au_i o, au_i e] (mi, si, hi, sl, r, nx) (fun rv M' => rv = none ∧ M' = (rowS mi XNrow (awF (mi XNrow) o e), si, hi, sl, r, nx)) := by
  refine au_of (by decide) (Nat.le_of_ble_eq_true rfl) ?_
  rw [awF, ← au_up_row]
  show au_Go G _ _ 0 [some (au_r XO), some (au_i o), some (au_i e)] [] (mi, si, hi, sl, r, nx) 0 0
  refine au_aload_n dX0_goesAway_0 rfl ?_
  refine au_getf (C := RX0) (T := TX0) (N := 15) in_X0 (by decide) rfl 0 (by decide) rfl rfl q245 rfl dX0_goesAway_1 (v := au_r XN) (congrArg au_q (fx_XO_0 hF)) ?_
  refine au_getN (C := RX1) (T := TX1) (N := 11) in_X1 (by decide) rfl 1 (by decide) rfl rfl q189 rfl dX0_goesAway_4 (v := au_r XNrow) (congrArg au_q (fx_XN_1 hF)) ?_
  refine au_bipush dX0_goesAway_7 rfl rfl ?_
  refine au_iload_n dX0_goesAway_9 rfl ?_
  refine au_iadd dX0_goesAway_10 (by omega) (by omega) ?_
  refine au_iload_n dX0_goesAway_11 rfl ?_
  refine au_if_ne (tgt := 19) dX0_goesAway_12 (by decide) (fun c12 => ?_) (fun c12 => ?_)
  · refine au_aload_n dX0_goesAway_19 rfl ?_
    refine au_getf (C := RX0) (T := TX0) (N := 15) in_X0 (by decide) rfl 0 (by decide) rfl rfl q245 rfl dX0_goesAway_20 (v := au_r XN) (congrArg au_q (fx_XO_0 hF)) ?_
    refine au_getN (C := RX1) (T := TX1) (N := 11) in_X1 (by decide) rfl 1 (by decide) rfl rfl q189 rfl dX0_goesAway_23 (v := au_r XNrow) (congrArg au_q (fx_XN_1 hF)) ?_
    refine au_iconst dX0_goesAway_26 rfl rfl ?_
    refine au_iald dX0_goesAway_27 rfl (by omega) (by show _ < ((204 : Nat) : Int); omega) (v := au_i (mi XNrow 0)) (by rfl) ?_
    refine au_iload_n dX0_goesAway_28 rfl ?_
    refine au_iadd dX0_goesAway_29 (by omega) (by omega) ?_
    refine au_iast dX0_goesAway_30 rfl (by decide) (by omega) (by show _ < ((204 : Nat) : Int); omega) (M' := ((au_up mi XNrow (73 + o) ((mi XNrow 0) + e)), si, hi, sl, r, nx)) (by rfl) ?_
    refine au_vret dX0_goesAway_31 rfl rfl (Nat.le_of_ble_eq_true rfl) (Nat.le_of_ble_eq_true rfl) ?_
    first
    | exact ⟨rfl, by rw [if_pos c12]⟩
    | exact ⟨rfl, by rw [if_neg c12]⟩
  · refine au_iconst dX0_goesAway_15 rfl rfl ?_
    refine au_goto (tgt := 30) dX0_goesAway_16 (by decide) ?_
    refine au_iast dX0_goesAway_30 rfl (by decide) (by omega) (by show _ < ((204 : Nat) : Int); omega) (M' := ((au_up mi XNrow (73 + o) 0), si, hi, sl, r, nx)) (by rfl) ?_
    refine au_vret dX0_goesAway_31 rfl rfl (Nat.le_of_ble_eq_true rfl) (Nat.le_of_ble_eq_true rfl) ?_
    first
    | exact ⟨rfl, by rw [if_pos c12]⟩
    | exact ⟨rfl, by rw [if_neg c12]⟩
theorem kX0_wrong (G : au_G) (f t z : Int) (n : Int) (B Pr Co R : Int → Int) (ns : Int) (S : Nat → Int → Int) (mi si hi sl : au_A → Int → Int) (r : au_A → Int → Option au_A) (nx : Nat) (hF : Fix r) (hnx : 1126 ≤ nx) (hY : XY mi (n, B, Pr, Co, R, ns, S)) (hK : YOK (n, B, Pr, Co, R, ns, S)) : au_Ctr G yX0_wrong cX0_wrong 4 (some .int) 3 1 7 [au_r XO, au_i f, au_i t, au_i z] (mi, si, hi, sl, r, nx) (PoX hi sl r nx mi (some (au_i (wrY (n, B, Pr, Co, R, ns, S) f t z).1)) (wrY (n, B, Pr, Co, R, ns, S) f t z).2) := by
  refine au_of (by decide) (Nat.le_of_ble_eq_true rfl) ?_
  obtain ⟨jN, jE, jPr, jCo, jRw, jSt⟩ := id hY
  obtain ⟨jB, jP9, jC0, jR, jns, jSR⟩ := id hK
  have hN : mi XNn 0 = n := jN
  have hE : ∀ o, 0 ≤ o → o < 10 → mi XNboss o = B o := jE
  have hPr : ∀ o, 0 ≤ o → o < 10 → mi XNpride o = Pr o := jPr
  have hCo : ∀ o, 0 ≤ o → o < 10 → mi XNcousin o = Co o := jCo
  have hRw : mi XNrow = R := jRw
  have hSt : StX mi ns S := jSt
  have hB : Bs B n := jB
  have hns : 0 ≤ ns ∧ ns ≤ 30 := jns
  have hb1 := hB.1
  have hb0 := hB.2.1
  have hn : 0 ≤ n ∧ n ≤ 10 := ⟨hb1, hb0⟩
  have hR : RowOK R n B := jR
  subst hRw
  obtain ⟨⟨r0, r0b⟩, ⟨r1, r1b⟩, ⟨r2, r2b⟩, ⟨r83, r83b⟩, rA⟩ := id hR.1
  have hq : 1003 = 1003 ∨ 1003 = 1107 := Or.inl rfl
  show au_Go G _ _ 0 [some (au_r XO), some (au_i f), some (au_i t), some (au_i z)] [] (mi, si, hi, sl, r, nx) 0 0
  refine au_aload_n dX0_wrong_0 rfl ?_
  refine au_iload_n dX0_wrong_1 rfl ?_
  refine au_iload_n dX0_wrong_2 rfl ?_
  refine au_callVp (n := 2) (kX0_canWrong G f t n B mi si hi sl r nx hF hN hE hB) (lw_V q1074 q1076 qs35 q130 q1077) rfl (by decide +kernel) (by decide) (T := TX0) (N := 15) rfl rfl rfl rfl (Nat.le_of_ble_eq_true rfl) (Nat.le_of_ble_eq_true rfl) (Nat.le_of_ble_eq_true rfl) (Nat.le_of_ble_eq_true rfl) (Nat.le_of_ble_eq_true rfl) dX0_wrong_3 ?_
  refine au_if_eq (tgt := 20) dX0_wrong_6 (by decide) (fun c6 => ?_) (fun c6 => ?_)
  · have c6 := au_b0 c6
    refine au_iconst dX0_wrong_20 rfl rfl ?_
    refine au_iret dX0_wrong_21 rfl rfl (Nat.le_of_ble_eq_true rfl) (Nat.le_of_ble_eq_true rfl) ?_
    first
    | exact PoX.of (show wrY (n, B, Pr, Co, mi XNrow, ns, S) f t z = _ from if_neg (fun z => c6 z.1)) (Nat.le_refl _) hY (FrX.rf mi) rfl
    | exact PoX.of (show wrY (n, B, Pr, Co, mi XNrow, ns, S) f t z = _ from if_neg (fun z => c17 z.2)) (Nat.le_refl _) hY (FrX.rf mi) rfl
  · have c6 := au_b1 c6
    refine au_iload_n dX0_wrong_9 rfl ?_
    refine au_iconst dX0_wrong_10 rfl rfl ?_
    refine au_sipush dX0_wrong_11 rfl rfl ?_
    refine au_callSp (n := 3) (kX0_in G z 1 9999 (mi, si, hi, sl, r, nx)) (lw_S q300 q301 q130 q302) (by decide +kernel) rfl rfl rfl (Nat.le_of_ble_eq_true rfl) (Nat.le_of_ble_eq_true rfl) (Nat.le_of_ble_eq_true rfl) (Nat.le_of_ble_eq_true rfl) (Nat.le_of_ble_eq_true rfl) dX0_wrong_14 ?_
    refine au_if_ne (tgt := 22) dX0_wrong_17 (by decide) (fun c17 => ?_) (fun c17 => ?_)
    · have c17 := au_b1 c17
      obtain ⟨c61, c62, c63, c64⟩ := id c6
      refine au_aload_n dX0_wrong_22 rfl ?_
      refine au_getf (C := RX0) (T := TX0) (N := 15) in_X0 (by decide) rfl 0 (by decide) rfl rfl q245 rfl dX0_wrong_23 (v := au_r XN) (congrArg au_q (fx_XO_0 hF)) ?_
      refine au_callV (n := 0) (kX1_keeps G ns S mi si hi sl r nx hF hSt hns) (lw_V q890 q891 q892 q131 q893) rfl (by decide +kernel) (by decide) (T := TX1) (N := 11) rfl rfl rfl rfl (Nat.le_of_ble_eq_true rfl) (Nat.le_of_ble_eq_true rfl) (Nat.le_of_ble_eq_true rfl) (Nat.le_of_ble_eq_true rfl) (Nat.le_of_ble_eq_true rfl) dX0_wrong_26 (fun rv_ M_ hp_ => ?_)
      obtain ⟨rfl, m1, rfl, hst, hfr⟩ := hp_
      have hr1 : m1 XNrow = mi XNrow := hfr.F (by decide) (by decide)
      have hY1 := hY.keep hst hfr
      show au_Go G _ _ 29 [some (au_r XO), some (au_i f), some (au_i t), some (au_i z)] [] (m1, si, hi, sl, r, nx) 0 0
      have h2 : m1 XNrow 2 = mi XNrow 2 := by rw [hr1]
      refine au_aload_n dX0_wrong_29 rfl ?_
      refine au_iload_n dX0_wrong_30 rfl ?_
      refine au_iload_n dX0_wrong_31 rfl ?_
      refine au_iload_n dX0_wrong_32 rfl ?_
      refine au_callV (n := 3) (kX0_wrongs G f t z m1 si hi sl r nx hF hnx (by omega) (by omega)) (lw_V q1082 q1084 qs37 q130 q1085) rfl (by decide +kernel) (by decide) (T := TX0) (N := 15) rfl rfl rfl rfl (Nat.le_of_ble_eq_true rfl) (Nat.le_of_ble_eq_true rfl) (Nat.le_of_ble_eq_true rfl) (Nat.le_of_ble_eq_true rfl) (Nat.le_of_ble_eq_true rfl) dX0_wrong_33 (fun rv_ M_ hp_ => ?_)
      obtain ⟨rfl, sj2_33, rfl⟩ := hp_
      show au_Go G _ _ 36 [some (au_r XO), some (au_i f), some (au_i t), some (au_i z)] [au_i (m1 XNrow 2)] ((rowS m1 XNrow (wgF (m1 XNrow) f t z)), sj2_33, hi, sl, r, nx + 1) 1 7
      refine au_iret dX0_wrong_36 rfl rfl (Nat.le_of_ble_eq_true rfl) (Nat.le_of_ble_eq_true rfl) ?_
      rw [hr1]
      exact PoX.of (show wrY (n, B, Pr, Co, mi XNrow, ns, S) f t z = _ from if_pos ⟨c6, c17⟩) (Nat.le_succ _) (hY1.row _) (hfr.X.tr (FrX.row _ _)) rfl
    · have c17 := au_b0 c17
      refine au_iconst dX0_wrong_20 rfl rfl ?_
      refine au_iret dX0_wrong_21 rfl rfl (Nat.le_of_ble_eq_true rfl) (Nat.le_of_ble_eq_true rfl) ?_
      first
      | exact PoX.of (show wrY (n, B, Pr, Co, mi XNrow, ns, S) f t z = _ from if_neg (fun z => c6 z.1)) (Nat.le_refl _) hY (FrX.rf mi) rfl
      | exact PoX.of (show wrY (n, B, Pr, Co, mi XNrow, ns, S) f t z = _ from if_neg (fun z => c17 z.2)) (Nat.le_refl _) hY (FrX.rf mi) rfl
theorem kX0_away (G : au_G) (o e : Int) (n : Int) (B Pr Co R : Int → Int) (ns : Int) (S : Nat → Int → Int) (mi si hi sl : au_A → Int → Int) (r : au_A → Int → Option au_A) (nx : Nat) (hF : Fix r) (hnx : 1126 ≤ nx) (hY : XY mi (n, B, Pr, Co, R, ns, S)) (hK : YOK (n, B, Pr, Co, R, ns, S)) : au_Ctr G yX0_away cX0_away 3 (some .boolean) 3 0 0 [au_r XO, au_i o, au_i e] (mi, si, hi, sl, r, nx) (PoX hi sl r nx mi (some (au_i (awY (n, B, Pr, Co, R, ns, S) o e).1)) (awY (n, B, Pr, Co, R, ns, S) o e).2) := by
  refine au_of (by decide) (Nat.le_of_ble_eq_true rfl) ?_
  obtain ⟨jN, jE, jPr, jCo, jRw, jSt⟩ := id hY
  obtain ⟨jB, jP9, jC0, jR, jns, jSR⟩ := id hK
  have hN : mi XNn 0 = n := jN
  have hE : ∀ o, 0 ≤ o → o < 10 → mi XNboss o = B o := jE
  have hPr : ∀ o, 0 ≤ o → o < 10 → mi XNpride o = Pr o := jPr
  have hCo : ∀ o, 0 ≤ o → o < 10 → mi XNcousin o = Co o := jCo
  have hRw : mi XNrow = R := jRw
  have hSt : StX mi ns S := jSt
  have hB : Bs B n := jB
  have hns : 0 ≤ ns ∧ ns ≤ 30 := jns
  have hb1 := hB.1
  have hb0 := hB.2.1
  have hn : 0 ≤ n ∧ n ≤ 10 := ⟨hb1, hb0⟩
  have hR : RowOK R n B := jR
  subst hRw
  obtain ⟨⟨r0, r0b⟩, ⟨r1, r1b⟩, ⟨r2, r2b⟩, ⟨r83, r83b⟩, rA⟩ := id hR.1
  have hq : 1003 = 1003 ∨ 1003 = 1107 := Or.inl rfl
  show au_Go G _ _ 0 [some (au_r XO), some (au_i o), some (au_i e)] [] (mi, si, hi, sl, r, nx) 0 0
  refine au_aload_n dX0_away_0 rfl ?_
  refine au_iload_n dX0_away_1 rfl ?_
  refine au_callVp (n := 1) (kX0_isOfficer G o mi si hi sl r nx hF n hN hn ) (lw_V q296 q298 qs0 q130 q299) rfl (by decide +kernel) (by decide) (T := TX0) (N := 15) rfl rfl rfl rfl (Nat.le_of_ble_eq_true rfl) (Nat.le_of_ble_eq_true rfl) (Nat.le_of_ble_eq_true rfl) (Nat.le_of_ble_eq_true rfl) (Nat.le_of_ble_eq_true rfl) dX0_away_2 ?_
  refine au_if_eq (tgt := 18) dX0_away_5 (by decide) (fun c5 => ?_) (fun c5 => ?_)
  · have c5 := au_b0 c5
    refine au_iconst dX0_away_18 rfl rfl ?_
    refine au_zret dX0_away_19 rfl (Or.inl rfl) rfl (Nat.le_of_ble_eq_true rfl) (Nat.le_of_ble_eq_true rfl) ?_
    first
    | exact PoX.of (show awY (n, B, Pr, Co, mi XNrow, ns, S) o e = _ from if_neg (fun z => c5 z.1)) (Nat.le_refl _) hY (FrX.rf mi) rfl
    | exact PoX.of (show awY (n, B, Pr, Co, mi XNrow, ns, S) o e = _ from if_neg (fun z => c15 z.2)) (Nat.le_refl _) hY (FrX.rf mi) rfl
  · have c5 := au_b1 c5
    refine au_iload_n dX0_away_8 rfl ?_
    refine au_iconst dX0_away_9 rfl rfl ?_
    refine au_bipush dX0_away_10 rfl rfl ?_
    refine au_callSp (n := 3) (kX0_in G e 0 99 (mi, si, hi, sl, r, nx)) (lw_S q300 q301 q130 q302) (by decide +kernel) rfl rfl rfl (Nat.le_of_ble_eq_true rfl) (Nat.le_of_ble_eq_true rfl) (Nat.le_of_ble_eq_true rfl) (Nat.le_of_ble_eq_true rfl) (Nat.le_of_ble_eq_true rfl) dX0_away_12 ?_
    refine au_if_ne (tgt := 20) dX0_away_15 (by decide) (fun c15 => ?_) (fun c15 => ?_)
    · have c15 := au_b1 c15
      refine au_aload_n dX0_away_20 rfl ?_
      refine au_getf (C := RX0) (T := TX0) (N := 15) in_X0 (by decide) rfl 0 (by decide) rfl rfl q245 rfl dX0_away_21 (v := au_r XN) (congrArg au_q (fx_XO_0 hF)) ?_
      refine au_callV (n := 0) (kX1_keeps G ns S mi si hi sl r nx hF hSt hns) (lw_V q890 q891 q892 q131 q893) rfl (by decide +kernel) (by decide) (T := TX1) (N := 11) rfl rfl rfl rfl (Nat.le_of_ble_eq_true rfl) (Nat.le_of_ble_eq_true rfl) (Nat.le_of_ble_eq_true rfl) (Nat.le_of_ble_eq_true rfl) (Nat.le_of_ble_eq_true rfl) dX0_away_24 (fun rv_ M_ hp_ => ?_)
      obtain ⟨rfl, m1, rfl, hst, hfr⟩ := hp_
      have hr1 : m1 XNrow = mi XNrow := hfr.F (by decide) (by decide)
      have hY1 := hY.keep hst hfr
      show au_Go G _ _ 27 [some (au_r XO), some (au_i o), some (au_i e)] [] (m1, si, hi, sl, r, nx) 0 0
      have h0 : m1 XNrow 0 = mi XNrow 0 := by rw [hr1]
      refine au_aload_n dX0_away_27 rfl ?_
      refine au_iload_n dX0_away_28 rfl ?_
      refine au_iload_n dX0_away_29 rfl ?_
      refine au_callV (n := 2) (kX0_goesAway G o e m1 si hi sl r nx hF (by omega) (by omega) ⟨by omega, by omega⟩ ⟨by omega, by omega⟩) (lw_V q1090 q1092 qs38 q130 q1093) rfl (by decide +kernel) (by decide) (T := TX0) (N := 15) rfl rfl rfl rfl (Nat.le_of_ble_eq_true rfl) (Nat.le_of_ble_eq_true rfl) (Nat.le_of_ble_eq_true rfl) (Nat.le_of_ble_eq_true rfl) (Nat.le_of_ble_eq_true rfl) dX0_away_30 (fun rv_ M_ hp_ => ?_)
      obtain ⟨rfl, rfl⟩ := hp_
      show au_Go G _ _ 33 [some (au_r XO), some (au_i o), some (au_i e)] [] ((rowS m1 XNrow (awF (m1 XNrow) o e)), si, hi, sl, r, nx) 0 0
      refine au_iconst dX0_away_33 rfl rfl ?_
      refine au_zret dX0_away_34 rfl (Or.inr rfl) rfl (Nat.le_of_ble_eq_true rfl) (Nat.le_of_ble_eq_true rfl) ?_
      rw [hr1]
      exact PoX.of (show awY (n, B, Pr, Co, mi XNrow, ns, S) o e = _ from if_pos ⟨c5, c15⟩) (Nat.le_refl _) (hY1.row _) (hfr.X.tr (FrX.row _ _)) rfl
    · have c15 := au_b0 c15
      refine au_iconst dX0_away_18 rfl rfl ?_
      refine au_zret dX0_away_19 rfl (Or.inl rfl) rfl (Nat.le_of_ble_eq_true rfl) (Nat.le_of_ble_eq_true rfl) ?_
      first
      | exact PoX.of (show awY (n, B, Pr, Co, mi XNrow, ns, S) o e = _ from if_neg (fun z => c5 z.1)) (Nat.le_refl _) hY (FrX.rf mi) rfl
      | exact PoX.of (show awY (n, B, Pr, Co, mi XNrow, ns, S) o e = _ from if_neg (fun z => c15 z.2)) (Nat.le_refl _) hY (FrX.rf mi) rfl
theorem kX0_sideways (G : au_G) (a t : Int) (n : Int) (B Pr Co R : Int → Int) (ns : Int) (S : Nat → Int → Int) (mi si hi sl : au_A → Int → Int) (r : au_A → Int → Option au_A) (nx : Nat) (hF : Fix r) (hnx : 1126 ≤ nx) (hY : XY mi (n, B, Pr, Co, R, ns, S)) (hK : YOK (n, B, Pr, Co, R, ns, S)) : au_Ctr G yX0_sideways cX0_sideways 4 (some .boolean) 3 0 0 [au_r XO, au_i a, au_i t] (mi, si, hi, sl, r, nx) (PoX hi sl r nx mi (some (au_i (sdY (n, B, Pr, Co, R, ns, S) a t).1)) (sdY (n, B, Pr, Co, R, ns, S) a t).2) := by
  refine au_of (by decide) (Nat.le_of_ble_eq_true rfl) ?_
  obtain ⟨jN, jE, jPr, jCo, jRw, jSt⟩ := id hY
  obtain ⟨jB, jP9, jC0, jR, jns, jSR⟩ := id hK
  have hN : mi XNn 0 = n := jN
  have hE : ∀ o, 0 ≤ o → o < 10 → mi XNboss o = B o := jE
  have hPr : ∀ o, 0 ≤ o → o < 10 → mi XNpride o = Pr o := jPr
  have hCo : ∀ o, 0 ≤ o → o < 10 → mi XNcousin o = Co o := jCo
  have hRw : mi XNrow = R := jRw
  have hSt : StX mi ns S := jSt
  have hB : Bs B n := jB
  have hns : 0 ≤ ns ∧ ns ≤ 30 := jns
  have hb1 := hB.1
  have hb0 := hB.2.1
  have hn : 0 ≤ n ∧ n ≤ 10 := ⟨hb1, hb0⟩
  have hR : RowOK R n B := jR
  subst hRw
  obtain ⟨⟨r0, r0b⟩, ⟨r1, r1b⟩, ⟨r2, r2b⟩, ⟨r83, r83b⟩, rA⟩ := id hR.1
  have hq : 1003 = 1003 ∨ 1003 = 1107 := Or.inl rfl
  show au_Go G _ _ 0 [some (au_r XO), some (au_i a), some (au_i t), none] [] (mi, si, hi, sl, r, nx) 0 0
  refine au_aload_n dX0_sideways_0 rfl ?_
  refine au_getf (C := RX0) (T := TX0) (N := 15) in_X0 (by decide) rfl 0 (by decide) rfl rfl q245 rfl dX0_sideways_1 (v := au_r XN) (congrArg au_q (fx_XO_0 hF)) ?_
  refine au_getN (C := RX1) (T := TX1) (N := 11) in_X1 (by decide) rfl 1 (by decide) rfl rfl q189 rfl dX0_sideways_4 (v := au_r XNrow) (congrArg au_q (fx_XN_1 hF)) ?_
  refine au_astore_n dX0_sideways_7 (show 3 < 4 by decide) ?_
  show au_Go G _ _ 8 [some (au_r XO), some (au_i a), some (au_i t), some (au_r XNrow)] [] (mi, si, hi, sl, r, nx) 0 0
  refine au_aload_n dX0_sideways_8 rfl ?_
  refine au_iload_n dX0_sideways_9 rfl ?_
  refine au_callVp (n := 1) (kX0_isApology G a mi si hi sl r nx hF (mi XNrow 2) rfl ⟨r2, r2b⟩) (lw_V q1098 q1100 qs39 q130 q1101) rfl (by decide +kernel) (by decide) (T := TX0) (N := 15) rfl rfl rfl rfl (Nat.le_of_ble_eq_true rfl) (Nat.le_of_ble_eq_true rfl) (Nat.le_of_ble_eq_true rfl) (Nat.le_of_ble_eq_true rfl) (Nat.le_of_ble_eq_true rfl) dX0_sideways_10 ?_
  refine au_if_eq (tgt := 48) dX0_sideways_13 (by decide) (fun c13 => ?_) (fun c13 => ?_)
  · have c13 := au_b0 c13
    refine au_iconst dX0_sideways_48 rfl rfl ?_
    refine au_zret dX0_sideways_49 rfl (Or.inl rfl) rfl (Nat.le_of_ble_eq_true rfl) (Nat.le_of_ble_eq_true rfl) ?_
    first
    | exact PoX.of (show sdY (n, B, Pr, Co, mi XNrow, ns, S) a t = _ from if_neg (fun z => c13 z.1)) (Nat.le_refl _) hY (FrX.rf mi) rfl
    | exact PoX.of (show sdY (n, B, Pr, Co, mi XNrow, ns, S) a t = _ from if_neg (fun z => c21 z.2.1)) (Nat.le_refl _) hY (FrX.rf mi) rfl
    | exact PoX.of (show sdY (n, B, Pr, Co, mi XNrow, ns, S) a t = _ from if_neg (fun z => c31 z.2.2.1)) (Nat.le_refl _) hY (FrX.rf mi) rfl
    | exact PoX.of (show sdY (n, B, Pr, Co, mi XNrow, ns, S) a t = _ from if_neg (fun z => (show ¬ (mi XNrow (3 + 7 * a + 6) ≤ mi XNrow 0) by omega) z.2.2.2.1)) (Nat.le_refl _) hY (FrX.rf mi) rfl
  · have c13 := au_b1 c13
    refine au_aload_n dX0_sideways_16 rfl ?_
    refine au_iload_n dX0_sideways_17 rfl ?_
    refine au_callVp (n := 1) (kX0_isOfficer G t mi si hi sl r nx hF n hN hn ) (lw_V q296 q298 qs0 q130 q299) rfl (by decide +kernel) (by decide) (T := TX0) (N := 15) rfl rfl rfl rfl (Nat.le_of_ble_eq_true rfl) (Nat.le_of_ble_eq_true rfl) (Nat.le_of_ble_eq_true rfl) (Nat.le_of_ble_eq_true rfl) (Nat.le_of_ble_eq_true rfl) dX0_sideways_18 ?_
    refine au_if_eq (tgt := 48) dX0_sideways_21 (by decide) (fun c21 => ?_) (fun c21 => ?_)
    · have c21 := au_b0 c21
      refine au_iconst dX0_sideways_48 rfl rfl ?_
      refine au_zret dX0_sideways_49 rfl (Or.inl rfl) rfl (Nat.le_of_ble_eq_true rfl) (Nat.le_of_ble_eq_true rfl) ?_
      first
      | exact PoX.of (show sdY (n, B, Pr, Co, mi XNrow, ns, S) a t = _ from if_neg (fun z => c13 z.1)) (Nat.le_refl _) hY (FrX.rf mi) rfl
      | exact PoX.of (show sdY (n, B, Pr, Co, mi XNrow, ns, S) a t = _ from if_neg (fun z => c21 z.2.1)) (Nat.le_refl _) hY (FrX.rf mi) rfl
      | exact PoX.of (show sdY (n, B, Pr, Co, mi XNrow, ns, S) a t = _ from if_neg (fun z => c31 z.2.2.1)) (Nat.le_refl _) hY (FrX.rf mi) rfl
      | exact PoX.of (show sdY (n, B, Pr, Co, mi XNrow, ns, S) a t = _ from if_neg (fun z => (show ¬ (mi XNrow (3 + 7 * a + 6) ≤ mi XNrow 0) by omega) z.2.2.2.1)) (Nat.le_refl _) hY (FrX.rf mi) rfl
    · have c21 := au_b1 c21
      obtain ⟨f0, t0, p0, s0, w0, g0⟩ := rA a c13.1 c13.2
      refine au_aload_n dX0_sideways_24 rfl ?_
      refine au_iload_n dX0_sideways_25 rfl ?_
      refine au_iconst dX0_sideways_26 rfl rfl ?_
      refine au_callSp (n := 2) (kX0_at G a 4 (mi, si, hi, sl, r, nx) (by omega) (by omega) (by omega) (by omega)) (lw_S q898 q899 q130 q900) (by decide +kernel) rfl rfl rfl (Nat.le_of_ble_eq_true rfl) (Nat.le_of_ble_eq_true rfl) (Nat.le_of_ble_eq_true rfl) (Nat.le_of_ble_eq_true rfl) (Nat.le_of_ble_eq_true rfl) dX0_sideways_27 ?_
      refine au_iald dX0_sideways_30 rfl (by omega) (by show _ < ((204 : Nat) : Int); omega) (v := au_i ((mi XNrow) (3 + 7 * a + 4))) (congrArg au_i (au_gi_m (show au_reg XNrow _ = 0 from au_reg_row hq _))) ?_
      refine au_if_ne (tgt := 48) dX0_sideways_31 (by decide) (fun c31 => ?_) (fun c31 => ?_)
      · refine au_iconst dX0_sideways_48 rfl rfl ?_
        refine au_zret dX0_sideways_49 rfl (Or.inl rfl) rfl (Nat.le_of_ble_eq_true rfl) (Nat.le_of_ble_eq_true rfl) ?_
        first
        | exact PoX.of (show sdY (n, B, Pr, Co, mi XNrow, ns, S) a t = _ from if_neg (fun z => c13 z.1)) (Nat.le_refl _) hY (FrX.rf mi) rfl
        | exact PoX.of (show sdY (n, B, Pr, Co, mi XNrow, ns, S) a t = _ from if_neg (fun z => c21 z.2.1)) (Nat.le_refl _) hY (FrX.rf mi) rfl
        | exact PoX.of (show sdY (n, B, Pr, Co, mi XNrow, ns, S) a t = _ from if_neg (fun z => c31 z.2.2.1)) (Nat.le_refl _) hY (FrX.rf mi) rfl
        | exact PoX.of (show sdY (n, B, Pr, Co, mi XNrow, ns, S) a t = _ from if_neg (fun z => (show ¬ (mi XNrow (3 + 7 * a + 6) ≤ mi XNrow 0) by omega) z.2.2.2.1)) (Nat.le_refl _) hY (FrX.rf mi) rfl
      · refine au_aload_n dX0_sideways_34 rfl ?_
        refine au_iconst dX0_sideways_35 rfl rfl ?_
        refine au_iald dX0_sideways_36 rfl (by omega) (by show _ < ((204 : Nat) : Int); omega) (v := au_i ((mi XNrow) 0)) (congrArg au_i (au_gi_m (show au_reg XNrow _ = 0 from au_reg_row hq _))) ?_
        refine au_aload_n dX0_sideways_37 rfl ?_
        refine au_iload_n dX0_sideways_38 rfl ?_
        refine au_bipush dX0_sideways_39 rfl rfl ?_
        refine au_callSp (n := 2) (kX0_at G a 6 (mi, si, hi, sl, r, nx) (by omega) (by omega) (by omega) (by omega)) (lw_S q898 q899 q130 q900) (by decide +kernel) rfl rfl rfl (Nat.le_of_ble_eq_true rfl) (Nat.le_of_ble_eq_true rfl) (Nat.le_of_ble_eq_true rfl) (Nat.le_of_ble_eq_true rfl) (Nat.le_of_ble_eq_true rfl) dX0_sideways_41 ?_
        refine au_iald dX0_sideways_44 rfl (by omega) (by show _ < ((204 : Nat) : Int); omega) (v := au_i ((mi XNrow) (3 + 7 * a + 6))) (congrArg au_i (au_gi_m (show au_reg XNrow _ = 0 from au_reg_row hq _))) ?_
        refine au_icmp_ge (tgt := 50) dX0_sideways_45 (by decide) (fun c45 => ?_) (fun c45 => ?_)
        · refine au_aload_n dX0_sideways_50 rfl ?_
          refine au_getf (C := RX0) (T := TX0) (N := 15) in_X0 (by decide) rfl 0 (by decide) rfl rfl q245 rfl dX0_sideways_51 (v := au_r XN) (congrArg au_q (fx_XO_0 hF)) ?_
          refine au_getN (C := RX1) (T := TX1) (N := 11) in_X1 (by decide) rfl 4 (by decide) rfl rfl q195 rfl dX0_sideways_54 (v := au_r XNcousin) (congrArg au_q (fx_XN_4 hF)) ?_
          refine au_aload_n dX0_sideways_57 rfl ?_
          refine au_iload_n dX0_sideways_58 rfl ?_
          refine au_iconst dX0_sideways_59 rfl rfl ?_
          refine au_callSp (n := 2) (kX0_at G a 2 (mi, si, hi, sl, r, nx) (by omega) (by omega) (by omega) (by omega)) (lw_S q898 q899 q130 q900) (by decide +kernel) rfl rfl rfl (Nat.le_of_ble_eq_true rfl) (Nat.le_of_ble_eq_true rfl) (Nat.le_of_ble_eq_true rfl) (Nat.le_of_ble_eq_true rfl) (Nat.le_of_ble_eq_true rfl) dX0_sideways_60 ?_
          refine au_iald dX0_sideways_63 rfl (by omega) (by show _ < ((204 : Nat) : Int); omega) (v := au_i ((mi XNrow) (3 + 7 * a + 2))) (congrArg au_i (au_gi_m (show au_reg XNrow _ = 0 from au_reg_row hq _))) ?_
          refine au_iald dX0_sideways_64 rfl (by omega) (by show _ < ((10 : Nat) : Int); omega) (v := au_i (Co ((mi XNrow) (3 + 7 * a + 2)))) (congrArg au_i (hCo _ (by omega) (by omega))) ?_
          refine au_iload_n dX0_sideways_65 rfl ?_
          refine au_callSp (n := 2) (kX0_has G (Co ((mi XNrow) (3 + 7 * a + 2))) t (mi, si, hi, sl, r, nx)) (lw_S q307 q308 q130 q309) (by decide +kernel) rfl rfl rfl (Nat.le_of_ble_eq_true rfl) (Nat.le_of_ble_eq_true rfl) (Nat.le_of_ble_eq_true rfl) (Nat.le_of_ble_eq_true rfl) (Nat.le_of_ble_eq_true rfl) dX0_sideways_66 ?_
          refine au_if_eq (tgt := 87) dX0_sideways_69 (by decide) (fun c69 => ?_) (fun c69 => ?_)
          · have c69 := au_b0 c69
            refine au_iconst dX0_sideways_87 rfl rfl ?_
            refine au_zret dX0_sideways_88 rfl (Or.inl rfl) rfl (Nat.le_of_ble_eq_true rfl) (Nat.le_of_ble_eq_true rfl) ?_
            first
            | exact PoX.of (show sdY (n, B, Pr, Co, mi XNrow, ns, S) a t = _ from if_neg (fun z => c69 z.2.2.2.2.1)) (Nat.le_refl _) hY (FrX.rf mi) rfl
            | exact PoX.of (show sdY (n, B, Pr, Co, mi XNrow, ns, S) a t = _ from if_neg (fun z => c84 z.2.2.2.2.2)) (Nat.le_refl _) hY (FrX.rf mi) rfl
          · have c69 := au_b1 c69
            refine au_aload_n dX0_sideways_72 rfl ?_
            refine au_iload_n dX0_sideways_73 rfl ?_
            refine au_aload_n dX0_sideways_74 rfl ?_
            refine au_iload_n dX0_sideways_75 rfl ?_
            refine au_iconst dX0_sideways_76 rfl rfl ?_
            refine au_callSp (n := 2) (kX0_at G a 1 (mi, si, hi, sl, r, nx) (by omega) (by omega) (by omega) (by omega)) (lw_S q898 q899 q130 q900) (by decide +kernel) rfl rfl rfl (Nat.le_of_ble_eq_true rfl) (Nat.le_of_ble_eq_true rfl) (Nat.le_of_ble_eq_true rfl) (Nat.le_of_ble_eq_true rfl) (Nat.le_of_ble_eq_true rfl) dX0_sideways_77 ?_
            refine au_iald dX0_sideways_80 rfl (by omega) (by show _ < ((204 : Nat) : Int); omega) (v := au_i ((mi XNrow) (3 + 7 * a + 1))) (congrArg au_i (au_gi_m (show au_reg XNrow _ = 0 from au_reg_row hq _))) ?_
            refine au_callVp (n := 2) (kX0_isBelow G t ((mi XNrow) (3 + 7 * a + 1)) mi si hi sl r nx hF n hN B hE hB (by omega) (by omega) (by omega)) (lw_V q1078 q1080 qs36 q130 q1081) rfl (by decide +kernel) (by decide) (T := TX0) (N := 15) rfl rfl rfl rfl (Nat.le_of_ble_eq_true rfl) (Nat.le_of_ble_eq_true rfl) (Nat.le_of_ble_eq_true rfl) (Nat.le_of_ble_eq_true rfl) (Nat.le_of_ble_eq_true rfl) dX0_sideways_81 ?_
            refine au_if_ne (tgt := 89) dX0_sideways_84 (by decide) (fun c84 => ?_) (fun c84 => ?_)
            · have c84 := au_b1 c84
              refine au_aload_n dX0_sideways_89 rfl ?_
              refine au_getf (C := RX0) (T := TX0) (N := 15) in_X0 (by decide) rfl 0 (by decide) rfl rfl q245 rfl dX0_sideways_90 (v := au_r XN) (congrArg au_q (fx_XO_0 hF)) ?_
              refine au_callV (n := 0) (kX1_keeps G ns S mi si hi sl r nx hF hSt hns) (lw_V q890 q891 q892 q131 q893) rfl (by decide +kernel) (by decide) (T := TX1) (N := 11) rfl rfl rfl rfl (Nat.le_of_ble_eq_true rfl) (Nat.le_of_ble_eq_true rfl) (Nat.le_of_ble_eq_true rfl) (Nat.le_of_ble_eq_true rfl) (Nat.le_of_ble_eq_true rfl) dX0_sideways_93 (fun rv_ M_ hp_ => ?_)
              obtain ⟨rfl, m1, rfl, hst, hfr⟩ := hp_
              have hr1 : m1 XNrow = mi XNrow := hfr.F (by decide) (by decide)
              have hY1 := hY.keep hst hfr
              show au_Go G _ _ 96 [some (au_r XO), some (au_i a), some (au_i t), some (au_r XNrow)] [] (m1, si, hi, sl, r, nx) 0 0
              have h0 : m1 XNrow 0 = mi XNrow 0 := by rw [hr1]
              refine au_aload_n dX0_sideways_96 rfl ?_
              refine au_iload_n dX0_sideways_97 rfl ?_
              refine au_iconst dX0_sideways_98 rfl rfl ?_
              refine au_callSp (n := 2) (kX0_at G a 2 (m1, si, hi, sl, r, nx) (by omega) (by omega) (by omega) (by omega)) (lw_S q898 q899 q130 q900) (by decide +kernel) rfl rfl rfl (Nat.le_of_ble_eq_true rfl) (Nat.le_of_ble_eq_true rfl) (Nat.le_of_ble_eq_true rfl) (Nat.le_of_ble_eq_true rfl) (Nat.le_of_ble_eq_true rfl) dX0_sideways_99 ?_
              refine au_iload_n dX0_sideways_102 rfl ?_
              refine au_iast dX0_sideways_103 rfl (by decide) (by omega) (by show _ < ((204 : Nat) : Int); omega) (M' := ((au_up m1 XNrow (3 + 7 * a + 2) t), si, hi, sl, r, nx)) (au_wv_m (au_reg_row hq _)) ?_
              rw [au_up_row m1 XNrow (3 + 7 * a + 2) t]
              refine au_aload_n dX0_sideways_104 rfl ?_
              refine au_iload_n dX0_sideways_105 rfl ?_
              refine au_bipush dX0_sideways_106 rfl rfl ?_
              refine au_callSp (n := 2) (kX0_at G a 6 ((rowS m1 XNrow (up1 (m1 XNrow) (3 + 7 * a + 2) t)), si, hi, sl, r, nx) (by omega) (by omega) (by omega) (by omega)) (lw_S q898 q899 q130 q900) (by decide +kernel) rfl rfl rfl (Nat.le_of_ble_eq_true rfl) (Nat.le_of_ble_eq_true rfl) (Nat.le_of_ble_eq_true rfl) (Nat.le_of_ble_eq_true rfl) (Nat.le_of_ble_eq_true rfl) dX0_sideways_108 ?_
              refine au_aload_n dX0_sideways_111 rfl ?_
              refine au_iconst dX0_sideways_112 rfl rfl ?_
              refine au_iald dX0_sideways_113 rfl (by omega) (by show _ < ((204 : Nat) : Int); omega) (v := au_i ((m1 XNrow) 0)) (congrArg au_i ((au_gi_m (show au_reg XNrow _ = 0 from au_reg_row hq _)).trans (show rowS m1 XNrow (up1 (m1 XNrow) (3 + 7 * a + 2) t) XNrow 0 = (m1 XNrow) 0 from (rowS_self _ _ _ _).trans ((up1_ne _ _ (show 0 ≠ (3 + 7 * a + 2) by omega)).trans (rfl))))) ?_
              refine au_iconst dX0_sideways_114 rfl rfl ?_
              refine au_iadd dX0_sideways_115 (by omega) (by omega) ?_
              refine au_iast dX0_sideways_116 rfl (by decide) (by omega) (by show _ < ((204 : Nat) : Int); omega) (M' := ((au_up (rowS m1 XNrow (up1 (m1 XNrow) (3 + 7 * a + 2) t)) XNrow (3 + 7 * a + 6) (((m1 XNrow) 0) + 2)), si, hi, sl, r, nx)) (au_wv_m (au_reg_row hq _)) ?_
              rw [au_up_row (rowS m1 XNrow (up1 (m1 XNrow) (3 + 7 * a + 2) t)) XNrow (3 + 7 * a + 6) (((m1 XNrow) 0) + 2), rowS_selfF, rowS_rowS]
              refine au_iconst dX0_sideways_117 rfl rfl ?_
              refine au_zret dX0_sideways_118 rfl (Or.inr rfl) rfl (Nat.le_of_ble_eq_true rfl) (Nat.le_of_ble_eq_true rfl) ?_
              rw [hr1]
              exact PoX.of (show sdY (n, B, Pr, Co, mi XNrow, ns, S) a t = _ from if_pos ⟨c13, c21, c31, by omega, c69, c84⟩) (Nat.le_refl _) (hY1.row _) (hfr.X.tr (FrX.row _ _)) rfl
            · have c84 := au_b0 c84
              refine au_iconst dX0_sideways_87 rfl rfl ?_
              refine au_zret dX0_sideways_88 rfl (Or.inl rfl) rfl (Nat.le_of_ble_eq_true rfl) (Nat.le_of_ble_eq_true rfl) ?_
              first
              | exact PoX.of (show sdY (n, B, Pr, Co, mi XNrow, ns, S) a t = _ from if_neg (fun z => c69 z.2.2.2.2.1)) (Nat.le_refl _) hY (FrX.rf mi) rfl
              | exact PoX.of (show sdY (n, B, Pr, Co, mi XNrow, ns, S) a t = _ from if_neg (fun z => c84 z.2.2.2.2.2)) (Nat.le_refl _) hY (FrX.rf mi) rfl
        · refine au_iconst dX0_sideways_48 rfl rfl ?_
          refine au_zret dX0_sideways_49 rfl (Or.inl rfl) rfl (Nat.le_of_ble_eq_true rfl) (Nat.le_of_ble_eq_true rfl) ?_
          first
          | exact PoX.of (show sdY (n, B, Pr, Co, mi XNrow, ns, S) a t = _ from if_neg (fun z => c13 z.1)) (Nat.le_refl _) hY (FrX.rf mi) rfl
          | exact PoX.of (show sdY (n, B, Pr, Co, mi XNrow, ns, S) a t = _ from if_neg (fun z => c21 z.2.1)) (Nat.le_refl _) hY (FrX.rf mi) rfl
          | exact PoX.of (show sdY (n, B, Pr, Co, mi XNrow, ns, S) a t = _ from if_neg (fun z => c31 z.2.2.1)) (Nat.le_refl _) hY (FrX.rf mi) rfl
          | exact PoX.of (show sdY (n, B, Pr, Co, mi XNrow, ns, S) a t = _ from if_neg (fun z => (show ¬ (mi XNrow (3 + 7 * a + 6) ≤ mi XNrow 0) by omega) z.2.2.2.1)) (Nat.le_refl _) hY (FrX.rf mi) rfl
