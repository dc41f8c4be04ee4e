/-! AN APOLOGY GOES UP, IS JUDGED, COMES DOWN (printed by tools/m48.py) -/
set_option maxRecDepth 100000
set_option maxHeartbeats 4000000

def grF (R : Int → Int) (a v : Int) : Int → Int := up1 R (3 + 7 * a + 3) (min 9999 (R (3 + 7 * a + 3) + v))
def drF (R : Int → Int) : Int → Int := up1 R 1 ((R 1 * 421 + 307) % 30539)
/-- refused: it grows and begins anew -/
def rfF (R : Int → Int) (a : Int) : Int → Int := up1 (grF R a (R (3 + 7 * a + 3))) (3 + 7 * a + 2) (grF R a (R (3 + 7 * a + 3)) (3 + 7 * a + 0))
def jdF (n : Int) (B Pr : Int → Int) (Lw : au_Lw) (R : Int → Int) (a : Int) : Int → Int :=
  if R 1 % 10 < lawP n B Pr Lw R a (R (3 + 7 * a + 2)) then wrF (up1 (drF R) (3 + 7 * a + 4) 1) a 0 else wrF (rfF (drF R) a) a 1
/-- one step up -/
def u1F (n : Int) (B Pr : Int → Int) (Lw : au_Lw) (R : Int → Int) (a : Int) : Int → Int := grF (up1 R (3 + 7 * a + 2) (B (R (3 + 7 * a + 2)))) a (lawA n B Pr Lw R a (B (R (3 + 7 * a + 2))))
def upF (n : Int) (B Pr : Int → Int) (Lw : au_Lw) (R : Int → Int) (a : Int) : Int → Int :=
  if B (R (3 + 7 * a + 2)) = R (3 + 7 * a + 1) then jdF n B Pr Lw (u1F n B Pr Lw R a) a else u1F n B Pr Lw R a
/-- where it comes to, down -/
def dnT (B : Int → Int) (R : Int → Int) (a : Int) : Int := towards B (R (3 + 7 * a + 2)) (R (3 + 7 * a + 0))
def d1F (n : Int) (B Pr : Int → Int) (Lw : au_Lw) (R : Int → Int) (a : Int) : Int → Int := up1 (up1 R (3 + 7 * a + 3) (lawW n B Pr Lw R a (dnT B R a))) (3 + 7 * a + 2) (dnT B R a)
def dnF (n : Int) (B Pr : Int → Int) (Lw : au_Lw) (R : Int → Int) (a : Int) : Int → Int :=
  if dnT B R a = R (3 + 7 * a + 0) then wrF (up1 (d1F n B Pr Lw R a) (3 + 7 * a + 4) 2) a 2 else d1F n B Pr Lw R a
theorem ApIn.of {R R' : Int → Int} {n a : Int} (h : ApIn R n a) (e : ∀ w, 0 ≤ w → w ≤ 6 → R' (3 + 7 * a + w) = R (3 + 7 * a + w)) : ApIn R' n a := by
  unfold ApIn
  rw [e 0 (by decide) (by decide), e 1 (by decide) (by decide), e 2 (by decide) (by decide), e 3 (by decide) (by decide), e 4 (by decide) (by decide), e 5 (by decide) (by decide)]
  exact h
theorem ApBel.of {R R' : Int → Int} {B : Int → Int} {a : Int} (h : ApBel R B a) (e : ∀ w, 0 ≤ w → w ≤ 6 → R' (3 + 7 * a + w) = R (3 + 7 * a + w)) : ApBel R' B a := by
  unfold ApBel
  rw [e 0 (by decide) (by decide), e 1 (by decide) (by decide), e 2 (by decide) (by decide), e 4 (by decide) (by decide)]
  exact h
/-- one place of an apology written -/
theorem RowIn.up {R : Int → Int} {n : Int} (h : RowIn R n) {a w v : Int} (ha : 0 ≤ a) (ha2 : a < R 2) (hw : 0 ≤ w) (hw6 : w ≤ 6) (hv : (w = 0 ∨ w = 1 ∨ w = 2 → 0 ≤ v ∧ v < n) ∧ (w = 3 → 0 ≤ v ∧ v ≤ 9999) ∧ (w = 4 → 0 ≤ v ∧ v ≤ 2) ∧ (w = 5 → 0 ≤ v ∧ v ≤ 9999)) : RowIn (up1 R (3 + 7 * a + w) v) n := by
  obtain ⟨h0, h1, h2, h3, hA⟩ := h
  have e : ∀ j, j < 3 ∨ 73 ≤ j → up1 R (3 + 7 * a + w) v j = R j := fun j hj => up1_ne _ _ (by omega)
  refine ⟨by rw [e 0 (by decide)]; exact h0, by rw [e 1 (by decide)]; exact h1, by rw [e 2 (by decide)]; exact h2, by rw [e 83 (by decide)]; exact h3, fun b hb hb2 => ?_⟩
  rw [e 2 (by decide)] at hb2
  have hAb := hA b hb hb2
  have key : ∀ x, 0 ≤ x → x ≤ 6 → up1 R (3 + 7 * a + w) v (3 + 7 * b + x) = if b = a ∧ x = w then v else R (3 + 7 * b + x) := by
    intro x hx0 hx6
    unfold up1
    by_cases hc : b = a ∧ x = w
    · rw [if_pos hc, if_pos (by rw [hc.1, hc.2])]
    · rw [if_neg hc, if_neg (by omega)]
  obtain ⟨k0, k1, k2, k3, k4, k5⟩ := hAb
  unfold ApIn
  rw [key 0 (by decide) (by decide), key 1 (by decide) (by decide), key 2 (by decide) (by decide), key 3 (by decide) (by decide), key 4 (by decide) (by decide), key 5 (by decide) (by decide)]
  refine ⟨?_, ?_, ?_, ?_, ?_, ?_⟩
  · split
    · rename_i q; exact hv.1 (Or.inl q.2.symm)
    · exact k0
  · split
    · rename_i q; exact hv.1 (Or.inr (Or.inl q.2.symm))
    · exact k1
  · split
    · rename_i q; exact hv.1 (Or.inr (Or.inr q.2.symm))
    · exact k2
  · split
    · rename_i q; exact hv.2.1 q.2.symm
    · exact k3
  · split
    · rename_i q; exact hv.2.2.1 q.2.symm
    · exact k4
  · split
    · rename_i q; exact hv.2.2.2 q.2.symm
    · exact k5
theorem RowIn.wr {R : Int → Int} {n : Int} (h : RowIn R n) (a w : Int) : RowIn (wrF R a w) n := by
  obtain ⟨h0, h1, h2, h3, hA⟩ := h
  have e : ∀ j, j < 83 → wrF R a w j = R j := fun j hj => wrF_lo R a w h3.1 h3.2 hj
  refine ⟨by rw [e 0 (by decide)]; exact h0, by rw [e 1 (by decide)]; exact h1, by rw [e 2 (by decide)]; exact h2, wrF_83 R a w h3.1 h3.2, fun b hb hb2 => ?_⟩
  rw [e 2 (by decide)] at hb2
  exact (hA b hb hb2).of (fun x x0 x6 => e _ (by omega))
theorem RowIn.dr {R : Int → Int} {n : Int} (h : RowIn R n) : RowIn (drF R) n := by
  obtain ⟨h0, h1, h2, h3, hA⟩ := h
  have e : ∀ j, j ≠ 1 → drF R j = R j := fun j hj => up1_ne _ _ hj
  have e1 : drF R 1 = (R 1 * 421 + 307) % 30539 := up1_self _ _ _
  refine ⟨by rw [e 0 (by decide)]; exact h0, by rw [e1]; omega, by rw [e 2 (by decide)]; exact h2, by rw [e 83 (by decide)]; exact h3, fun b hb hb2 => ?_⟩
  rw [e 2 (by decide)] at hb2
  exact (hA b hb hb2).of (fun x x0 x6 => e _ (by omega))
theorem RowIn.gr {R : Int → Int} {n : Int} (h : RowIn R n) {a v : Int} (ha : 0 ≤ a) (ha2 : a < R 2) (hv : 0 ≤ v) : RowIn (grF R a v) n := by
  have hs := (h.2.2.2.2 a ha ha2).2.2.2.1
  exact h.up ha ha2 (by decide) (by decide) ⟨by omega, by intro _; omega, by omega, by omega⟩
theorem RowIn.rf {R : Int → Int} {n : Int} (h : RowIn R n) {a : Int} (ha : 0 ≤ a) (ha2 : a < R 2) : RowIn (rfF R a) n := by
  have hs := (h.2.2.2.2 a ha ha2).2.2.2.1
  have e2 : grF R a (R (3 + 7 * a + 3)) 2 = R 2 := up1_ne _ _ (by omega)
  have e0 : grF R a (R (3 + 7 * a + 3)) (3 + 7 * a + 0) = R (3 + 7 * a + 0) := up1_ne _ _ (by omega)
  have hf := (h.2.2.2.2 a ha ha2).1
  exact (h.gr ha ha2 hs.1).up ha (by rw [e2]; exact ha2) (by decide) (by decide) ⟨by intro _; rw [e0]; exact hf, by omega, by omega, by omega⟩
theorem rfF_2 {R : Int → Int} {a : Int} (ha : 0 ≤ a) : rfF R a 2 = R 2 := (up1_ne _ _ (by omega)).trans (up1_ne _ _ (by omega))
theorem drF_ne (R : Int → Int) {j : Int} (h : j ≠ 1) : drF R j = R j := up1_ne _ _ h
theorem grF_ne (R : Int → Int) {a v j : Int} (h : j ≠ 3 + 7 * a + 3) : grF R a v j = R j := up1_ne _ _ h

theorem kX0_drawsR (G : au_G) (R : Int → Int) (q : Nat) (hq : q = 1003 ∨ q = 1107) (mi si hi sl : au_A → Int → Int) (r : au_A → Int → Option au_A) (nx : Nat) (h0 : 0 ≤ R 1) (h1 : R 1 < 30539) : au_Ctr G yX0_draws cX0_draws 1 none 0 0 0 [au_r (q, 204, 40)] (rowS mi (q, 204, 40) R, si, hi, sl, r, nx) (fun rv M' => rv = none ∧ M' = (rowS mi (q, 204, 40) (drF R), si, hi, sl, r, nx)) := by
  have h := kX0_draws G q hq (rowS mi (q, 204, 40) R) si hi sl r nx (by rw [rowS_selfF]; exact h0) (by rw [rowS_selfF]; exact h1)
  simp only [rowS_selfF, rowS_rowS] at h
  exact h
theorem kX0_growsR (G : au_G) (a b : Int) (R : Int → Int) (q : Nat) (hq : q = 1003 ∨ q = 1107) (mi si hi sl : au_A → Int → Int) (r : au_A → Int → Option au_A) (nx : Nat) (h0 : 0 ≤ a) (h1 : a < 10) (h2 : 0 ≤ R (3 + 7 * a + 3) ∧ R (3 + 7 * a + 3) ≤ 9999) (h3 : 0 ≤ b ∧ b ≤ 9999) : au_Ctr G yX0_grows cX0_grows 3 none 1 0 0 [au_r (q, 204, 40), au_i a, au_i b] (rowS mi (q, 204, 40) R, si, hi, sl, r, nx) (fun rv M' => rv = none ∧ M' = (rowS mi (q, 204, 40) (grF R a b), si, hi, sl, r, nx)) := by
  have h := kX0_grows G a b q hq (rowS mi (q, 204, 40) R) si hi sl r nx h0 h1 (by rw [rowS_selfF]; exact h2) h3
  simp only [rowS_selfF, rowS_rowS] at h
  exact h
theorem kX0_waitsR (G : au_G) (a : Int) (R : Int → Int) (q : Nat) (hq : q = 1003 ∨ q = 1107) (mi si hi sl : au_A → Int → Int) (r : au_A → Int → Option au_A) (nx : Nat) (h0 : 0 ≤ a) (h1 : a < 10) (h2 : 0 ≤ R (3 + 7 * a + 2) ∧ R (3 + 7 * a + 2) < 10) : au_Ctr G yX0_waits cX0_waits 2 (some .boolean) 1 0 0 [au_r (q, 204, 40), au_i a] (rowS mi (q, 204, 40) R, si, hi, sl, r, nx) (au_pure (au_i (au_b (R 0 < R (3 + 7 * a + 6) ∨ R 0 < R (73 + R (3 + 7 * a + 2))))) (rowS mi (q, 204, 40) R, si, hi, sl, r, nx)) := by
  have h := kX0_waits G a q hq (rowS mi (q, 204, 40) R) si hi sl r nx h0 h1 (by rw [rowS_selfF]; exact h2)
  simp only [rowS_selfF, rowS_rowS] at h
  exact h
theorem kX0_doMeetR (G : au_G) (a b : Int) (R : Int → Int) (q : Nat) (hq : q = 1003 ∨ q = 1107) (mi si hi sl : au_A → Int → Int) (r : au_A → Int → Option au_A) (nx : Nat) (h0 : 0 ≤ a) (h1 : a < 10) (h2 : 0 ≤ b) (h3 : b < 10) : au_Ctr G yX0_doMeet cX0_doMeet 3 (some .boolean) 1 0 0 [au_r (q, 204, 40), au_i a, au_i b] (rowS mi (q, 204, 40) R, si, hi, sl, r, nx) (au_pure (au_i (au_b (R (3 + 7 * a + 4) = 0 ∧ R (3 + 7 * b + 4) = 0 ∧ R (3 + 7 * a + 1) = R (3 + 7 * b + 1) ∧ R (3 + 7 * a + 2) = R (3 + 7 * b + 2)))) (rowS mi (q, 204, 40) R, si, hi, sl, r, nx)) := by
  have h := kX0_doMeet G a b q hq (rowS mi (q, 204, 40) R) si hi sl r nx h0 h1 h2 h3
  simp only [rowS_selfF, rowS_rowS] at h
  exact h
theorem kX0_writesR (G : au_G) (a w : Int) (R : Int → Int) (q : Nat) (hq : q = 1003 ∨ q = 1107) (mi si hi sl : au_A → Int → Int) (r : au_A → Int → Option au_A) (nx : Nat) (hnx : 1126 ≤ nx) (h0 : 0 ≤ a) (h1 : a < 10) (h2 : 0 ≤ R 83) (h3 : R 83 ≤ 30) : au_Ctr G yX0_writes cX0_writes 4 none 1 1 4 [au_r (q, 204, 40), au_i a, au_i w] (rowS mi (q, 204, 40) R, si, hi, sl, r, nx) (fun rv M' => rv = none ∧ ∃ sj : au_A → Int → Int, M' = (rowS mi (q, 204, 40) (wrF R a w), sj, hi, sl, r, nx + 1)) := by
  have h := kX0_writes G a w q hq (rowS mi (q, 204, 40) R) si hi sl r nx hnx h0 h1 (by rw [rowS_selfF]; exact h2) (by rw [rowS_selfF]; exact h3)
  simp only [rowS_selfF, rowS_rowS] at h
  exact h
theorem kX0_mergesR (G : au_G) (a b : Int) (R : Int → Int) (q : Nat) (hq : q = 1003 ∨ q = 1107) (mi si hi sl : au_A → Int → Int) (r : au_A → Int → Option au_A) (nx : Nat) (hnx : 1126 ≤ nx) (h0 : 0 ≤ a) (h1 : a < b) (h1b : b < 10) (h2 : 0 ≤ R 83) (h3 : R 83 ≤ 30) (h4 : 0 ≤ R (3 + 7 * a + 3) ∧ R (3 + 7 * a + 3) ≤ 9999) (h5 : 0 ≤ R (3 + 7 * b + 3) ∧ R (3 + 7 * b + 3) ≤ 9999) : au_Ctr G yX0_merges cX0_merges 5 none 2 1 4 [au_r (q, 204, 40), au_i a, au_i b] (rowS mi (q, 204, 40) R, si, hi, sl, r, nx) (fun rv M' => rv = none ∧ ∃ sj : au_A → Int → Int, M' = (rowS mi (q, 204, 40) (mgF R a b), sj, hi, sl, r, nx + 1)) := by
  have h := kX0_merges G a b q hq (rowS mi (q, 204, 40) R) si hi sl r nx hnx h0 h1 h1b (by rw [rowS_selfF]; exact h2) (by rw [rowS_selfF]; exact h3) (by rw [rowS_selfF]; exact h4) (by rw [rowS_selfF]; exact h5)
  simp only [rowS_selfF, rowS_rowS] at h
  exact h
theorem kX0_lawOf0R (G : au_G) (d : Nat) (n : Int) (B Pr : Int → Int) (Lw : au_Lw) (a who : Int) (R : Int → Int) (q : Nat) (hq : q = 1003 ∨ q = 1107) (mi si hi sl : au_A → Int → Int) (r : au_A → Int → Option au_A) (nx : Nat) (hF : Fix r) (hX : EnX r hi mi d n B Pr Lw) (hR : RowIn R n) (ha : 0 ≤ a) (ha2 : a < R 2) (hw : 0 ≤ who) (hw2 : who < n) : au_Ctr G yX0_lawOf cX0_lawOf 6 (some .int) (d + 7) 0 0 [au_r XO, au_r (q, 204, 40), au_i a, au_i who, au_i 0] (rowS mi (q, 204, 40) R, si, hi, sl, r, nx) (fun rv M' => rv = some (au_i (lawA n B Pr Lw R a who)) ∧ ∃ sj : au_A → Int → Int, M' = (rowS mi (q, 204, 40) R, sj, hi, sl, r, nx) ∧ ∀ A, A ≠ XNames → sj A = si A) := by
  have h := kX0_lawOf0 G d n B Pr Lw a who q hq (rowS mi (q, 204, 40) R) si hi sl r nx hF (hX.row q hq R) (by rw [rowS_selfF]; exact hR) ha (by rw [rowS_selfF]; exact ha2) hw hw2
  simp only [rowS_selfF, rowS_rowS] at h
  exact h
theorem kX0_lawOf1R (G : au_G) (d : Nat) (n : Int) (B Pr : Int → Int) (Lw : au_Lw) (a who : Int) (R : Int → Int) (q : Nat) (hq : q = 1003 ∨ q = 1107) (mi si hi sl : au_A → Int → Int) (r : au_A → Int → Option au_A) (nx : Nat) (hF : Fix r) (hX : EnX r hi mi d n B Pr Lw) (hR : RowIn R n) (ha : 0 ≤ a) (ha2 : a < R 2) (hw : 0 ≤ who) (hw2 : who < n) : au_Ctr G yX0_lawOf cX0_lawOf 6 (some .int) (d + 7) 0 0 [au_r XO, au_r (q, 204, 40), au_i a, au_i who, au_i 1] (rowS mi (q, 204, 40) R, si, hi, sl, r, nx) (fun rv M' => rv = some (au_i (lawP n B Pr Lw R a who)) ∧ ∃ sj : au_A → Int → Int, M' = (rowS mi (q, 204, 40) R, sj, hi, sl, r, nx) ∧ ∀ A, A ≠ XNames → sj A = si A) := by
  have h := kX0_lawOf1 G d n B Pr Lw a who q hq (rowS mi (q, 204, 40) R) si hi sl r nx hF (hX.row q hq R) (by rw [rowS_selfF]; exact hR) ha (by rw [rowS_selfF]; exact ha2) hw hw2
  simp only [rowS_selfF, rowS_rowS] at h
  exact h
theorem kX0_lawOf2R (G : au_G) (d : Nat) (n : Int) (B Pr : Int → Int) (Lw : au_Lw) (a who : Int) (R : Int → Int) (q : Nat) (hq : q = 1003 ∨ q = 1107) (mi si hi sl : au_A → Int → Int) (r : au_A → Int → Option au_A) (nx : Nat) (hF : Fix r) (hX : EnX r hi mi d n B Pr Lw) (hR : RowIn R n) (ha : 0 ≤ a) (ha2 : a < R 2) (hw : 0 ≤ who) (hw2 : who < n) : au_Ctr G yX0_lawOf cX0_lawOf 6 (some .int) (d + 7) 0 0 [au_r XO, au_r (q, 204, 40), au_i a, au_i who, au_i 2] (rowS mi (q, 204, 40) R, si, hi, sl, r, nx) (fun rv M' => rv = some (au_i (lawW n B Pr Lw R a who)) ∧ ∃ sj : au_A → Int → Int, M' = (rowS mi (q, 204, 40) R, sj, hi, sl, r, nx) ∧ ∀ A, A ≠ XNames → sj A = si A) := by
  have h := kX0_lawOf2 G d n B Pr Lw a who q hq (rowS mi (q, 204, 40) R) si hi sl r nx hF (hX.row q hq R) (by rw [rowS_selfF]; exact hR) ha (by rw [rowS_selfF]; exact ha2) hw hw2
  simp only [rowS_selfF, rowS_rowS] at h
  exact h
theorem kX0_judged (G : au_G) (d : Nat) (n : Int) (B Pr : Int → Int) (Lw : au_Lw) (a : Int) (q : Nat) (hq : q = 1003 ∨ q = 1107) (mi si hi sl : au_A → Int → Int) (r : au_A → Int → Option au_A) (nx : Nat) (hF : Fix r) (hnx : 1126 ≤ nx) (hX : EnX r hi mi d n B Pr Lw) (hR : RowIn (mi (q, 204, 40)) n) (ha : 0 ≤ a) (ha2 : a < (mi (q, 204, 40)) 2) : au_Ctr G yX0_judged cX0_judged 4 none (d + 8) 1 4 [au_r XO, au_r (q, 204, 40), au_i a] (mi, si, hi, sl, r, nx) (fun rv M' => rv = none ∧ ∃ (sj : au_A → Int → Int) (nx' : Nat), nx ≤ nx' ∧ M' = (rowS mi (q, 204, 40) (jdF n B Pr Lw (mi (q, 204, 40)) a), sj, hi, sl, r, nx')) := by
  refine au_of (by decide) (Nat.le_of_ble_eq_true rfl) ?_
  obtain ⟨hN, hE, hB, hPr, hP9, tx, hRu, hTx⟩ := id hX
  have hb1 := hB.1
  have hb0 := hB.2.1
  obtain ⟨⟨r0, r0b⟩, ⟨r1, r1b⟩, ⟨r2, r2b⟩, ⟨r83, r83b⟩, rA⟩ := id hR
  obtain ⟨⟨f0, f0b⟩, ⟨t0, t0b⟩, ⟨p0, p0b⟩, ⟨s0, s0b⟩, ⟨w0, w0b⟩, ⟨g0, g0b⟩⟩ := id (rA a ha ha2)
  have hlp := lawV_bd Lw 1 (nmA B Pr n (mi (q, 204, 40)) a ((mi (q, 204, 40)) (3 + 7 * a + 2))) (10 - Pr ((mi (q, 204, 40)) (3 + 7 * a + 2))) (top := 10) (by decide)
  show au_Go G _ _ 0 [some (au_r XO), some (au_r (q, 204, 40)), some (au_i a), none] [] (mi, si, hi, sl, r, nx) 0 0
  refine au_aload_n dX0_judged_0 rfl ?_
  refine au_iconst dX0_judged_1 rfl rfl ?_
  refine au_iald dX0_judged_2 rfl (by omega) (by show _ < ((204 : Nat) : Int); omega) (v := au_i ((mi (q, 204, 40)) 1)) (congrArg au_i (au_gi_m (au_reg_row hq _))) ?_
  refine au_bipush dX0_judged_3 rfl rfl ?_
  refine au_irem dX0_judged_5 (by omega) (by omega) ?_
  refine au_aload_n dX0_judged_6 rfl ?_
  refine au_aload_n dX0_judged_7 rfl ?_
  refine au_iload_n dX0_judged_8 rfl ?_
  refine au_aload_n dX0_judged_9 rfl ?_
  refine au_iload_n dX0_judged_10 rfl ?_
  refine au_iconst dX0_judged_11 rfl rfl ?_
  refine au_callSp (n := 2) (kX0_at G a 2 (mi, si, hi, sl, r, nx) (by omega) (by omega) (by omega) (by omega)) (lw_S q898 q899 q130 q900) (by decide +kernel) rfl rfl rfl (Nat.le_of_ble_eq_true rfl) (by show _ ≤ (d + 8); omega) (by show _ ≤ 80 * (d + 8); omega) (Nat.le_of_ble_eq_true rfl) (Nat.le_of_ble_eq_true rfl) dX0_judged_12 ?_
  refine au_iald dX0_judged_15 rfl (by omega) (by show _ < ((204 : Nat) : Int); omega) (v := au_i ((mi (q, 204, 40)) (3 + 7 * a + 2))) (congrArg au_i (au_gi_m (au_reg_row hq _))) ?_
  refine au_iconst dX0_judged_16 rfl rfl ?_
  refine au_callV (n := 4) (kX0_lawOf1 G d n B Pr Lw a ((mi (q, 204, 40)) (3 + 7 * a + 2)) q hq mi si hi sl r nx hF hX hR ha ha2 p0 p0b) (lw_V q908 q910 qs27 q130 q911) rfl (by decide +kernel) (by decide) (T := TX0) (N := 15) rfl rfl rfl rfl (Nat.le_of_ble_eq_true rfl) (by show _ ≤ (d + 8); omega) (by show _ ≤ 80 * (d + 8); omega) (Nat.le_of_ble_eq_true rfl) (Nat.le_of_ble_eq_true rfl) dX0_judged_17 (fun rv_ M_ hp_ => ?_)
  obtain ⟨rfl, sj1_17, rfl, hg1_17⟩ := hp_
  show au_Go G _ _ 20 [some (au_r XO), some (au_r (q, 204, 40)), some (au_i a), none] [au_i (lawP n B Pr Lw (mi (q, 204, 40)) a ((mi (q, 204, 40)) (3 + 7 * a + 2))), au_i (((mi (q, 204, 40)) 1) % 10)] (mi, sj1_17, hi, sl, r, nx) 0 0
  refine au_icmp_ge (tgt := 27) dX0_judged_20 (by decide) (fun c20 => ?_) (fun c20 => ?_)
  · refine au_iconst dX0_judged_27 rfl rfl ?_
    refine au_istore_n dX0_judged_28 (show 3 < 4 by decide) ?_
    show au_Go G _ _ 29 [some (au_r XO), some (au_r (q, 204, 40)), some (au_i a), some (au_i 0)] [] (mi, sj1_17, hi, sl, r, nx) 0 0
    refine au_aload_n dX0_judged_29 rfl ?_
    refine au_callS (n := 1) (kX0_draws G q hq mi sj1_17 hi sl r nx r1 r1b) (lw_S q1048 q1049 q130 q1050) (by decide +kernel) rfl rfl rfl (Nat.le_of_ble_eq_true rfl) (by show _ ≤ (d + 8); omega) (by show _ ≤ 80 * (d + 8); omega) (Nat.le_of_ble_eq_true rfl) (Nat.le_of_ble_eq_true rfl) dX0_judged_30 (fun rv_ M_ hp_ => ?_)
    obtain ⟨rfl, rfl⟩ := hp_
    show au_Go G _ _ 33 [some (au_r XO), some (au_r (q, 204, 40)), some (au_i a), some (au_i 0)] [] ((rowS mi (q, 204, 40) (drF (mi (q, 204, 40)))), sj1_17, hi, sl, r, nx) 0 0
    refine au_iload_n dX0_judged_33 rfl ?_
    refine au_if_eq (tgt := 48) dX0_judged_34 (by decide) (fun c34 => ?_) (fun c34 => ?_)
    · refine au_aload_n dX0_judged_48 rfl ?_
      refine au_iload_n dX0_judged_49 rfl ?_
      refine au_aload_n dX0_judged_50 rfl ?_
      refine au_iload_n dX0_judged_51 rfl ?_
      refine au_iconst dX0_judged_52 rfl rfl ?_
      refine au_callSp (n := 2) (kX0_at G a 3 ((rowS mi (q, 204, 40) (drF (mi (q, 204, 40)))), sj1_17, hi, sl, r, nx) (by omega) (by omega) (by omega) (by omega)) (lw_S q898 q899 q130 q900) (by decide +kernel) rfl rfl rfl (Nat.le_of_ble_eq_true rfl) (by show _ ≤ (d + 8); omega) (by show _ ≤ 80 * (d + 8); omega) (Nat.le_of_ble_eq_true rfl) (Nat.le_of_ble_eq_true rfl) dX0_judged_53 ?_
      refine au_iald dX0_judged_56 rfl (by omega) (by show _ < ((204 : Nat) : Int); omega) (v := au_i ((drF (mi (q, 204, 40))) (3 + 7 * a + 3))) (congrArg au_i ((au_gi_m (au_reg_row hq _)).trans ((rowS_self _ _ _ _).trans (rfl)))) ?_
      refine au_callS (n := 3) (kX0_growsR G a ((drF (mi (q, 204, 40))) (3 + 7 * a + 3)) (drF (mi (q, 204, 40))) q hq mi sj1_17 hi sl r nx ha (by omega) ⟨by rw [drF_ne _ (by omega)]; exact s0, by rw [drF_ne _ (by omega)]; exact s0b⟩ ⟨by rw [drF_ne _ (by omega)]; exact s0, by rw [drF_ne _ (by omega)]; exact s0b⟩) (lw_S q1040 q1041 q130 q1042) (by decide +kernel) rfl rfl rfl (Nat.le_of_ble_eq_true rfl) (by show _ ≤ (d + 8); omega) (by show _ ≤ 80 * (d + 8); omega) (Nat.le_of_ble_eq_true rfl) (Nat.le_of_ble_eq_true rfl) dX0_judged_57 (fun rv_ M_ hp_ => ?_)
      obtain ⟨rfl, rfl⟩ := hp_
      show au_Go G _ _ 60 [some (au_r XO), some (au_r (q, 204, 40)), some (au_i a), some (au_i 0)] [] ((rowS mi (q, 204, 40) (grF (drF (mi (q, 204, 40))) a ((drF (mi (q, 204, 40))) (3 + 7 * a + 3)))), sj1_17, hi, sl, r, nx) 0 0
      refine au_aload_n dX0_judged_60 rfl ?_
      refine au_iload_n dX0_judged_61 rfl ?_
      refine au_iconst dX0_judged_62 rfl rfl ?_
      refine au_callSp (n := 2) (kX0_at G a 2 ((rowS mi (q, 204, 40) (grF (drF (mi (q, 204, 40))) a ((drF (mi (q, 204, 40))) (3 + 7 * a + 3)))), sj1_17, hi, sl, r, nx) (by omega) (by omega) (by omega) (by omega)) (lw_S q898 q899 q130 q900) (by decide +kernel) rfl rfl rfl (Nat.le_of_ble_eq_true rfl) (by show _ ≤ (d + 8); omega) (by show _ ≤ 80 * (d + 8); omega) (Nat.le_of_ble_eq_true rfl) (Nat.le_of_ble_eq_true rfl) dX0_judged_63 ?_
      refine au_aload_n dX0_judged_66 rfl ?_
      refine au_iload_n dX0_judged_67 rfl ?_
      refine au_iconst dX0_judged_68 rfl rfl ?_
      refine au_callSp (n := 2) (kX0_at G a 0 ((rowS mi (q, 204, 40) (grF (drF (mi (q, 204, 40))) a ((drF (mi (q, 204, 40))) (3 + 7 * a + 3)))), sj1_17, hi, sl, r, nx) (by omega) (by omega) (by omega) (by omega)) (lw_S q898 q899 q130 q900) (by decide +kernel) rfl rfl rfl (Nat.le_of_ble_eq_true rfl) (by show _ ≤ (d + 8); omega) (by show _ ≤ 80 * (d + 8); omega) (Nat.le_of_ble_eq_true rfl) (Nat.le_of_ble_eq_true rfl) dX0_judged_69 ?_
      refine au_iald dX0_judged_72 rfl (by omega) (by show _ < ((204 : Nat) : Int); omega) (v := au_i ((grF (drF (mi (q, 204, 40))) a ((drF (mi (q, 204, 40))) (3 + 7 * a + 3))) (3 + 7 * a + 0))) (congrArg au_i ((au_gi_m (au_reg_row hq _)).trans ((rowS_self _ _ _ _).trans (rfl)))) ?_
      refine au_iast dX0_judged_73 rfl (by show 1000 ≤ _; omega) (by omega) (by show _ < ((204 : Nat) : Int); omega) (M' := ((au_up (rowS mi (q, 204, 40) (grF (drF (mi (q, 204, 40))) a ((drF (mi (q, 204, 40))) (3 + 7 * a + 3)))) (q, 204, 40) (3 + 7 * a + 2) ((grF (drF (mi (q, 204, 40))) a ((drF (mi (q, 204, 40))) (3 + 7 * a + 3))) (3 + 7 * a + 0))), sj1_17, hi, sl, r, nx)) (au_wv_m (au_reg_row hq _)) ?_
      rw [au_up_row (rowS mi (q, 204, 40) (grF (drF (mi (q, 204, 40))) a ((drF (mi (q, 204, 40))) (3 + 7 * a + 3)))) (q, 204, 40) (3 + 7 * a + 2) ((grF (drF (mi (q, 204, 40))) a ((drF (mi (q, 204, 40))) (3 + 7 * a + 3))) (3 + 7 * a + 0)), rowS_selfF, rowS_rowS]
      refine au_aload_n dX0_judged_74 rfl ?_
      refine au_iload_n dX0_judged_75 rfl ?_
      refine au_iload_n dX0_judged_76 rfl ?_
      refine au_if_eq (tgt := 84) dX0_judged_77 (by decide) (fun c77 => ?_) (fun c77 => ?_)
      · have hq1 : RowIn (up1 (grF (drF (mi (q, 204, 40))) a ((drF (mi (q, 204, 40))) (3 + 7 * a + 3))) (3 + 7 * a + 2) ((grF (drF (mi (q, 204, 40))) a ((drF (mi (q, 204, 40))) (3 + 7 * a + 3))) (3 + 7 * a + 0))) n := hR.dr.rf ha (by rw [drF_ne _ (by decide)]; exact ha2)
        refine au_iconst dX0_judged_84 rfl rfl ?_
        refine au_callS (n := 3) (kX0_writesR G a 1 (up1 (grF (drF (mi (q, 204, 40))) a ((drF (mi (q, 204, 40))) (3 + 7 * a + 3))) (3 + 7 * a + 2) ((grF (drF (mi (q, 204, 40))) a ((drF (mi (q, 204, 40))) (3 + 7 * a + 3))) (3 + 7 * a + 0))) q hq mi sj1_17 hi sl r nx hnx ha (by omega) hq1.2.2.2.1.1 hq1.2.2.2.1.2) (lw_S q1051 q1052 q130 q1053) (by decide +kernel) rfl rfl rfl (Nat.le_of_ble_eq_true rfl) (by show _ ≤ (d + 8); omega) (by show _ ≤ 80 * (d + 8); omega) (Nat.le_of_ble_eq_true rfl) (Nat.le_of_ble_eq_true rfl) dX0_judged_85 (fun rv_ M_ hp_ => ?_)
        obtain ⟨rfl, sj4_85, rfl⟩ := hp_
        show au_Go G _ _ 88 [some (au_r XO), some (au_r (q, 204, 40)), some (au_i a), some (au_i 0)] [] ((rowS mi (q, 204, 40) (wrF (up1 (grF (drF (mi (q, 204, 40))) a ((drF (mi (q, 204, 40))) (3 + 7 * a + 3))) (3 + 7 * a + 2) ((grF (drF (mi (q, 204, 40))) a ((drF (mi (q, 204, 40))) (3 + 7 * a + 3))) (3 + 7 * a + 0))) a 1)), sj4_85, hi, sl, r, nx + 1) 1 4
        refine au_vret dX0_judged_88 rfl rfl (Nat.le_of_ble_eq_true rfl) (Nat.le_of_ble_eq_true rfl) ?_
        refine ⟨rfl, sj4_85, nx + 1, Nat.le_succ nx, ?_⟩
        unfold jdF
        first
        | (rw [if_pos (by omega)]; done)
        | (rw [if_neg (by omega)]; rfl)
      · exact absurd c77 (by decide)
    · exact absurd c34 (by decide)
  · refine au_iconst dX0_judged_23 rfl rfl ?_
    refine au_goto (tgt := 28) dX0_judged_24 (by decide) ?_
    refine au_istore_n dX0_judged_28 (show 3 < 4 by decide) ?_
    show au_Go G _ _ 29 [some (au_r XO), some (au_r (q, 204, 40)), some (au_i a), some (au_i 1)] [] (mi, sj1_17, hi, sl, r, nx) 0 0
    refine au_aload_n dX0_judged_29 rfl ?_
    refine au_callS (n := 1) (kX0_draws G q hq mi sj1_17 hi sl r nx r1 r1b) (lw_S q1048 q1049 q130 q1050) (by decide +kernel) rfl rfl rfl (Nat.le_of_ble_eq_true rfl) (by show _ ≤ (d + 8); omega) (by show _ ≤ 80 * (d + 8); omega) (Nat.le_of_ble_eq_true rfl) (Nat.le_of_ble_eq_true rfl) dX0_judged_30 (fun rv_ M_ hp_ => ?_)
    obtain ⟨rfl, rfl⟩ := hp_
    show au_Go G _ _ 33 [some (au_r XO), some (au_r (q, 204, 40)), some (au_i a), some (au_i 1)] [] ((rowS mi (q, 204, 40) (drF (mi (q, 204, 40)))), sj1_17, hi, sl, r, nx) 0 0
    refine au_iload_n dX0_judged_33 rfl ?_
    refine au_if_eq (tgt := 48) dX0_judged_34 (by decide) (fun c34 => ?_) (fun c34 => ?_)
    · exact absurd c34 (by decide)
    · refine au_aload_n dX0_judged_37 rfl ?_
      refine au_iload_n dX0_judged_38 rfl ?_
      refine au_iconst dX0_judged_39 rfl rfl ?_
      refine au_callSp (n := 2) (kX0_at G a 4 ((rowS mi (q, 204, 40) (drF (mi (q, 204, 40)))), sj1_17, hi, sl, r, nx) (by omega) (by omega) (by omega) (by omega)) (lw_S q898 q899 q130 q900) (by decide +kernel) rfl rfl rfl (Nat.le_of_ble_eq_true rfl) (by show _ ≤ (d + 8); omega) (by show _ ≤ 80 * (d + 8); omega) (Nat.le_of_ble_eq_true rfl) (Nat.le_of_ble_eq_true rfl) dX0_judged_40 ?_
      refine au_iconst dX0_judged_43 rfl rfl ?_
      refine au_iast dX0_judged_44 rfl (by show 1000 ≤ _; omega) (by omega) (by show _ < ((204 : Nat) : Int); omega) (M' := ((au_up (rowS mi (q, 204, 40) (drF (mi (q, 204, 40)))) (q, 204, 40) (3 + 7 * a + 4) 1), sj1_17, hi, sl, r, nx)) (au_wv_m (au_reg_row hq _)) ?_
      rw [au_up_row (rowS mi (q, 204, 40) (drF (mi (q, 204, 40)))) (q, 204, 40) (3 + 7 * a + 4) 1, rowS_selfF, rowS_rowS]
      refine au_goto (tgt := 74) dX0_judged_45 (by decide) ?_
      refine au_aload_n dX0_judged_74 rfl ?_
      refine au_iload_n dX0_judged_75 rfl ?_
      refine au_iload_n dX0_judged_76 rfl ?_
      refine au_if_eq (tgt := 84) dX0_judged_77 (by decide) (fun c77 => ?_) (fun c77 => ?_)
      · exact absurd c77 (by decide)
      · have hq1 : RowIn (up1 (drF (mi (q, 204, 40))) (3 + 7 * a + 4) 1) n := hR.dr.up ha (by rw [drF_ne _ (by decide)]; exact ha2) (w := 4) (v := 1) (by decide) (by decide) ⟨by omega, by omega, by intro _; omega, by omega⟩
        refine au_iconst dX0_judged_80 rfl rfl ?_
        refine au_goto (tgt := 85) dX0_judged_81 (by decide) ?_
        refine au_callS (n := 3) (kX0_writesR G a 0 (up1 (drF (mi (q, 204, 40))) (3 + 7 * a + 4) 1) q hq mi sj1_17 hi sl r nx hnx ha (by omega) hq1.2.2.2.1.1 hq1.2.2.2.1.2) (lw_S q1051 q1052 q130 q1053) (by decide +kernel) rfl rfl rfl (Nat.le_of_ble_eq_true rfl) (by show _ ≤ (d + 8); omega) (by show _ ≤ 80 * (d + 8); omega) (Nat.le_of_ble_eq_true rfl) (Nat.le_of_ble_eq_true rfl) dX0_judged_85 (fun rv_ M_ hp_ => ?_)
        obtain ⟨rfl, sj3_85, rfl⟩ := hp_
        show au_Go G _ _ 88 [some (au_r XO), some (au_r (q, 204, 40)), some (au_i a), some (au_i 1)] [] ((rowS mi (q, 204, 40) (wrF (up1 (drF (mi (q, 204, 40))) (3 + 7 * a + 4) 1) a 0)), sj3_85, hi, sl, r, nx + 1) 1 4
        refine au_vret dX0_judged_88 rfl rfl (Nat.le_of_ble_eq_true rfl) (Nat.le_of_ble_eq_true rfl) ?_
        refine ⟨rfl, sj3_85, nx + 1, Nat.le_succ nx, ?_⟩
        unfold jdF
        first
        | (rw [if_pos (by omega)]; done)
        | (rw [if_neg (by omega)]; rfl)
theorem kX0_judgedR (G : au_G) (d : Nat) (n : Int) (B Pr : Int → Int) (Lw : au_Lw) (a : Int) (R : Int → Int) (q : Nat) (hq : q = 1003 ∨ q = 1107) (mi si hi sl : au_A → Int → Int) (r : au_A → Int → Option au_A) (nx : Nat) (hF : Fix r) (hnx : 1126 ≤ nx) (hX : EnX r hi mi d n B Pr Lw) (hR : RowIn R n) (ha : 0 ≤ a) (ha2 : a < R 2) : au_Ctr G yX0_judged cX0_judged 4 none (d + 8) 1 4 [au_r XO, au_r (q, 204, 40), au_i a] (rowS mi (q, 204, 40) R, si, hi, sl, r, nx) (fun rv M' => rv = none ∧ ∃ (sj : au_A → Int → Int) (nx' : Nat), nx ≤ nx' ∧ M' = (rowS mi (q, 204, 40) (jdF n B Pr Lw R a), sj, hi, sl, r, nx')) := by
  have h := kX0_judged G d n B Pr Lw a q hq (rowS mi (q, 204, 40) R) si hi sl r nx hF hnx (hX.row q hq R) (by rw [rowS_selfF]; exact hR) ha (by rw [rowS_selfF]; exact ha2)
  simp only [rowS_selfF, rowS_rowS] at h
  exact h
theorem kX0_goesUp (G : au_G) (d : Nat) (n : Int) (B Pr : Int → Int) (Lw : au_Lw) (a : Int) (q : Nat) (hq : q = 1003 ∨ q = 1107) (mi si hi sl : au_A → Int → Int) (r : au_A → Int → Option au_A) (nx : Nat) (hF : Fix r) (hnx : 1126 ≤ nx) (hX : EnX r hi mi d n B Pr Lw) (hR : RowIn (mi (q, 204, 40)) n) (ha : 0 ≤ a) (ha2 : a < (mi (q, 204, 40)) 2) (hbt : 0 ≤ B ((mi (q, 204, 40)) (3 + 7 * a + 2))) : au_Ctr G yX0_goesUp cX0_goesUp 5 none (d + 9) 1 4 [au_r XO, au_r (q, 204, 40), au_i a] (mi, si, hi, sl, r, nx) (fun rv M' => rv = none ∧ ∃ (sj : au_A → Int → Int) (nx' : Nat), nx ≤ nx' ∧ M' = (rowS mi (q, 204, 40) (upF n B Pr Lw (mi (q, 204, 40)) a), sj, hi, sl, r, nx')) := by
  refine au_of (by decide) (Nat.le_of_ble_eq_true rfl) ?_
  obtain ⟨hN, hE, hB, hPr, hP9, tx, hRu, hTx⟩ := id hX
  have hb1 := hB.1
  have hb0 := hB.2.1
  obtain ⟨⟨r0, r0b⟩, ⟨r1, r1b⟩, ⟨r2, r2b⟩, ⟨r83, r83b⟩, rA⟩ := id hR
  obtain ⟨⟨f0, f0b⟩, ⟨t0, t0b⟩, ⟨p0, p0b⟩, ⟨s0, s0b⟩, ⟨w0, w0b⟩, ⟨g0, g0b⟩⟩ := id (rA a ha ha2)
  have hbs := hB.2.2 _ p0 p0b
  have hbl : B ((mi (q, 204, 40)) (3 + 7 * a + 2)) < n := by omega
  have hla := lawV_bd Lw 0 (nmA B Pr n (mi (q, 204, 40)) a (B ((mi (q, 204, 40)) (3 + 7 * a + 2)))) (Pr (B ((mi (q, 204, 40)) (3 + 7 * a + 2))) + 1) (top := 999) (by decide)
  have hla : 0 ≤ lawA n B Pr Lw (mi (q, 204, 40)) a (B ((mi (q, 204, 40)) (3 + 7 * a + 2))) ∧ lawA n B Pr Lw (mi (q, 204, 40)) a (B ((mi (q, 204, 40)) (3 + 7 * a + 2))) ≤ 999 := hla
  show au_Go G _ _ 0 [some (au_r XO), some (au_r (q, 204, 40)), some (au_i a), none, none] [] (mi, si, hi, sl, r, nx) 0 0
  refine au_aload_n dX0_goesUp_0 rfl ?_
  refine au_getf (C := RX0) (T := TX0) (N := 15) in_X0 (by decide) rfl 0 (by decide) rfl rfl q245 rfl dX0_goesUp_1 (v := au_r XN) (congrArg au_q (fx_XO_0 hF)) ?_
  refine au_getN (C := RX1) (T := TX1) (N := 11) in_X1 (by decide) rfl 2 (by decide) rfl rfl q191 rfl dX0_goesUp_4 (v := au_r XNboss) (congrArg au_q (fx_XN_2 hF)) ?_
  refine au_aload_n dX0_goesUp_7 rfl ?_
  refine au_iload_n dX0_goesUp_8 rfl ?_
  refine au_iconst dX0_goesUp_9 rfl rfl ?_
  refine au_callSp (n := 2) (kX0_at G a 2 (mi, si, hi, sl, r, nx) (by omega) (by omega) (by omega) (by omega)) (lw_S q898 q899 q130 q900) (by decide +kernel) rfl rfl rfl (Nat.le_of_ble_eq_true rfl) (by show _ ≤ (d + 9); omega) (by show _ ≤ 80 * (d + 9); omega) (Nat.le_of_ble_eq_true rfl) (Nat.le_of_ble_eq_true rfl) dX0_goesUp_10 ?_
  refine au_iald dX0_goesUp_13 rfl (by omega) (by show _ < ((204 : Nat) : Int); omega) (v := au_i ((mi (q, 204, 40)) (3 + 7 * a + 2))) (congrArg au_i (au_gi_m (au_reg_row hq _))) ?_
  refine au_iald dX0_goesUp_14 rfl (by omega) (by show _ < ((10 : Nat) : Int); omega) (v := au_i (B ((mi (q, 204, 40)) (3 + 7 * a + 2)))) (congrArg au_i (hE _ (by omega) (by omega))) ?_
  refine au_istore_n dX0_goesUp_15 (show 3 < 5 by decide) ?_
  show au_Go G _ _ 16 [some (au_r XO), some (au_r (q, 204, 40)), some (au_i a), some (au_i (B ((mi (q, 204, 40)) (3 + 7 * a + 2)))), none] [] (mi, si, hi, sl, r, nx) 0 0
  refine au_aload_n dX0_goesUp_16 rfl ?_
  refine au_aload_n dX0_goesUp_17 rfl ?_
  refine au_iload_n dX0_goesUp_18 rfl ?_
  refine au_iload_n dX0_goesUp_19 rfl ?_
  refine au_iconst dX0_goesUp_20 rfl rfl ?_
  refine au_callV (n := 4) (kX0_lawOf0 G d n B Pr Lw a (B ((mi (q, 204, 40)) (3 + 7 * a + 2))) q hq mi si hi sl r nx hF hX hR ha ha2 hbt hbl) (lw_V q908 q910 qs27 q130 q911) rfl (by decide +kernel) (by decide) (T := TX0) (N := 15) rfl rfl rfl rfl (Nat.le_of_ble_eq_true rfl) (by show _ ≤ (d + 9); omega) (by show _ ≤ 80 * (d + 9); omega) (Nat.le_of_ble_eq_true rfl) (Nat.le_of_ble_eq_true rfl) dX0_goesUp_21 (fun rv_ M_ hp_ => ?_)
  obtain ⟨rfl, sj1_21, rfl, hg1_21⟩ := hp_
  show au_Go G _ _ 24 [some (au_r XO), some (au_r (q, 204, 40)), some (au_i a), some (au_i (B ((mi (q, 204, 40)) (3 + 7 * a + 2)))), none] [au_i (lawA n B Pr Lw (mi (q, 204, 40)) a (B ((mi (q, 204, 40)) (3 + 7 * a + 2))))] (mi, sj1_21, hi, sl, r, nx) 0 0
  refine au_istore dX0_goesUp_24 (show 4 < 5 by decide) ?_
  show au_Go G _ _ 26 [some (au_r XO), some (au_r (q, 204, 40)), some (au_i a), some (au_i (B ((mi (q, 204, 40)) (3 + 7 * a + 2)))), some (au_i (lawA n B Pr Lw (mi (q, 204, 40)) a (B ((mi (q, 204, 40)) (3 + 7 * a + 2)))))] [] (mi, sj1_21, hi, sl, r, nx) 0 0
  refine au_aload_n dX0_goesUp_26 rfl ?_
  refine au_iload_n dX0_goesUp_27 rfl ?_
  refine au_iconst dX0_goesUp_28 rfl rfl ?_
  refine au_callSp (n := 2) (kX0_at G a 2 (mi, sj1_21, hi, sl, r, nx) (by omega) (by omega) (by omega) (by omega)) (lw_S q898 q899 q130 q900) (by decide +kernel) rfl rfl rfl (Nat.le_of_ble_eq_true rfl) (by show _ ≤ (d + 9); omega) (by show _ ≤ 80 * (d + 9); omega) (Nat.le_of_ble_eq_true rfl) (Nat.le_of_ble_eq_true rfl) dX0_goesUp_29 ?_
  refine au_iload_n dX0_goesUp_32 rfl ?_
  refine au_iast dX0_goesUp_33 rfl (by show 1000 ≤ _; omega) (by omega) (by show _ < ((204 : Nat) : Int); omega) (M' := ((au_up mi (q, 204, 40) (3 + 7 * a + 2) (B ((mi (q, 204, 40)) (3 + 7 * a + 2)))), sj1_21, hi, sl, r, nx)) (au_wv_m (au_reg_row hq _)) ?_
  rw [au_up_row mi (q, 204, 40) (3 + 7 * a + 2) (B ((mi (q, 204, 40)) (3 + 7 * a + 2)))]
  refine au_aload_n dX0_goesUp_34 rfl ?_
  refine au_iload_n dX0_goesUp_35 rfl ?_
  refine au_iload dX0_goesUp_36 rfl ?_
  refine au_callS (n := 3) (kX0_growsR G a (lawA n B Pr Lw (mi (q, 204, 40)) a (B ((mi (q, 204, 40)) (3 + 7 * a + 2)))) (up1 (mi (q, 204, 40)) (3 + 7 * a + 2) (B ((mi (q, 204, 40)) (3 + 7 * a + 2)))) q hq mi sj1_21 hi sl r nx ha (by omega) ⟨by rw [up1_ne _ _ (by omega)]; exact s0, by rw [up1_ne _ _ (by omega)]; exact s0b⟩ ⟨hla.1, by omega⟩) (lw_S q1040 q1041 q130 q1042) (by decide +kernel) rfl rfl rfl (Nat.le_of_ble_eq_true rfl) (by show _ ≤ (d + 9); omega) (by show _ ≤ 80 * (d + 9); omega) (Nat.le_of_ble_eq_true rfl) (Nat.le_of_ble_eq_true rfl) dX0_goesUp_38 (fun rv_ M_ hp_ => ?_)
  obtain ⟨rfl, rfl⟩ := hp_
  show au_Go G _ _ 41 [some (au_r XO), some (au_r (q, 204, 40)), some (au_i a), some (au_i (B ((mi (q, 204, 40)) (3 + 7 * a + 2)))), some (au_i (lawA n B Pr Lw (mi (q, 204, 40)) a (B ((mi (q, 204, 40)) (3 + 7 * a + 2)))))] [] ((rowS mi (q, 204, 40) (grF (up1 (mi (q, 204, 40)) (3 + 7 * a + 2) (B ((mi (q, 204, 40)) (3 + 7 * a + 2)))) a (lawA n B Pr Lw (mi (q, 204, 40)) a (B ((mi (q, 204, 40)) (3 + 7 * a + 2)))))), sj1_21, hi, sl, r, nx) 0 0
  refine au_iload_n dX0_goesUp_41 rfl ?_
  refine au_aload_n dX0_goesUp_42 rfl ?_
  refine au_iload_n dX0_goesUp_43 rfl ?_
  refine au_iconst dX0_goesUp_44 rfl rfl ?_
  refine au_callSp (n := 2) (kX0_at G a 1 ((rowS mi (q, 204, 40) (grF (up1 (mi (q, 204, 40)) (3 + 7 * a + 2) (B ((mi (q, 204, 40)) (3 + 7 * a + 2)))) a (lawA n B Pr Lw (mi (q, 204, 40)) a (B ((mi (q, 204, 40)) (3 + 7 * a + 2)))))), sj1_21, hi, sl, r, nx) (by omega) (by omega) (by omega) (by omega)) (lw_S q898 q899 q130 q900) (by decide +kernel) rfl rfl rfl (Nat.le_of_ble_eq_true rfl) (by show _ ≤ (d + 9); omega) (by show _ ≤ 80 * (d + 9); omega) (Nat.le_of_ble_eq_true rfl) (Nat.le_of_ble_eq_true rfl) dX0_goesUp_45 ?_
  refine au_iald dX0_goesUp_48 rfl (by omega) (by show _ < ((204 : Nat) : Int); omega) (v := au_i ((mi (q, 204, 40)) (3 + 7 * a + 1))) (congrArg au_i ((au_gi_m (au_reg_row hq _)).trans ((rowS_self _ _ _ _).trans ((grF_ne _ (by omega)).trans (up1_ne _ _ (by omega)))))) ?_
  refine au_icmp_ne (tgt := 58) dX0_goesUp_49 (by decide) (fun c49 => ?_) (fun c49 => ?_)
  · refine au_vret dX0_goesUp_58 rfl rfl (Nat.le_of_ble_eq_true rfl) (Nat.le_of_ble_eq_true rfl) ?_
    first
    | exact ⟨rfl, sj1_21, nx, (by omega), by unfold upF; rw [if_neg c49]; rfl⟩
    | exact ⟨rfl, sj1_21, nx, (by omega), by unfold upF; rw [if_pos c49]; rfl⟩
  · have hq2 : a < (grF (up1 (mi (q, 204, 40)) (3 + 7 * a + 2) (B ((mi (q, 204, 40)) (3 + 7 * a + 2)))) a (lawA n B Pr Lw (mi (q, 204, 40)) a (B ((mi (q, 204, 40)) (3 + 7 * a + 2))))) 2 := by rw [grF_ne _ (by omega), up1_ne _ _ (by omega)]; exact ha2
    have hq1 : RowIn (grF (up1 (mi (q, 204, 40)) (3 + 7 * a + 2) (B ((mi (q, 204, 40)) (3 + 7 * a + 2)))) a (lawA n B Pr Lw (mi (q, 204, 40)) a (B ((mi (q, 204, 40)) (3 + 7 * a + 2))))) n := (hR.up ha ha2 (w := 2) (v := B ((mi (q, 204, 40)) (3 + 7 * a + 2))) (by decide) (by decide) ⟨by intro _; omega, by omega, by omega, by omega⟩).gr ha (by rw [up1_ne _ _ (by omega)]; exact ha2) hla.1
    refine au_aload_n dX0_goesUp_52 rfl ?_
    refine au_aload_n dX0_goesUp_53 rfl ?_
    refine au_iload_n dX0_goesUp_54 rfl ?_
    refine au_callV (n := 2) (kX0_judgedR G d n B Pr Lw a (grF (up1 (mi (q, 204, 40)) (3 + 7 * a + 2) (B ((mi (q, 204, 40)) (3 + 7 * a + 2)))) a (lawA n B Pr Lw (mi (q, 204, 40)) a (B ((mi (q, 204, 40)) (3 + 7 * a + 2))))) q hq mi sj1_21 hi sl r nx hF hnx hX hq1 ha hq2) (lw_V q1044 q1046 qs32 q130 q1047) rfl (by decide +kernel) (by decide) (T := TX0) (N := 15) rfl rfl rfl rfl (Nat.le_of_ble_eq_true rfl) (by show _ ≤ (d + 9); omega) (by show _ ≤ 80 * (d + 9); omega) (Nat.le_of_ble_eq_true rfl) (Nat.le_of_ble_eq_true rfl) dX0_goesUp_55 (fun rv_ M_ hp_ => ?_)
    obtain ⟨rfl, sj3_55, nx3_55, hnx3_55, rfl⟩ := hp_
    show au_Go G _ _ 58 [some (au_r XO), some (au_r (q, 204, 40)), some (au_i a), some (au_i (B ((mi (q, 204, 40)) (3 + 7 * a + 2)))), some (au_i (lawA n B Pr Lw (mi (q, 204, 40)) a (B ((mi (q, 204, 40)) (3 + 7 * a + 2)))))] [] ((rowS mi (q, 204, 40) (jdF n B Pr Lw (grF (up1 (mi (q, 204, 40)) (3 + 7 * a + 2) (B ((mi (q, 204, 40)) (3 + 7 * a + 2)))) a (lawA n B Pr Lw (mi (q, 204, 40)) a (B ((mi (q, 204, 40)) (3 + 7 * a + 2))))) a)), sj3_55, hi, sl, r, nx3_55) 1 4
    refine au_vret dX0_goesUp_58 rfl rfl (Nat.le_of_ble_eq_true rfl) (Nat.le_of_ble_eq_true rfl) ?_
    first
    | exact ⟨rfl, sj3_55, nx3_55, (by omega), by unfold upF; rw [if_neg c49]; rfl⟩
    | exact ⟨rfl, sj3_55, nx3_55, (by omega), by unfold upF; rw [if_pos c49]; rfl⟩
theorem kX0_comesDown (G : au_G) (d : Nat) (n : Int) (B Pr : Int → Int) (Lw : au_Lw) (a : Int) (q : Nat) (hq : q = 1003 ∨ q = 1107) (mi si hi sl : au_A → Int → Int) (r : au_A → Int → Option au_A) (nx : Nat) (hF : Fix r) (hnx : 1126 ≤ nx) (hX : EnX r hi mi d n B Pr Lw) (hR : RowIn (mi (q, 204, 40)) n) (ha : 0 ≤ a) (ha2 : a < (mi (q, 204, 40)) 2) (hbd : below B ((mi (q, 204, 40)) (3 + 7 * a + 0)) ((mi (q, 204, 40)) (3 + 7 * a + 2))) : au_Ctr G yX0_comesDown cX0_comesDown 5 (some .boolean) (d + 9) 1 4 [au_r XO, au_r (q, 204, 40), au_i a] (mi, si, hi, sl, r, nx) (fun rv M' => rv = some (au_i (au_b ((dnT B (mi (q, 204, 40)) a) = (mi (q, 204, 40)) (3 + 7 * a + 0)))) ∧ ∃ (sj : au_A → Int → Int) (nx' : Nat), nx ≤ nx' ∧ M' = (rowS mi (q, 204, 40) (dnF n B Pr Lw (mi (q, 204, 40)) a), sj, hi, sl, r, nx')) := by
  refine au_of (by decide) (Nat.le_of_ble_eq_true rfl) ?_
  obtain ⟨hN, hE, hB, hPr, hP9, tx, hRu, hTx⟩ := id hX
  have hb1 := hB.1
  have hb0 := hB.2.1
  obtain ⟨⟨r0, r0b⟩, ⟨r1, r1b⟩, ⟨r2, r2b⟩, ⟨r83, r83b⟩, rA⟩ := id hR
  obtain ⟨⟨f0, f0b⟩, ⟨t0, t0b⟩, ⟨p0, p0b⟩, ⟨s0, s0b⟩, ⟨w0, w0b⟩, ⟨g0, g0b⟩⟩ := id (rA a ha ha2)
  obtain ⟨hz0, hz1, hz2⟩ := towards_bd hB p0 f0 f0b hbd
  have hz0 : 0 ≤ (dnT B (mi (q, 204, 40)) a) := hz0
  have hz1 : (dnT B (mi (q, 204, 40)) a) < n := hz1
  have hlw := lawV_bd Lw 2 (nmA B Pr n (mi (q, 204, 40)) a (dnT B (mi (q, 204, 40)) a)) ((mi (q, 204, 40)) (3 + 7 * a + 3) / 2) (top := 9999) (by decide)
  have hlw : 0 ≤ lawW n B Pr Lw (mi (q, 204, 40)) a (dnT B (mi (q, 204, 40)) a) ∧ lawW n B Pr Lw (mi (q, 204, 40)) a (dnT B (mi (q, 204, 40)) a) ≤ 9999 := hlw
  show au_Go G _ _ 0 [some (au_r XO), some (au_r (q, 204, 40)), some (au_i a), none, none] [] (mi, si, hi, sl, r, nx) 0 0
  refine au_aload_n dX0_comesDown_0 rfl ?_
  refine au_aload_n dX0_comesDown_1 rfl ?_
  refine au_iload_n dX0_comesDown_2 rfl ?_
  refine au_iconst dX0_comesDown_3 rfl rfl ?_
  refine au_callSp (n := 2) (kX0_at G a 2 (mi, si, hi, sl, r, nx) (by omega) (by omega) (by omega) (by omega)) (lw_S q898 q899 q130 q900) (by decide +kernel) rfl rfl rfl (Nat.le_of_ble_eq_true rfl) (by show _ ≤ (d + 9); omega) (by show _ ≤ 80 * (d + 9); omega) (Nat.le_of_ble_eq_true rfl) (Nat.le_of_ble_eq_true rfl) dX0_comesDown_4 ?_
  refine au_iald dX0_comesDown_7 rfl (by omega) (by show _ < ((204 : Nat) : Int); omega) (v := au_i ((mi (q, 204, 40)) (3 + 7 * a + 2))) (congrArg au_i (au_gi_m (au_reg_row hq _))) ?_
  refine au_aload_n dX0_comesDown_8 rfl ?_
  refine au_iload_n dX0_comesDown_9 rfl ?_
  refine au_iconst dX0_comesDown_10 rfl rfl ?_
  refine au_callSp (n := 2) (kX0_at G a 0 (mi, si, hi, sl, r, nx) (by omega) (by omega) (by omega) (by omega)) (lw_S q898 q899 q130 q900) (by decide +kernel) rfl rfl rfl (Nat.le_of_ble_eq_true rfl) (by show _ ≤ (d + 9); omega) (by show _ ≤ 80 * (d + 9); omega) (Nat.le_of_ble_eq_true rfl) (Nat.le_of_ble_eq_true rfl) dX0_comesDown_11 ?_
  refine au_iald dX0_comesDown_14 rfl (by omega) (by show _ < ((204 : Nat) : Int); omega) (v := au_i ((mi (q, 204, 40)) (3 + 7 * a + 0))) (congrArg au_i (au_gi_m (au_reg_row hq _))) ?_
  refine au_callVp (n := 2) (kX0_towards G ((mi (q, 204, 40)) (3 + 7 * a + 2)) ((mi (q, 204, 40)) (3 + 7 * a + 0)) mi si hi sl r nx hF n hN B hE hB p0 f0 f0b hbd) (lw_V q1059 q1061 qs34 q130 q1062) rfl (by decide +kernel) (by decide) (T := TX0) (N := 15) rfl rfl rfl rfl (Nat.le_of_ble_eq_true rfl) (by show _ ≤ (d + 9); omega) (by show _ ≤ 80 * (d + 9); omega) (Nat.le_of_ble_eq_true rfl) (Nat.le_of_ble_eq_true rfl) dX0_comesDown_15 ?_
  show au_Go G _ _ 18 [some (au_r XO), some (au_r (q, 204, 40)), some (au_i a), none, none] [au_i (dnT B (mi (q, 204, 40)) a)] (mi, si, hi, sl, r, nx) 0 0
  refine au_istore_n dX0_comesDown_18 (show 3 < 5 by decide) ?_
  show au_Go G _ _ 19 [some (au_r XO), some (au_r (q, 204, 40)), some (au_i a), some (au_i (dnT B (mi (q, 204, 40)) a)), none] [] (mi, si, hi, sl, r, nx) 0 0
  refine au_aload_n dX0_comesDown_19 rfl ?_
  refine au_iload_n dX0_comesDown_20 rfl ?_
  refine au_iconst dX0_comesDown_21 rfl rfl ?_
  refine au_callSp (n := 2) (kX0_at G a 3 (mi, si, hi, sl, r, nx) (by omega) (by omega) (by omega) (by omega)) (lw_S q898 q899 q130 q900) (by decide +kernel) rfl rfl rfl (Nat.le_of_ble_eq_true rfl) (by show _ ≤ (d + 9); omega) (by show _ ≤ 80 * (d + 9); omega) (Nat.le_of_ble_eq_true rfl) (Nat.le_of_ble_eq_true rfl) dX0_comesDown_22 ?_
  refine au_aload_n dX0_comesDown_25 rfl ?_
  refine au_aload_n dX0_comesDown_26 rfl ?_
  refine au_iload_n dX0_comesDown_27 rfl ?_
  refine au_iload_n dX0_comesDown_28 rfl ?_
  refine au_iconst dX0_comesDown_29 rfl rfl ?_
  refine au_callV (n := 4) (kX0_lawOf2 G d n B Pr Lw a (dnT B (mi (q, 204, 40)) a) q hq mi si hi sl r nx hF hX hR ha ha2 hz0 hz1) (lw_V q908 q910 qs27 q130 q911) rfl (by decide +kernel) (by decide) (T := TX0) (N := 15) rfl rfl rfl rfl (Nat.le_of_ble_eq_true rfl) (by show _ ≤ (d + 9); omega) (by show _ ≤ 80 * (d + 9); omega) (Nat.le_of_ble_eq_true rfl) (Nat.le_of_ble_eq_true rfl) dX0_comesDown_30 (fun rv_ M_ hp_ => ?_)
  obtain ⟨rfl, sj1_30, rfl, hg1_30⟩ := hp_
  show au_Go G _ _ 33 [some (au_r XO), some (au_r (q, 204, 40)), some (au_i a), some (au_i (dnT B (mi (q, 204, 40)) a)), none] [au_i (lawW n B Pr Lw (mi (q, 204, 40)) a (dnT B (mi (q, 204, 40)) a)), au_i (3 + 7 * a + 3), au_r (q, 204, 40)] (mi, sj1_30, hi, sl, r, nx) 0 0
  refine au_iast dX0_comesDown_33 rfl (by show 1000 ≤ _; omega) (by omega) (by show _ < ((204 : Nat) : Int); omega) (M' := ((au_up mi (q, 204, 40) (3 + 7 * a + 3) (lawW n B Pr Lw (mi (q, 204, 40)) a (dnT B (mi (q, 204, 40)) a))), sj1_30, hi, sl, r, nx)) (au_wv_m (au_reg_row hq _)) ?_
  rw [au_up_row mi (q, 204, 40) (3 + 7 * a + 3) (lawW n B Pr Lw (mi (q, 204, 40)) a (dnT B (mi (q, 204, 40)) a))]
  refine au_aload_n dX0_comesDown_34 rfl ?_
  refine au_iload_n dX0_comesDown_35 rfl ?_
  refine au_iconst dX0_comesDown_36 rfl rfl ?_
  refine au_callSp (n := 2) (kX0_at G a 2 ((rowS mi (q, 204, 40) (up1 (mi (q, 204, 40)) (3 + 7 * a + 3) (lawW n B Pr Lw (mi (q, 204, 40)) a (dnT B (mi (q, 204, 40)) a)))), sj1_30, hi, sl, r, nx) (by omega) (by omega) (by omega) (by omega)) (lw_S q898 q899 q130 q900) (by decide +kernel) rfl rfl rfl (Nat.le_of_ble_eq_true rfl) (by show _ ≤ (d + 9); omega) (by show _ ≤ 80 * (d + 9); omega) (Nat.le_of_ble_eq_true rfl) (Nat.le_of_ble_eq_true rfl) dX0_comesDown_37 ?_
  refine au_iload_n dX0_comesDown_40 rfl ?_
  refine au_iast dX0_comesDown_41 rfl (by show 1000 ≤ _; omega) (by omega) (by show _ < ((204 : Nat) : Int); omega) (M' := ((au_up (rowS mi (q, 204, 40) (up1 (mi (q, 204, 40)) (3 + 7 * a + 3) (lawW n B Pr Lw (mi (q, 204, 40)) a (dnT B (mi (q, 204, 40)) a)))) (q, 204, 40) (3 + 7 * a + 2) (dnT B (mi (q, 204, 40)) a)), sj1_30, hi, sl, r, nx)) (au_wv_m (au_reg_row hq _)) ?_
  rw [au_up_row (rowS mi (q, 204, 40) (up1 (mi (q, 204, 40)) (3 + 7 * a + 3) (lawW n B Pr Lw (mi (q, 204, 40)) a (dnT B (mi (q, 204, 40)) a)))) (q, 204, 40) (3 + 7 * a + 2) (dnT B (mi (q, 204, 40)) a), rowS_selfF, rowS_rowS]
  refine au_iload_n dX0_comesDown_42 rfl ?_
  refine au_aload_n dX0_comesDown_43 rfl ?_
  refine au_iload_n dX0_comesDown_44 rfl ?_
  refine au_iconst dX0_comesDown_45 rfl rfl ?_
  refine au_callSp (n := 2) (kX0_at G a 0 ((rowS mi (q, 204, 40) (up1 (up1 (mi (q, 204, 40)) (3 + 7 * a + 3) (lawW n B Pr Lw (mi (q, 204, 40)) a (dnT B (mi (q, 204, 40)) a))) (3 + 7 * a + 2) (dnT B (mi (q, 204, 40)) a))), sj1_30, hi, sl, r, nx) (by omega) (by omega) (by omega) (by omega)) (lw_S q898 q899 q130 q900) (by decide +kernel) rfl rfl rfl (Nat.le_of_ble_eq_true rfl) (by show _ ≤ (d + 9); omega) (by show _ ≤ 80 * (d + 9); omega) (Nat.le_of_ble_eq_true rfl) (Nat.le_of_ble_eq_true rfl) dX0_comesDown_46 ?_
  refine au_iald dX0_comesDown_49 rfl (by omega) (by show _ < ((204 : Nat) : Int); omega) (v := au_i ((mi (q, 204, 40)) (3 + 7 * a + 0))) (congrArg au_i ((au_gi_m (au_reg_row hq _)).trans ((rowS_self _ _ _ _).trans ((up1_ne _ _ (by omega)).trans (up1_ne _ _ (by omega)))))) ?_
  refine au_icmp_ne (tgt := 57) dX0_comesDown_50 (by decide) (fun c50 => ?_) (fun c50 => ?_)
  · refine au_iconst dX0_comesDown_57 rfl rfl ?_
    refine au_istore dX0_comesDown_58 (show 4 < 5 by decide) ?_
    show au_Go G _ _ 60 [some (au_r XO), some (au_r (q, 204, 40)), some (au_i a), some (au_i (dnT B (mi (q, 204, 40)) a)), some (au_i 0)] [] ((rowS mi (q, 204, 40) (up1 (up1 (mi (q, 204, 40)) (3 + 7 * a + 3) (lawW n B Pr Lw (mi (q, 204, 40)) a (dnT B (mi (q, 204, 40)) a))) (3 + 7 * a + 2) (dnT B (mi (q, 204, 40)) a))), sj1_30, hi, sl, r, nx) 0 0
    refine au_iload dX0_comesDown_60 rfl ?_
    refine au_if_eq (tgt := 79) dX0_comesDown_62 (by decide) (fun c62 => ?_) (fun c62 => ?_)
    · refine au_iload dX0_comesDown_79 rfl ?_
      refine au_zret dX0_comesDown_81 rfl (Or.inl rfl) rfl (Nat.le_of_ble_eq_true rfl) (Nat.le_of_ble_eq_true rfl) ?_
      first
      | exact ⟨by rw [au_bf c50], sj1_30, nx, (by omega), by unfold dnF; rw [if_neg c50]; rfl⟩
      | exact ⟨by rw [au_bt c50], sj1_30, nx, (by omega), by unfold dnF; rw [if_pos c50]; rfl⟩
    · exact absurd c62 (by decide)
  · refine au_iconst dX0_comesDown_53 rfl rfl ?_
    refine au_goto (tgt := 58) dX0_comesDown_54 (by decide) ?_
    refine au_istore dX0_comesDown_58 (show 4 < 5 by decide) ?_
    show au_Go G _ _ 60 [some (au_r XO), some (au_r (q, 204, 40)), some (au_i a), some (au_i (dnT B (mi (q, 204, 40)) a)), some (au_i 1)] [] ((rowS mi (q, 204, 40) (up1 (up1 (mi (q, 204, 40)) (3 + 7 * a + 3) (lawW n B Pr Lw (mi (q, 204, 40)) a (dnT B (mi (q, 204, 40)) a))) (3 + 7 * a + 2) (dnT B (mi (q, 204, 40)) a))), sj1_30, hi, sl, r, nx) 0 0
    refine au_iload dX0_comesDown_60 rfl ?_
    refine au_if_eq (tgt := 79) dX0_comesDown_62 (by decide) (fun c62 => ?_) (fun c62 => ?_)
    · exact absurd c62 (by decide)
    · refine au_aload_n dX0_comesDown_65 rfl ?_
      refine au_iload_n dX0_comesDown_66 rfl ?_
      refine au_iconst dX0_comesDown_67 rfl rfl ?_
      refine au_callSp (n := 2) (kX0_at G a 4 ((rowS mi (q, 204, 40) (up1 (up1 (mi (q, 204, 40)) (3 + 7 * a + 3) (lawW n B Pr Lw (mi (q, 204, 40)) a (dnT B (mi (q, 204, 40)) a))) (3 + 7 * a + 2) (dnT B (mi (q, 204, 40)) a))), sj1_30, hi, sl, r, nx) (by omega) (by omega) (by omega) (by omega)) (lw_S q898 q899 q130 q900) (by decide +kernel) rfl rfl rfl (Nat.le_of_ble_eq_true rfl) (by show _ ≤ (d + 9); omega) (by show _ ≤ 80 * (d + 9); omega) (Nat.le_of_ble_eq_true rfl) (Nat.le_of_ble_eq_true rfl) dX0_comesDown_68 ?_
      refine au_iconst dX0_comesDown_71 rfl rfl ?_
      refine au_iast dX0_comesDown_72 rfl (by show 1000 ≤ _; omega) (by omega) (by show _ < ((204 : Nat) : Int); omega) (M' := ((au_up (rowS mi (q, 204, 40) (up1 (up1 (mi (q, 204, 40)) (3 + 7 * a + 3) (lawW n B Pr Lw (mi (q, 204, 40)) a (dnT B (mi (q, 204, 40)) a))) (3 + 7 * a + 2) (dnT B (mi (q, 204, 40)) a))) (q, 204, 40) (3 + 7 * a + 4) 2), sj1_30, hi, sl, r, nx)) (au_wv_m (au_reg_row hq _)) ?_
      rw [au_up_row (rowS mi (q, 204, 40) (up1 (up1 (mi (q, 204, 40)) (3 + 7 * a + 3) (lawW n B Pr Lw (mi (q, 204, 40)) a (dnT B (mi (q, 204, 40)) a))) (3 + 7 * a + 2) (dnT B (mi (q, 204, 40)) a))) (q, 204, 40) (3 + 7 * a + 4) 2, rowS_selfF, rowS_rowS]
      have hq1 : RowIn (up1 (up1 (up1 (mi (q, 204, 40)) (3 + 7 * a + 3) (lawW n B Pr Lw (mi (q, 204, 40)) a (dnT B (mi (q, 204, 40)) a))) (3 + 7 * a + 2) (dnT B (mi (q, 204, 40)) a)) (3 + 7 * a + 4) 2) n := ((hR.up ha ha2 (w := 3) (v := lawW n B Pr Lw (mi (q, 204, 40)) a (dnT B (mi (q, 204, 40)) a)) (by decide) (by decide) ⟨by omega, by intro _; exact hlw, by omega, by omega⟩).up ha (by rw [up1_ne _ _ (by omega)]; exact ha2) (w := 2) (v := (dnT B (mi (q, 204, 40)) a)) (by decide) (by decide) ⟨by intro _; omega, by omega, by omega, by omega⟩).up ha (by rw [up1_ne _ _ (by omega), up1_ne _ _ (by omega)]; exact ha2) (w := 4) (v := 2) (by decide) (by decide) ⟨by omega, by omega, by intro _; omega, by omega⟩
      refine au_aload_n dX0_comesDown_73 rfl ?_
      refine au_iload_n dX0_comesDown_74 rfl ?_
      refine au_iconst dX0_comesDown_75 rfl rfl ?_
      refine au_callS (n := 3) (kX0_writesR G a 2 (up1 (up1 (up1 (mi (q, 204, 40)) (3 + 7 * a + 3) (lawW n B Pr Lw (mi (q, 204, 40)) a (dnT B (mi (q, 204, 40)) a))) (3 + 7 * a + 2) (dnT B (mi (q, 204, 40)) a)) (3 + 7 * a + 4) 2) q hq mi sj1_30 hi sl r nx hnx ha (by omega) hq1.2.2.2.1.1 hq1.2.2.2.1.2) (lw_S q1051 q1052 q130 q1053) (by decide +kernel) rfl rfl rfl (Nat.le_of_ble_eq_true rfl) (by show _ ≤ (d + 9); omega) (by show _ ≤ 80 * (d + 9); omega) (Nat.le_of_ble_eq_true rfl) (Nat.le_of_ble_eq_true rfl) dX0_comesDown_76 (fun rv_ M_ hp_ => ?_)
      obtain ⟨rfl, sj2_76, rfl⟩ := hp_
      show au_Go G _ _ 79 [some (au_r XO), some (au_r (q, 204, 40)), some (au_i a), some (au_i (dnT B (mi (q, 204, 40)) a)), some (au_i 1)] [] ((rowS mi (q, 204, 40) (wrF (up1 (up1 (up1 (mi (q, 204, 40)) (3 + 7 * a + 3) (lawW n B Pr Lw (mi (q, 204, 40)) a (dnT B (mi (q, 204, 40)) a))) (3 + 7 * a + 2) (dnT B (mi (q, 204, 40)) a)) (3 + 7 * a + 4) 2) a 2)), sj2_76, hi, sl, r, nx + 1) 1 4
      refine au_iload dX0_comesDown_79 rfl ?_
      refine au_zret dX0_comesDown_81 rfl (Or.inr rfl) rfl (Nat.le_of_ble_eq_true rfl) (Nat.le_of_ble_eq_true rfl) ?_
      first
      | exact ⟨by rw [au_bf c50], sj2_76, (nx + 1), (by omega), by unfold dnF; rw [if_neg c50]; rfl⟩
      | exact ⟨by rw [au_bt c50], sj2_76, (nx + 1), (by omega), by unfold dnF; rw [if_pos c50]; rfl⟩
