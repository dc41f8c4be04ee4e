/-! THE MODEL: the machine as it lies (printed by tools/m95.py) -/
set_option maxRecDepth 100000
set_option maxHeartbeats 4000000

/-- the state of the model's machine as it lies: t0 the text's place, w0 how many steps were done before -/
def PsM (t0 w0 : Int) (W : List Int) (c : au_Co) (o : Int) (mi si : au_A → Int → Int) : Prop :=
  si MO 12 = t0 ∧ si MO 13 = w0 + (c.length : Int) ∧ CdAt (mi MT) (t0 + 97) w0 c ∧ si MO 16 = (W.length : Int) ∧ WtAt (si MWait) W ∧ si MO 17 = o
theorem CdAt_app {m : Int → Int} {co : Int} : ∀ (c d : au_Co) (i : Int), CdAt m co i c → CdAt m co (i + c.length) d → CdAt m co i (c ++ d)
  | [], d, i, _, h => by
    have e : i + (([] : au_Co).length : Int) = i := by show i + 0 = i; omega
    rw [e] at h; exact h
  | q :: c, d, i, h, g => ⟨h.1, h.2.1, CdAt_app c d (i + 1) h.2.2 (by
    have e : i + 1 + (c.length : Int) = i + ((q :: c).length : Int) := by rw [List.length_cons]; omega
    rw [e]; exact g)⟩
theorem CdAt_congr {m m' : Int → Int} {co : Int} : ∀ (c : au_Co) (i : Int), (∀ j, co + 2 * i ≤ j → j < co + 2 * (i + c.length) → m' j = m j) → CdAt m co i c → CdAt m' co i c
  | [], _, _, _ => trivial
  | q :: c, i, h, g => by
    have hl : ((q :: c).length : Int) = c.length + 1 := by rw [List.length_cons]; omega
    exact ⟨(h _ (by omega) (by rw [hl]; omega)).trans g.1, (h _ (by omega) (by rw [hl]; omega)).trans g.2.1, CdAt_congr c (i + 1) (fun j h1 h2 => h j (by omega) (by rw [hl]; omega)) g.2.2⟩
theorem WtAt_congr {m m' : Int → Int} : ∀ (W : List Int), (∀ j : Int, 0 ≤ j → j < W.length → m' j = m j) → WtAt m W → WtAt m' W
  | [], _, _ => trivial
  | x :: R, h, g => ⟨(h _ (by omega) (by rw [List.length_cons]; omega)).trans g.1, WtAt_congr R (fun j h1 h2 => h j h1 (by rw [List.length_cons]; omega)) g.2⟩

