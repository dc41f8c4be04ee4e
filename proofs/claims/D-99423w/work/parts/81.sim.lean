/-! PURE: the machine does what the grammar says -/
set_option maxRecDepth 100000
def LxO (so en nu : Int → Int) (n : Int) : Prop := n ≤ 300 ∧ ∀ p, 0 ≤ p → p ≤ n → p ≤ en p ∧ en p ≤ n ∧ (so p ≠ 301 → p < en p) ∧ (so p = 300 → 0 ≤ nu p)
def cntN : List Int → Int
  | [] => 0
  | x :: P => (if x = 20 then 1 else 0) + cntN P
def emt (P : List Int) : au_Co := P.map fun x => (x, 0)
theorem emt_app (P Q : List Int) : emt (P ++ Q) = emt P ++ emt Q := List.map_append
theorem cntN_app : ∀ (P Q : List Int), cntN (P ++ Q) = cntN P + cntN Q
  | [], Q => by show cntN Q = 0 + cntN Q; omega
  | x :: P, Q => by
    show (if x = 20 then 1 else 0) + cntN (P ++ Q) = (if x = 20 then 1 else 0) + cntN P + cntN Q
    rw [cntN_app P Q]; omega
def Rs (lo : Int) (P : List Int) : Prop := ∀ x ∈ P, lo ≤ wRk x ∧ wRk x < 7
theorem Rs.app {lo : Int} {P Q : List Int} (h : Rs lo P) (g : Rs lo Q) : Rs lo (P ++ Q) := fun x hx => (List.mem_append.mp hx).elim (h x) (g x)
theorem Rs.up {lo l2 : Int} {P : List Int} (h : Rs lo P) (hl : l2 ≤ lo) : Rs l2 P := fun x hx => ⟨Int.le_trans hl (h x hx).1, (h x hx).2⟩
theorem Rs.one {lo x : Int} (h : lo ≤ wRk x ∧ wRk x < 7) : Rs lo [x] := fun y hy => by
  rw [List.mem_singleton.mp hy]; exact h
theorem stl_app (l : Int) : ∀ (P W : List Int) (c : au_Co) (o : Int), (∀ x ∈ P, l ≤ wRk x ∧ wRk x < 7) → stl l (P ++ W) c (o + cntN P) = stl l W (c ++ emt P) o := by
  intro P
  induction P with
  | nil => intro W c o _; show stl l W c (o + 0) = stl l W (c ++ []) o; rw [Int.add_zero, List.append_nil]
  | cons x P ih =>
    intro W c o h
    have h1 := h x List.mem_cons_self
    show (if l ≤ wRk x then stl l (P ++ W) (c ++ [(x, 0)]) (if wRk x = 7 ∨ x = 20 then o + ((if x = 20 then 1 else 0) + cntN P) - 1 else o + ((if x = 20 then 1 else 0) + cntN P)) else _) = _
    rw [if_pos h1.1]
    have e : (if wRk x = 7 ∨ x = 20 then o + ((if x = 20 then 1 else 0) + cntN P) - 1 else o + ((if x = 20 then 1 else 0) + cntN P)) = o + cntN P := by
      by_cases hx : x = 20
      · rw [if_pos (Or.inr hx), if_pos hx]; omega
      · rw [if_neg (by omega), if_neg hx]; omega
    rw [e, ih W _ o (fun y hy => h y (List.mem_cons_of_mem _ hy))]
    show stl l W (c ++ [(x, 0)] ++ emt P) o = stl l W (c ++ (x, 0) :: emt P) o
    rw [List.append_assoc]; rfl
theorem stl_stop {l : Int} : ∀ {W : List Int} {c : au_Co} {o : Int}, (∀ x R, W = x :: R → wRk x < l) → stl l W c o = (W, c, o)
  | [], _, _, _ => rfl
  | x :: R, c, o, h => if_neg (by have := h x R rfl; omega)
theorem opn_app {P W : List Int} (h : Rs 1 P) : opn (P ++ W) = opn W := by
  induction P with
  | nil => rfl
  | cons x P ih =>
    have h1 := h x List.mem_cons_self
    have h2 : ¬ 40 ≤ x := fun z => by
      unfold wRk at h1; rw [if_pos z] at h1; omega
    show (if 40 ≤ x then x else opn (P ++ W)) = _
    rw [if_neg h2]
    exact ih fun y hy => h y (List.mem_cons_of_mem _ hy)
theorem cmd_app {P W : List Int} (h : Rs 5 P) : cmd (P ++ W) = cmd W := by
  induction P with
  | nil => rfl
  | cons x P ih =>
    have h1 := h x List.mem_cons_self
    show (if 4 < wRk x then cmd (P ++ W) else _) = _
    rw [if_pos (by omega)]
    exact ih fun y hy => h y (List.mem_cons_of_mem _ hy)
theorem opO_rng (s : Int) : 6 ≤ opO s ∧ opO s ≤ 9 := by unfold opO; omega
theorem wRk_op {b : Int} (h : 6 ≤ b ∧ b ≤ 9) : wRk b = if 8 ≤ b then 6 else 5 := by unfold wRk; omega
theorem wRk_cm {b : Int} (h : 10 ≤ b ∧ b ≤ 15) : wRk b = 4 := by unfold wRk; omega
theorem cmO_rng {s : Int} : (isCm s = true → 10 ≤ cmO s ∧ cmO s ≤ 15) ∧ (isCm s = false → cmO s = -1) := by
  unfold isCm cmO
  refine ⟨fun h => ?_, fun h => ?_⟩
  · have := of_decide_eq_true h
    omega
  · have := of_decide_eq_false h
    repeat rw [if_neg (by omega)]
section SM
variable {so en nu : Int → Int} {kd n : Int}
theorem Rt_step {s s' : au_MS} {r : au_R au_Co} (h : stpM so en nu kd s = .inr s') (g : Rt so en nu kd s' r) : Rt so en nu kd s r := by
  obtain ⟨k, hk⟩ := g
  refine ⟨k + 1, ?_⟩
  show (match stpM so en nu kd s with | .inr s' => runM so en nu kd k s' | .inl (f, p) => _) = _
  rw [h]; exact hk
theorem Rt_flt {s : au_MS} {f p : Int} (h : stpM so en nu kd s = .inl (f, p)) (hf : 0 < f) : Rt so en nu kd s (.inl (f, p)) := by
  refine ⟨1, ?_⟩
  show (match stpM so en nu kd s with | .inr s' => runM so en nu kd 0 s' | .inl (f, p) => _) = _
  rw [h]; exact if_pos hf
theorem Rt_end {s : au_MS} {p : Int} (h : stpM so en nu kd s = .inl (-1, p)) (ho : 0 ≤ opn s.2.1) : Rt so en nu kd s (.inl (1, p)) := by
  refine ⟨1, ?_⟩
  show (match stpM so en nu kd s with | .inr s' => runM so en nu kd 0 s' | .inl (f, p) => _) = _
  rw [h]
  show (if (0 : Int) < -1 then _ else if 0 ≤ opn s.2.1 then _ else _) = _
  rw [if_neg (by omega), if_pos ho]
theorem Rt_out {s : au_MS} {p : Int} (h : stpM so en nu kd s = .inl (-1, p)) (ho : ¬ 0 ≤ opn s.2.1) : Rt so en nu kd s (.inr ((stl 1 s.2.1 s.2.2.1 s.2.2.2.1).2.1, p)) := by
  refine ⟨1, ?_⟩
  show (match stpM so en nu kd s with | .inr s' => runM so en nu kd 0 s' | .inl (f, p) => _) = _
  rw [h]
  show (if (0 : Int) < -1 then _ else if 0 ≤ opn s.2.1 then _ else _) = _
  rw [if_neg (by omega), if_neg ho]
theorem endM_flt {q o : Int} {W : List Int} {c : au_Co} {e : Int × Int} (h : endM so en q W c o = .inl e) : e = (1, q) := by
  unfold endM at h
  split at h
  · cases h
  · split at h
    · split at h
      · cases h
      · cases h; rfl
    · cases h
theorem Rt_re {s : au_MS} {q o : Int} {W : List Int} {c : au_Co} {r : au_R au_Co} (h : stpM so en nu kd s = endM so en q W c o) (g : Re so en nu kd q W c o r) : Rt so en nu kd s r := by
  unfold Re at g
  cases he : endM so en q W c o with
  | inl e =>
    rw [he] at g h
    have g : r = .inl e := g
    rw [endM_flt he] at g h
    rw [g]
    exact Rt_flt h (by decide)
  | inr s' =>
    rw [he] at g h
    exact Rt_step h g
/-- a part of the grammar, done by the machine in a context: what waits of it behind it is of rank lo or more -/
def SimB (so en nu : Int → Int) (kd n : Int) (N : Int → au_R au_PV) (C : Int → List Int → Prop) (lo : Int) (D : List Int → Prop) (E : Int → Prop) (o : Int) : Prop := ∀ (p : Int) (W : List Int) (c : au_Co), 0 ≤ p → p ≤ n → C p W → match N p with
  | .inl e => Rt so en nu kd (p, W, c, o, false) (.inl e)
  | .inr (v, q) => p ≤ q ∧ q ≤ n ∧ E (so q) ∧ ∀ r, (∀ (P : List Int) (c' : au_Co), Rs lo P → D P → c' ++ emt P = c ++ v.2 → Rt so en nu kd (q, P ++ W, c', o + cntN P, true) r) → Rt so en nu kd (p, W, c, o, false) r
def SimO (so en nu : Int → Int) (kd n : Int) (N : Int → au_R au_PV) (o : Int) : Prop := ∀ (p : Int) (W : List Int) (c : au_Co), 0 ≤ p → p ≤ n → (so p = 222 → ahd W = false) → match N p with
  | .inl e => Rt so en nu kd (p, W, c, o, false) (.inl e)
  | .inr (v, q) => p ≤ q ∧ q ≤ n ∧ ∀ r, Re so en nu kd q W (c ++ v.2) o r → Rt so en nu kd (p, W, c, o, false) r
def Cl (so : Int → Int) (l : Int) (p : Int) (W : List Int) : Prop := (∀ x R, W = x :: R → wRk x < l ∧ x ≠ 41) ∧ (so p = 222 → ahd W = false)
def CA (l : Int) (_ : Int) (W : List Int) : Prop := ∃ x R, W = x :: R ∧ wRk x < l ∧ opn W = 42 ∧ (40 ≤ x ∨ (1 ≤ wRk x ∧ wRk x ≤ 3))
def Dt (_ : List Int) : Prop := True
def Dc (P : List Int) : Prop := ∀ X, cmd (P ++ X) = true
def ES (s : Int) : Prop := (True ∧ isTD s = false) ∧ isPM s = false
theorem Re_stop {q o : Int} {W : List Int} {c : au_Co} {r : au_R au_Co} (h : ∀ x R, W = x :: R → wRk x < 7 ∧ x ≠ 41) (g : Rt so en nu kd (q, W, c, o, true) r) : Re so en nu kd q W c o r := by
  unfold Re endM
  rw [stl_stop fun x R e => (h x R e).1]
  match W, h, g with
  | [], _, g => exact g
  | x :: R, h, g =>
    show (match (if x = 41 then _ else Sum.inr (q, x :: R, c, o, true) : (Int × Int) ⊕ au_MS) with | .inl e => r = .inl e | .inr s => Rt so en nu kd s r)
    rw [if_neg (h x R rfl).2]
    exact g
theorem SimO.toB {N : Int → au_R au_PV} {o : Int} (h : SimO so en nu kd n N o) : SimB so en nu kd n N (Cl so 7) 7 Dt (fun _ => True) o := by
  intro p W c h0 h1 hC
  have h2 := h p W c h0 h1 hC.2
  cases hN : N p with
  | inl e => rw [hN] at h2; exact h2
  | inr vq =>
    obtain ⟨v, q⟩ := vq
    rw [hN] at h2
    obtain ⟨a1, a2, a3⟩ := h2
    refine ⟨a1, a2, trivial, fun r hr => a3 r (Re_stop hC.1 ?_)⟩
    have := hr [] (c ++ v.2) (fun x hx => nomatch hx) trivial (List.append_nil _)
    have e : o + cntN [] = o := Int.add_zero o
    rw [e] at this
    exact this
theorem ahd_op {b : Int} {W : List Int} (h : 4 ≤ wRk b ∧ b < 40) : ahd (b :: W) = false := by
  unfold ahd
  rw [Bool.and_eq_false_iff]
  right
  exact decide_eq_false (by omega)
theorem lpB_sim (hL : LxO so en nu n) {N : Int → au_R au_PV} {isop : Int → Bool} {ρ o : Int} (hρ : ρ = 5 ∨ ρ = 6) (hop : ∀ s, isop s = true → (isPM s || isTD s) = true ∧ wRk (opO s) = ρ ∧ s ≠ 301) {EN : Int → Prop} (hN : SimB so en nu kd n N (Cl so (ρ + 1)) (ρ + 1) Dt EN o) :
    ∀ (k : Nat) (v : au_PV) (p : Int) (W P0 : List Int) (c c0 : au_Co), n - p < k → 0 ≤ p → p ≤ n → (∀ x R, W = x :: R → wRk x < ρ ∧ x ≠ 41) → Rs ρ P0 → c0 ++ emt P0 = c ++ v.2 → EN (so p) → match lpB so en N isop k v p with
      | .inl e => Rt so en nu kd (p, P0 ++ W, c0, o + cntN P0, true) (.inl e)
      | .inr (v', q) => p ≤ q ∧ q ≤ n ∧ (EN (so q) ∧ isop (so q) = false) ∧ ∀ r, (∀ (P : List Int) (c' : au_Co), Rs ρ P → Dt P → c' ++ emt P = c ++ v'.2 → Rt so en nu kd (q, P ++ W, c', o + cntN P, true) r) → Rt so en nu kd (p, P0 ++ W, c0, o + cntN P0, true) r := by
  intro k
  induction k with
  | zero => intro v p W P0 c c0 hk h0 h1; exfalso; have : n - p < 0 := hk; omega
  | succ k ih =>
    intro v p W P0 c c0 hk h0 h1 hC hP0 hc0 hE
    by_cases hi : isop (so p) = true
    · obtain ⟨o1, o2, o3⟩ := hop _ hi
      obtain ⟨g1, g2, g3, -⟩ := hL.2 p h0 h1
      have g3 := g3 o3
      have ob := opO_rng (so p)
      have hst : stl ρ (P0 ++ W) c0 (o + cntN P0) = (W, c ++ v.2, o) := by
        rw [stl_app ρ P0 W c0 o hP0, hc0, stl_stop fun x R e => (hC x R e).1]
      have hs : stpM so en nu kd (p, P0 ++ W, c0, o + cntN P0, true) = .inr (en p, opO (so p) :: W, c ++ v.2, o, false) := by
        show behM so en p (P0 ++ W) c0 (o + cntN P0) = _
        have hb : betM so p (P0 ++ W) = opO (so p) := by unfold betM; rw [if_pos o1]
        unfold behM
        rw [hb, if_pos (by omega), if_neg (by rw [o2]; omega), o2, hst]
      have hl : lpB so en N isop (k + 1) v p = bnd (N (en p)) fun w q => lpB so en N isop k (fun nm => twoF (so p) (v.1 nm) (w.1 nm), v.2 ++ w.2 ++ [(opO (so p), 0)]) q := if_pos hi
      rw [hl]
      have hN1 := hN (en p) (opO (so p) :: W) (c ++ v.2) (by omega) g2 ⟨fun x R e => by cases e; exact ⟨by omega, by omega⟩, fun _ => ahd_op ⟨by omega, by omega⟩⟩
      cases hNp : N (en p) with
      | inl e =>
        rw [hNp] at hN1
        exact Rt_step hs hN1
      | inr wq =>
        obtain ⟨w, q⟩ := wq
        rw [hNp] at hN1
        obtain ⟨a1, a2, a3, a4⟩ := hN1
        have hone : Rs ρ [opO (so p)] := Rs.one ⟨by omega, by omega⟩
        have hih := fun (P : List Int) (c' : au_Co) (hP : Rs (ρ + 1) P) (hc : c' ++ emt P = c ++ v.2 ++ w.2) => ih (fun nm => twoF (so p) (v.1 nm) (w.1 nm), v.2 ++ w.2 ++ [(opO (so p), 0)]) q W (P ++ [opO (so p)]) c c' (by omega) (by omega) a2 hC ((hP.up (by omega)).app hone) (by rw [emt_app, ← List.append_assoc, hc]; simp [emt]) a3
        have hcn : ∀ P : List Int, cntN (P ++ [opO (so p)]) = cntN P := fun P => by
          rw [cntN_app]
          show cntN P + ((if opO (so p) = 20 then 1 else 0) + 0) = cntN P
          rw [if_neg (by omega)]; omega
        have hap : ∀ P : List Int, P ++ [opO (so p)] ++ W = P ++ opO (so p) :: W := fun P => by rw [List.append_assoc]; rfl
        show (match lpB so en N isop k (fun nm => twoF (so p) (v.1 nm) (w.1 nm), v.2 ++ w.2 ++ [(opO (so p), 0)]) q with | .inl e => _ | .inr (v', q) => _)
        cases hlp : lpB so en N isop k (fun nm => twoF (so p) (v.1 nm) (w.1 nm), v.2 ++ w.2 ++ [(opO (so p), 0)]) q with
        | inl e =>
          refine Rt_step hs (a4 _ fun P c' hP _ hc => ?_)
          have := hih P c' hP hc
          rw [hlp, hcn, hap] at this
          exact this
        | inr vq' =>
          obtain ⟨v', q'⟩ := vq'
          have h9 := hih [] (c ++ v.2 ++ w.2) (fun x hx => nomatch hx) (List.append_nil _)
          rw [hlp] at h9
          obtain ⟨b1, b2, b3, -⟩ := h9
          refine ⟨by omega, b2, b3, fun r hr => Rt_step hs (a4 _ fun P c' hP _ hc => ?_)⟩
          have := hih P c' hP hc
          rw [hlp, hcn, hap] at this
          exact this.2.2.2 r hr
    · have hl : lpB so en N isop (k + 1) v p = .inr (v, p) := if_neg hi
      rw [hl]
      exact ⟨Int.le_refl _, h1, ⟨hE, by simpa using hi⟩, fun r hr => hr P0 c0 hP0 trivial hc0⟩
theorem chain_sim (hL : LxO so en nu n) {N : Int → au_R au_PV} {isop : Int → Bool} {ρ o : Int} (hρ : ρ = 5 ∨ ρ = 6) (hop : ∀ s, isop s = true → (isPM s || isTD s) = true ∧ wRk (opO s) = ρ ∧ s ≠ 301) {EN : Int → Prop} (hN : SimB so en nu kd n N (Cl so (ρ + 1)) (ρ + 1) Dt EN o) : SimB so en nu kd n (gChain so en N isop) (Cl so ρ) ρ Dt (fun s => EN s ∧ isop s = false) o := by
  intro p W c h0 h1 hC
  have h2 := hN p W c h0 h1 ⟨fun x R e => ⟨by have := (hC.1 x R e).1; omega, (hC.1 x R e).2⟩, hC.2⟩
  unfold gChain
  cases hNp : N p with
  | inl e => rw [hNp] at h2; exact h2
  | inr vq =>
    obtain ⟨v, q⟩ := vq
    rw [hNp] at h2
    obtain ⟨a1, a2, a3, a4⟩ := h2
    have hlp := fun (P : List Int) (c' : au_Co) (hP : Rs (ρ + 1) P) (hc : c' ++ emt P = c ++ v.2) => lpB_sim hL hρ hop hN 302 v q W P c c' (by have := hL.1; omega) (by omega) a2 hC.1 (hP.up (by omega)) hc a3
    show (match lpB so en N isop 302 v q with | .inl e => _ | .inr (v', q) => _)
    cases hl : lpB so en N isop 302 v q with
    | inl e =>
      refine a4 _ fun P c' hP _ hc => ?_
      have := hlp P c' hP hc
      rw [hl] at this
      exact this
    | inr vq' =>
      obtain ⟨v', q'⟩ := vq'
      have h9 := hlp [] (c ++ v.2) (fun x hx => nomatch hx) (List.append_nil _)
      rw [hl] at h9
      obtain ⟨b1, b2, b3, -⟩ := h9
      refine ⟨by omega, b2, b3, fun r hr => a4 _ fun P c' hP _ hc => ?_⟩
      have := hlp P c' hP hc
      rw [hl] at this
      exact this.2.2.2 r hr
theorem sum_sim (hL : LxO so en nu n) {N : Int → au_R au_PV} {o : Int} (h : SimO so en nu kd n N o) : SimB so en nu kd n (gSum so en N) (Cl so 5) 5 Dt ES o := by
  have h1 : SimB so en nu kd n (gProd so en N) (Cl so 6) 6 Dt (fun s => True ∧ isTD s = false) o := chain_sim hL (Or.inr rfl) (fun s hs => by
    have hs' : s = 42 ∨ s = 47 := of_decide_eq_true hs
    refine ⟨by rw [hs, Bool.or_true], ?_, by omega⟩
    rcases hs' with e | e <;> subst e <;> rfl) h.toB
  exact chain_sim hL (Or.inl rfl) (fun s hs => by
    have hs' : s = 43 ∨ s = 45 := of_decide_eq_true hs
    refine ⟨by rw [hs, Bool.true_or], ?_, by omega⟩
    rcases hs' with e | e <;> subst e <;> rfl) h1
end SM
