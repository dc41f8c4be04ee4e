/-! PURE: what the steps of a sum come to -/
set_option maxRecDepth 100000
def OkS (v : au_PV) : Prop := ∀ nm rk : Int → Int, (∀ o, rk o = rnkF nm o) → ∀ s : au_St, runL nm rk v.2 s = some (v.1 nm :: s.1, s.2)
def OkA (v : au_PV) : Prop := ∀ nm rk : Int → Int, (∀ o, rk o = rnkF nm o) → (v.1 nm = 0 ∨ v.1 nm = 1) ∧ ∀ s : au_St, runL nm rk v.2 s = some (s.1, v.1 nm :: s.2)
def Gd (Q : au_PV → Prop) (N : Int → au_R au_PV) : Prop := ∀ (p : Int) (v : au_PV) (q : Int), N p = .inr (v, q) → Q v
theorem bnd_inr {α β : Type} {r : au_R α} {k : α → Int → au_R β} {x : β × Int} (h : bnd r k = .inr x) : ∃ a p, r = .inr (a, p) ∧ k a p = .inr x := by
  match r, h with
  | .inl e, h => cases h
  | .inr (a, p), h => exact ⟨a, p, rfl, h⟩
theorem run2 {nm rk : Int → Int} {c d : au_Co} {s s1 : au_St} (h : runL nm rk c s = some s1) : runL nm rk (c ++ d) s = runL nm rk d s1 := runL_app nm rk c d s s1 h
theorem run1 {nm rk : Int → Int} {o v : Int} {s s1 : au_St} (h : stp nm rk o v s = some s1) : runL nm rk [(o, v)] s = some s1 := by
  show (match stp nm rk o v s with | none => none | some s' => runL nm rk [] s') = _
  rw [h]; rfl
theorem ok_two {v w : au_PV} {s : Int} (hs : s = 43 ∨ s = 45 ∨ s = 42 ∨ s = 47) (hv : OkS v) (hw : OkS w) : OkS (fun nm => twoF s (v.1 nm) (w.1 nm), v.2 ++ w.2 ++ [(opO s, 0)]) := fun nm rk hr st => by
  show runL nm rk (v.2 ++ w.2 ++ [(opO s, 0)]) st = _
  rw [run2 ((run2 (hv nm rk hr st)).trans (hw nm rk hr _))]
  refine run1 ?_
  rcases hs with e | e | e | e <;> subst e <;> rfl
theorem ok_cmp {v w : au_PV} {s : Int} (hs : isCm s = true) (hv : OkS v) (hw : OkS w) : OkA (fun nm => cmpF s (v.1 nm - w.1 nm), v.2 ++ w.2 ++ [(cmO s, 0)]) := fun nm rk hr => ⟨cmpF_01 _ _, fun st => by
  show runL nm rk (v.2 ++ w.2 ++ [(cmO s, 0)]) st = _
  rw [run2 ((run2 (hv nm rk hr st)).trans (hw nm rk hr _))]
  refine run1 ?_
  have hs' : s = 60 ∨ s = 62 ∨ s = 61 ∨ s = 35 ∨ s = 303 ∨ s = 304 := of_decide_eq_true hs
  rcases hs' with e | e | e | e | e | e <;> subst e <;> rfl⟩
section OK
variable {so en nu : Int → Int} {kd : Int}
theorem lpB_ok {N : Int → au_R au_PV} {isop : Int → Bool} (hop : ∀ s, isop s = true → s = 43 ∨ s = 45 ∨ s = 42 ∨ s = 47) (hN : Gd OkS N) : ∀ (k : Nat) (v : au_PV) (p : Int) (v' : au_PV) (q : Int), OkS v → lpB so en N isop k v p = .inr (v', q) → OkS v' := by
  intro k
  induction k with
  | zero => intro v p v' q hv h; cases h; exact hv
  | succ k ih =>
    intro v p v' q hv h
    by_cases hi : isop (so p) = true
    · have h : bnd (N (en p)) (fun w q => lpB so en N isop k (fun nm => twoF (so p) (v.1 nm) (w.1 nm), v.2 ++ w.2 ++ [(opO (so p), 0)]) q) = .inr (v', q) := (if_pos hi).symm.trans h
      obtain ⟨w, q1, h1, h2⟩ := bnd_inr h
      exact ih _ q1 v' q (ok_two (hop _ hi) hv (hN _ _ _ h1)) h2
    · have h : (.inr (v, p) : au_R au_PV) = .inr (v', q) := (if_neg hi).symm.trans h
      cases h; exact hv
theorem chain_ok {N : Int → au_R au_PV} {isop : Int → Bool} (hop : ∀ s, isop s = true → s = 43 ∨ s = 45 ∨ s = 42 ∨ s = 47) (hN : Gd OkS N) : Gd OkS (gChain so en N isop) := fun p v q h => by
  obtain ⟨w, q1, h1, h2⟩ := bnd_inr h
  exact lpB_ok hop hN 302 w q1 v q (hN _ _ _ h1) h2
theorem sum_ok {N : Int → au_R au_PV} (hN : Gd OkS N) : Gd OkS (gSum so en N) :=
  chain_ok (fun s h => by have : s = 43 ∨ s = 45 := of_decide_eq_true h; omega) (chain_ok (fun s h => by have : s = 42 ∨ s = 47 := of_decide_eq_true h; omega) hN)
theorem cmp_ok {N : Int → au_R au_PV} (hN : Gd OkS N) : Gd OkA (gCmp so en N) := fun p v q h => by
  obtain ⟨a, q1, h1, h2⟩ := bnd_inr h
  by_cases hi : isCm (so q1) = true
  · rw [if_pos hi] at h2
    obtain ⟨b, r, h3, h4⟩ := bnd_inr h2
    cases h4
    exact ok_cmp hi (sum_ok hN _ _ _ h1) (sum_ok hN _ _ _ h3)
  · rw [if_neg hi] at h2; cases h2
/-- of askings in a row: how many are so, and what the steps come to -/
def OkL (op : Int) (s : au_F × Nat × au_Co) : Prop := 1 ≤ s.2.1 ∧ ∀ nm rk : Int → Int, (∀ o, rk o = rnkF nm o) → 0 ≤ s.1 nm ∧ s.1 nm ≤ (s.2.1 : Int) ∧ ∀ st : au_St, runL nm rk s.2.2 st = some (st.1, (if op = 22 then (if 0 < s.1 nm then 1 else 0) else (if s.1 nm = (s.2.1 : Int) then 1 else 0)) :: st.2)
theorem lpA_ok {N : Int → au_R au_PV} {w op : Int} (hop : op = 21 ∨ op = 22) (hN : Gd OkA N) : ∀ (k : Nat) (v : au_F × Nat × au_Co) (p : Int) (v' : au_F × Nat × au_Co) (q : Int), OkL op v → lpA so en N w op k v p = .inr (v', q) → OkL op v' := by
  intro k
  induction k with
  | zero => intro v p v' q hv h; cases h; exact hv
  | succ k ih =>
    intro v p v' q hv h
    by_cases hi : so p = w
    · have h : bnd (N (en p)) (fun b q => lpA so en N w op k (fun nm => v.1 nm + b.1 nm, v.2.1 + 1, v.2.2 ++ b.2 ++ [(op, 0)]) q) = .inr (v', q) := (if_pos hi).symm.trans h
      obtain ⟨b, q1, h1, h2⟩ := bnd_inr h
      refine ih _ q1 v' q ⟨by show 1 ≤ v.2.1 + 1; omega, fun nm rk hr => ?_⟩ h2
      obtain ⟨c1, c2, c3⟩ := hv.2 nm rk hr
      obtain ⟨d1, d2⟩ := hN _ _ _ h1 nm rk hr
      refine ⟨by show 0 ≤ v.1 nm + b.1 nm; omega, by show v.1 nm + b.1 nm ≤ ((v.2.1 + 1 : Nat) : Int); omega, fun st => ?_⟩
      show runL nm rk (v.2.2 ++ b.2 ++ [(op, 0)]) st = some (st.1, (if op = 22 then (if 0 < v.1 nm + b.1 nm then 1 else 0) else (if v.1 nm + b.1 nm = ((v.2.1 + 1 : Nat) : Int) then 1 else 0)) :: st.2)
      rw [run2 ((run2 (c3 st)).trans (d2 _))]
      refine run1 ?_
      have hj : ∀ x y : Int, stp nm rk op 0 (st.1, y :: x :: st.2) = some (st.1, jnF op x y :: st.2) := fun x y => by
        rcases hop with e | e <;> subst e <;> rfl
      show stp nm rk op 0 (st.1, b.1 nm :: _ :: st.2) = _
      rw [hj]
      congr 3
      unfold jnF
      have := hv.1
      rcases hop with e | e
      · subst e
        rw [if_pos rfl, if_neg (show ¬ (21 : Int) = 22 by decide), if_neg (show ¬ (21 : Int) = 22 by decide)]
        by_cases g : v.1 nm = (v.2.1 : Int)
        · rw [if_pos g, if_neg (show ¬ (1 : Int) = 0 by decide)]
          rcases d1 with g2 | g2
          · rw [g2, if_neg (by omega)]
          · rw [g2, if_pos (by omega)]
        · rw [if_neg g, if_pos rfl, if_neg (by omega)]
      · subst e
        rw [if_neg (by decide), if_pos rfl, if_pos rfl]
        by_cases g : 0 < v.1 nm
        · rw [if_pos g, if_neg (by decide), if_pos (by omega)]
        · rw [if_neg g, if_pos rfl]
          rcases d1 with g2 | g2
          · rw [g2, if_neg (by omega)]
          · rw [g2, if_pos (by omega)]
    · have h : (.inr (v, p) : au_R (au_F × Nat × au_Co)) = .inr (v', q) := (if_neg hi).symm.trans h
      cases h; exact hv
theorem all_ok {N : Int → au_R au_PV} {w op : Int} (hop : op = 21 ∨ op = 22) (hN : Gd OkA N) : Gd OkA (gAll so en N w op) := fun p v q h => by
  obtain ⟨a, q1, h1, h2⟩ := bnd_inr h
  obtain ⟨s, r, h3, h4⟩ := bnd_inr h2
  cases h4
  have hs : OkL op s := lpA_ok hop hN 302 _ q1 s q ⟨Nat.le_refl _, fun nm rk hr => by
    obtain ⟨d1, d2⟩ := hN _ _ _ h1 nm rk hr
    refine ⟨by show 0 ≤ a.1 nm; omega, by show a.1 nm ≤ ((1 : Nat) : Int); omega, fun st => (d2 st).trans ?_⟩
    show some (st.1, a.1 nm :: st.2) = some (st.1, (if op = 22 then (if 0 < a.1 nm then 1 else 0) else (if a.1 nm = ((1 : Nat) : Int) then 1 else 0)) :: st.2)
    have e : (if op = 22 then (if 0 < a.1 nm then 1 else 0) else (if a.1 nm = ((1 : Nat) : Int) then 1 else 0) : Int) = a.1 nm := by
      rcases d1 with g | g <;> rw [g] <;> split <;> rfl
    rw [e]⟩ h3
  unfold allV
  by_cases g : s.2.1 = 1
  · rw [if_pos g]
    intro nm rk hr
    obtain ⟨c1, c2, c3⟩ := hs.2 nm rk hr
    have hb : s.1 nm = 0 ∨ s.1 nm = 1 := by rw [g] at c2; omega
    refine ⟨hb, fun st => (c3 st).trans ?_⟩
    have e : (if op = 22 then (if 0 < s.1 nm then 1 else 0) else (if s.1 nm = (s.2.1 : Int) then 1 else 0) : Int) = s.1 nm := by
      rw [g]
      rcases hb with g | g <;> rw [g] <;> split <;> rfl
    rw [e]
  · rw [if_neg g]
    intro nm rk hr
    obtain ⟨c1, c2, c3⟩ := hs.2 nm rk hr
    refine ⟨?_, c3⟩
    show (if op = 22 then (if 0 < s.1 nm then 1 else 0) else (if s.1 nm = (s.2.1 : Int) then 1 else 0) : Int) = 0 ∨ (if op = 22 then (if 0 < s.1 nm then 1 else 0) else (if s.1 nm = (s.2.1 : Int) then 1 else 0) : Int) = 1
    repeat' split
    all_goals first | exact Or.inl rfl | exact Or.inr rfl
theorem either_ok {N : Int → au_R au_PV} (hN : Gd OkA N) : Gd OkA (gEither so en N) := all_ok (Or.inr rfl) (all_ok (Or.inl rfl) hN)
theorem atom_ok (hnu : ∀ p, so p = 300 → 0 ≤ nu p) {dp : Int → au_R au_PV} (hd : Gd OkS dp) : Gd OkS (gAtom so en nu kd dp) := fun p v q h => by
  unfold gAtom at h
  by_cases e3 : so p = 300
  · rw [if_pos e3] at h
    by_cases e4 : nu p ≤ 9999
    · rw [if_pos e4] at h
      cases h
      intro nm rk hr st
      refine run1 ?_
      show (if (0 : Int) = 0 then (if 0 ≤ nu p ∧ nu p ≤ 9999 then some (nu p :: st.1, st.2) else none) else _) = _
      rw [if_pos rfl, if_pos ⟨hnu p e3, e4⟩]
    · rw [if_neg e4] at h; cases h
  · rw [if_neg e3] at h
    by_cases e4 : 0 ≤ nmI (so p)
    · rw [if_pos e4] at h
      by_cases e5 : mayN kd (nmI (so p)) = true
      · rw [if_pos e5] at h
        cases h
        intro nm rk hr st
        refine run1 ?_
        show (if (1 : Int) = 0 then _ else if (1 : Int) = 1 then (if 0 ≤ nmI (so p) ∧ nmI (so p) < 9 then some (nm (nmI (so p)) :: st.1, st.2) else none) else _) = _
        rw [if_neg (by decide), if_pos rfl, if_pos ⟨e4, by unfold nmI; omega⟩]
      · rw [if_neg e5] at h; cases h
    · rw [if_neg e4] at h
      by_cases e5 : isDp (so p) = true
      · rw [if_pos e5] at h; exact hd p v q h
      · rw [if_neg e5] at h; cases h
theorem deep_ok {one ask : Int → au_R au_PV} (hO : Gd OkS one) (hA : Gd OkA ask) : Gd OkS (gDeep so en one ask) := fun p v q h => by
  unfold gDeep at h
  by_cases e1 : so p = 40
  · rw [if_pos e1] at h
    obtain ⟨a, q1, h1, h2⟩ := bnd_inr h
    by_cases g : so q1 = 41
    · rw [if_pos g] at h2; cases h2; exact sum_ok hO _ _ _ h1
    · rw [if_neg g] at h2; cases h2
  rw [if_neg e1] at h
  by_cases e2 : so p = 45
  · rw [if_pos e2] at h
    obtain ⟨a, q1, h1, h2⟩ := bnd_inr h
    cases h2
    intro nm rk hr st
    show runL nm rk (a.2 ++ [(5, 0)]) st = _
    rw [run2 (hO _ _ _ h1 nm rk hr st)]
    exact run1 rfl
  rw [if_neg e2] at h
  by_cases e3 : so p = 215
  · rw [if_pos e3] at h
    obtain ⟨a, q1, h1, h2⟩ := bnd_inr h
    cases h2
    intro nm rk hr st
    show runL nm rk (a.2 ++ [(2, 0)]) st = _
    rw [run2 (hO _ _ _ h1 nm rk hr st)]
    refine run1 ?_
    show some (rk (a.1 nm) :: st.1, st.2) = some (rnkF nm (a.1 nm) :: st.1, st.2)
    rw [hr]
  rw [if_neg e3] at h
  by_cases e4 : so p = 213
  · rw [if_pos e4] at h
    obtain ⟨a, q1, h1, h2⟩ := bnd_inr h
    by_cases g : so q1 = 214
    · rw [if_pos g] at h2
      obtain ⟨b, q2, h3, h4⟩ := bnd_inr h2
      cases h4
      intro nm rk hr st
      show runL nm rk (a.2 ++ b.2 ++ [(4, 0)]) st = _
      rw [run2 ((run2 (hO _ _ _ h1 nm rk hr st)).trans (hO _ _ _ h3 nm rk hr _))]
      exact run1 rfl
    · rw [if_neg g] at h2; cases h2
  rw [if_neg e4] at h
  obtain ⟨a, q1, h1, h2⟩ := bnd_inr h
  by_cases g : so q1 = 217
  · rw [if_pos g] at h2
    obtain ⟨b, q2, h3, h4⟩ := bnd_inr h2
    by_cases g2 : so q2 = 218
    · rw [if_pos g2] at h4
      obtain ⟨w, q3, h5, h6⟩ := bnd_inr h4
      by_cases g3 : so q3 = 219
      · rw [if_pos g3] at h6
        cases h6
        intro nm rk hr st
        show runL nm rk (a.2 ++ b.2 ++ w.2 ++ [(3, 0)]) st = _
        rw [run2 ((run2 ((run2 ((either_ok hA _ _ _ h1 nm rk hr).2 st)).trans (sum_ok hO _ _ _ h3 nm rk hr _))).trans (sum_ok hO _ _ _ h5 nm rk hr _))]
        exact run1 rfl
      · rw [if_neg g3] at h6; cases h6
    · rw [if_neg g2] at h4; cases h4
  · rw [if_neg g] at h2; cases h2
theorem lv_ok (hnu : ∀ p, so p = 300 → 0 ≤ nu p) : ∀ d : Nat, Gd OkS (gLv so en nu kd d).1 ∧ Gd OkA (gLv so en nu kd d).2 := by
  intro d
  induction d with
  | zero =>
    have h1 : Gd OkS (gAtom so en nu kd (fun p => .inl (3, p))) := atom_ok hnu (fun p v q h => nomatch h)
    refine ⟨h1, fun p v q h => ?_⟩
    have h : (if so p = 222 then Sum.inl (3, p) else gCmp so en (gAtom so en nu kd (fun p => .inl (3, p))) p : au_R au_PV) = .inr (v, q) := h
    by_cases e : so p = 222
    · rw [if_pos e] at h; cases h
    · rw [if_neg e] at h; exact cmp_ok h1 p v q h
  | succ d ih =>
    have h1 : Gd OkS (gAtom so en nu kd (gDeep so en (gLv so en nu kd d).1 (gLv so en nu kd d).2)) := atom_ok hnu (deep_ok ih.1 ih.2)
    refine ⟨h1, fun p v q h => ?_⟩
    have h : (if so p = 222 then bnd ((gLv so en nu kd d).2 (en p)) (fun v q => Sum.inr ((fun nm => 1 - v.1 nm, v.2 ++ [(20, 0)]), q)) else gCmp so en (gAtom so en nu kd (gDeep so en (gLv so en nu kd d).1 (gLv so en nu kd d).2)) p : au_R au_PV) = .inr (v, q) := h
    by_cases e : so p = 222
    · rw [if_pos e] at h
      obtain ⟨a, q1, h2, h3⟩ := bnd_inr h
      cases h3
      intro nm rk hr
      obtain ⟨d1, d2⟩ := ih.2 _ _ _ h2 nm rk hr
      refine ⟨by show 1 - a.1 nm = 0 ∨ 1 - a.1 nm = 1; omega, fun st => ?_⟩
      show runL nm rk (a.2 ++ [(20, 0)]) st = _
      rw [run2 (d2 st)]
      exact run1 rfl
    · rw [if_neg e] at h; exact cmp_ok h1 p v q h
theorem top_ok (hnu : ∀ p, so p = 300 → 0 ≤ nu p) {p : Int} {v : au_PV} {q : Int} (h : gSum so en (gLv so en nu kd 8).1 p = .inr (v, q)) : CcF v.2 v.1 := fun nm rk hr => sum_ok (lv_ok hnu 8).1 p v q h nm rk hr ([], [])
end OK
