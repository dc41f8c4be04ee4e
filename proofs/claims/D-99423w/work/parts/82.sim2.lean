/-! PURE: the machine does what the grammar says: askings, what opens, the whole -/
set_option maxRecDepth 100000
section SN
variable {so en nu : Int → Int} {kd n : Int}
theorem CA.cl {l : Int} {p : Int} {W : List Int} (h : CA l p W) : ∀ x R, W = x :: R → wRk x < 5 ∧ x ≠ 41 ∧ wRk x ≤ 3 := by
  obtain ⟨x, R, rfl, h1, h2, h3⟩ := h
  intro y Q e
  cases e
  have h4 : wRk x ≤ 3 := by
    rcases h3 with h | h
    · unfold wRk; rw [if_pos h]; omega
    · exact h.2
  refine ⟨by omega, fun z => ?_, h4⟩
  subst z
  exact absurd (show (41 : Int) = 42 from h2) (by decide)
theorem CA.ahd' {l : Int} {p : Int} {W : List Int} (h : CA l p W) : ahd W = true := by
  obtain ⟨x, R, rfl, h1, h2, h3⟩ := h
  unfold ahd
  rw [Bool.and_eq_true]
  exact ⟨decide_eq_true h2, decide_eq_true h3⟩
theorem CA.opn' {l : Int} {p : Int} {W : List Int} (h : CA l p W) : opn W = 42 := by
  obtain ⟨x, R, rfl, h1, h2, h3⟩ := h
  exact h2
theorem CA.lt {l : Int} {p : Int} {W : List Int} (h : CA l p W) : ∀ x R, W = x :: R → wRk x < l := by
  obtain ⟨x, R, rfl, h1, h2, h3⟩ := h
  intro y Q e
  cases e
  exact h1
theorem CA.cmd' {l : Int} {p : Int} {W : List Int} (h : CA l p W) : cmd W = false := by
  have h1 := h.cl
  obtain ⟨x, R, rfl, -⟩ := h
  have := (h1 x R rfl).2.2
  show (if 4 < wRk x then cmd R else decide (wRk x = 4)) = false
  rw [if_neg (by omega)]
  exact decide_eq_false (by omega)
theorem betM_es {p : Int} {W : List Int} (h : ES (so p)) : betM so p W = if opn W ≠ 42 then -1 else if cmd W = false then cmO (so p) else if so p = 221 then 21 else if so p = 220 then 22 else -1 := by
  unfold betM
  rw [if_neg (by rw [h.1.2, h.2]; decide)]
/-- behind a whole one nothing goes on: it is a fault within what is open -/
theorem Rt_none {p o : Int} {W : List Int} {c : au_Co} (hb : betM so p W = -1) (hp : parM so p W = -1) (ho : 0 ≤ opn W) : Rt so en nu kd (p, W, c, o, true) (.inl (1, p)) := by
  refine Rt_end (p := p) ?_ ho
  show behM so en p W c o = _
  unfold behM
  rw [hb, hp, if_neg (by decide), if_pos (by decide)]
/-- as SimB, for askings: what waits behind one has been compared -/
def SimA (so en nu : Int → Int) (kd n : Int) (N : Int → au_R au_PV) (C : Int → List Int → Prop) (lo : Int) (E : Int → Prop) (o : Int) : Prop := ∀ (p : Int) (W : List Int) (c : au_Co), 0 ≤ p → p ≤ n → C p W → match N p with
  | .inl e => Rt so en nu kd (p, W, c, o, false) (.inl e)
  | .inr (v, q) => p ≤ q ∧ q ≤ n ∧ E (so q) ∧ (∃ (P : List Int) (c' : au_Co), Rs lo P ∧ Dc P ∧ c' ++ emt P = c ++ v.2) ∧ ∀ r, (∀ (P : List Int) (c' : au_Co), Rs lo P → Dc P → c' ++ emt P = c ++ v.2 → Rt so en nu kd (q, P ++ W, c', o + cntN P, true) r) → Rt so en nu kd (p, W, c, o, false) r
theorem cmp_sim (hL : LxO so en nu n) {N : Int → au_R au_PV} {o : Int} (h : SimO so en nu kd n N o) : SimA so en nu kd n (gCmp so en N) (fun p W => CA 4 p W ∧ so p ≠ 222) 3 ES o := by
  have hS := sum_sim hL h
  intro p W c h0 h1 hC
  obtain ⟨hC, h222⟩ := hC
  have h2 := hS p W c h0 h1 ⟨fun x R e => ⟨(hC.cl x R e).1, (hC.cl x R e).2.1⟩, fun z => absurd z h222⟩
  unfold gCmp
  cases hSp : gSum so en N p with
  | inl e => rw [hSp] at h2; exact h2
  | inr aq =>
    obtain ⟨a, q⟩ := aq
    rw [hSp] at h2
    obtain ⟨a1, a2, a3, a4⟩ := h2
    have hop : ∀ P : List Int, Rs 5 P → opn (P ++ W) = 42 := fun P hP => (opn_app (hP.up (by decide))).trans hC.opn'
    have hcm : ∀ P : List Int, Rs 5 P → cmd (P ++ W) = false := fun P hP => (cmd_app hP).trans hC.cmd'
    have hbet : ∀ P : List Int, Rs 5 P → betM so q (P ++ W) = cmO (so q) := fun P hP => by
      rw [betM_es a3, if_neg (by rw [hop P hP]; decide), if_pos (hcm P hP)]
    show (match (if isCm (so q) = true then _ else Sum.inl (1, q) : au_R au_PV) with | .inl e => _ | .inr (v', q') => _)
    by_cases hi : isCm (so q) = true
    · rw [if_pos hi]
      have hcr := cmO_rng.1 hi
      have h301 : so q ≠ 301 := fun z => by rw [z] at hi; exact absurd hi (by decide)
      obtain ⟨g1, g2, g3, -⟩ := hL.2 q (by omega) a2
      have g3 := g3 h301
      have hst : ∀ P c', Rs 5 P → c' ++ emt P = c ++ a.2 → stpM so en nu kd (q, P ++ W, c', o + cntN P, true) = .inr (en q, cmO (so q) :: W, c ++ a.2, o, false) := fun P c' hP hc => by
        show behM so en q (P ++ W) c' (o + cntN P) = _
        unfold behM
        rw [hbet P hP, if_pos (by omega), if_pos (wRk_cm hcr), stl_app 5 P W c' o hP, hc, stl_stop fun x R e => (hC.cl x R e).1]
      have h5 := hS (en q) (cmO (so q) :: W) (c ++ a.2) (by omega) g2 ⟨fun x R e => by cases e; exact ⟨by rw [wRk_cm hcr]; decide, by omega⟩, fun _ => ahd_op ⟨by rw [wRk_cm hcr]; decide, by omega⟩⟩
      cases hSq : gSum so en N (en q) with
      | inl e =>
        rw [hSq] at h5
        exact a4 _ fun P c' hP _ hc => Rt_step (hst P c' hP hc) h5
      | inr br =>
        obtain ⟨b, r⟩ := br
        rw [hSq] at h5
        obtain ⟨b1, b2, b3, b4⟩ := h5
        have hD : ∀ P2 : List Int, Rs 5 P2 → Dc (P2 ++ [cmO (so q)]) := fun P2 hP2 X => by
          rw [List.append_assoc, cmd_app hP2]
          show (if 4 < wRk (cmO (so q)) then _ else decide (wRk (cmO (so q)) = 4)) = true
          rw [wRk_cm hcr]; rfl
        have hR : Rs 3 [cmO (so q)] := Rs.one (by rw [wRk_cm hcr]; decide)
        refine ⟨by omega, b2, b3, ⟨[cmO (so q)], c ++ a.2 ++ b.2, hR, hD [] (fun x hx => nomatch hx), by simp [emt]⟩, fun res hr => a4 _ fun P c' hP _ hc => Rt_step (hst P c' hP hc) (b4 _ fun P2 c2 hP2 _ hc2 => ?_)⟩
        have := hr (P2 ++ [cmO (so q)]) c2 ((hP2.up (by decide)).app hR) (hD P2 hP2) (by rw [emt_app, ← List.append_assoc, hc2]; simp [emt])
        rw [cntN_app, List.append_assoc] at this
        have e9 : cntN P2 + cntN [cmO (so q)] = cntN P2 := by
          show cntN P2 + ((if cmO (so q) = 20 then 1 else 0) + 0) = cntN P2
          rw [if_neg (by omega)]; omega
        rw [e9] at this
        exact this
    · rw [if_neg hi]
      have hi' : isCm (so q) = false := by simpa using hi
      refine a4 _ fun P c' hP _ hc => Rt_none ((hbet P hP).trans (cmO_rng.2 hi')) ?_ (by rw [hop P hP]; decide)
      unfold parM
      rw [hop P hP, hcm P hP, if_neg (by decide), if_pos rfl, if_neg (fun z => Bool.noConfusion z.2)]
theorem lpA_sim (hL : LxO so en nu n) {N : Int → au_R au_PV} {w op lN lo o : Int} (hw : (w = 221 ∧ op = 21 ∧ lN = 4 ∧ lo = 3) ∨ (w = 220 ∧ op = 22 ∧ lN = 2 ∧ lo = 2)) {EN : Int → Prop} (hEN : ∀ s, EN s → ES s) (hN : SimA so en nu kd n N (CA lN) lo EN o) :
    ∀ (k : Nat) (v : au_F × Nat × au_Co) (p : Int) (W P0 : List Int) (c c0 : au_Co), n - p < k → 0 ≤ p → p ≤ n → CA (wRk op) p W → Rs (wRk op) P0 → Dc P0 → c0 ++ emt P0 = c ++ v.2.2 → EN (so p) → match lpA so en N w op k v p with
      | .inl e => Rt so en nu kd (p, P0 ++ W, c0, o + cntN P0, true) (.inl e)
      | .inr (v', q) => p ≤ q ∧ q ≤ n ∧ (EN (so q) ∧ so q ≠ w) ∧ (∃ (P : List Int) (c' : au_Co), Rs (wRk op) P ∧ Dc P ∧ c' ++ emt P = c ++ v'.2.2) ∧ ∀ r, (∀ (P : List Int) (c' : au_Co), Rs (wRk op) P → Dc P → c' ++ emt P = c ++ v'.2.2 → Rt so en nu kd (q, P ++ W, c', o + cntN P, true) r) → Rt so en nu kd (p, P0 ++ W, c0, o + cntN P0, true) r := by
  have hop : (op = 21 ∧ wRk op = 2) ∨ (op = 22 ∧ wRk op = 1) := by
    rcases hw with ⟨-, h, -⟩ | ⟨-, h, -⟩
    · exact Or.inl ⟨h, by rw [h]; rfl⟩
    · exact Or.inr ⟨h, by rw [h]; rfl⟩
  intro k
  induction k with
  | zero => intro v p W P0 c c0 hk h0 h1; exfalso; have : n - p < 0 := hk; omega
  | succ k ih =>
    intro v p W P0 c c0 hk h0 h1 hC hP0 hD0 hc0 hE
    by_cases hi : so p = w
    · obtain ⟨g1, g2, g3, -⟩ := hL.2 p h0 h1
      have g3 := g3 (by omega)
      have hst : stl (wRk op) (P0 ++ W) c0 (o + cntN P0) = (W, c ++ v.2.2, o) := by
        rw [stl_app (wRk op) P0 W c0 o hP0, hc0, stl_stop hC.lt]
      have hs : stpM so en nu kd (p, P0 ++ W, c0, o + cntN P0, true) = .inr (en p, op :: W, c ++ v.2.2, o, false) := by
        show behM so en p (P0 ++ W) c0 (o + cntN P0) = _
        have hb : betM so p (P0 ++ W) = op := by
          rw [betM_es (hEN _ hE), if_neg (by rw [opn_app (hP0.up (by omega)), hC.opn']; decide), if_neg (by rw [hD0 W]; decide)]
          rcases hw with ⟨e1, e2, -⟩ | ⟨e1, e2, -⟩
          · rw [if_pos (by omega), e2]
          · rw [if_neg (by omega), if_pos (by omega), e2]
        unfold behM
        rw [hb, if_pos (by omega), if_neg (by omega), hst]
      have hl : lpA so en N w op (k + 1) v p = bnd (N (en p)) fun b q => lpA so en N w op k (fun nm => v.1 nm + b.1 nm, v.2.1 + 1, v.2.2 ++ b.2 ++ [(op, 0)]) q := if_pos hi
      rw [hl]
      have hN1 := hN (en p) (op :: W) (c ++ v.2.2) (by omega) g2 ⟨op, W, rfl, by omega, by
        show (if 40 ≤ op then op else opn W) = 42
        rw [if_neg (by omega)]; exact hC.opn', Or.inr (by omega)⟩
      cases hNp : N (en p) with
      | inl e =>
        rw [hNp] at hN1
        exact Rt_step hs hN1
      | inr wq =>
        obtain ⟨b, q⟩ := wq
        rw [hNp] at hN1
        obtain ⟨a1, a2, a3, ⟨Px, cx, hPx, hDx, hcx⟩, a4⟩ := hN1
        have hone : Rs (wRk op) [op] := Rs.one ⟨Int.le_refl _, by omega⟩
        have hih := fun (P : List Int) (c' : au_Co) (hP : Rs lo P) (hD : Dc P) (hc : c' ++ emt P = c ++ v.2.2 ++ b.2) => ih (fun nm => v.1 nm + b.1 nm, v.2.1 + 1, v.2.2 ++ b.2 ++ [(op, 0)]) q W (P ++ [op]) c c' (by omega) (by omega) a2 hC ((hP.up (by omega)).app hone) (fun X => by rw [List.append_assoc]; exact hD _) (by rw [emt_app, ← List.append_assoc, hc]; simp [emt]) a3
        have hcn : ∀ P : List Int, cntN (P ++ [op]) = cntN P := fun P => by
          rw [cntN_app]
          show cntN P + ((if op = 20 then 1 else 0) + 0) = cntN P
          rw [if_neg (by omega)]; omega
        have hap : ∀ P : List Int, P ++ [op] ++ W = P ++ op :: W := fun P => by rw [List.append_assoc]; rfl
        show (match lpA so en N w op k (fun nm => v.1 nm + b.1 nm, v.2.1 + 1, v.2.2 ++ b.2 ++ [(op, 0)]) q with | .inl e => _ | .inr (v', q) => _)
        cases hlp : lpA so en N w op k (fun nm => v.1 nm + b.1 nm, v.2.1 + 1, v.2.2 ++ b.2 ++ [(op, 0)]) q with
        | inl e =>
          refine Rt_step hs (a4 _ fun P c' hP hD hc => ?_)
          have := hih P c' hP hD hc
          rw [hlp, hcn, hap] at this
          exact this
        | inr vq' =>
          obtain ⟨v', q'⟩ := vq'
          have h9 := hih Px cx hPx hDx hcx
          rw [hlp] at h9
          obtain ⟨b1, b2, b3, b4, -⟩ := h9
          refine ⟨by omega, b2, b3, b4, fun r hr => Rt_step hs (a4 _ fun P c' hP hD hc => ?_)⟩
          have := hih P c' hP hD hc
          rw [hlp, hcn, hap] at this
          exact this.2.2.2.2 r hr
    · have hl : lpA so en N w op (k + 1) v p = .inr (v, p) := if_neg hi
      rw [hl]
      exact ⟨Int.le_refl _, h1, ⟨hE, hi⟩, ⟨P0, c0, hP0, hD0, hc0⟩, fun r hr => hr P0 c0 hP0 hD0 hc0⟩
theorem allV_code (op : Int) (s : au_F × Nat × au_Co) : (allV op s).2 = s.2.2 := by unfold allV; split <;> rfl
theorem all_sim (hL : LxO so en nu n) {N : Int → au_R au_PV} {w op lN lo o : Int} (hw : (w = 221 ∧ op = 21 ∧ lN = 4 ∧ lo = 3) ∨ (w = 220 ∧ op = 22 ∧ lN = 2 ∧ lo = 2)) {EN : Int → Prop} (hEN : ∀ s, EN s → ES s) (hN : SimA so en nu kd n N (CA lN) lo EN o) :
    SimA so en nu kd n (gAll so en N w op) (CA (wRk op)) (wRk op) (fun s => EN s ∧ s ≠ w) o := by
  have hop : wRk op ≤ lo ∧ wRk op ≤ lN := by
    rcases hw with ⟨-, h, h2, h3⟩ | ⟨-, h, h2, h3⟩
    · rw [h, h2, h3]; decide
    · rw [h, h2, h3]; decide
  intro p W c h0 h1 hC
  have h2 := hN p W c h0 h1 (by obtain ⟨x, R, e1, e2, e3⟩ := hC; exact ⟨x, R, e1, by omega, e3⟩)
  unfold gAll
  cases hNp : N p with
  | inl e => rw [hNp] at h2; exact h2
  | inr vq =>
    obtain ⟨v, q⟩ := vq
    rw [hNp] at h2
    obtain ⟨a1, a2, a3, ⟨Px, cx, hPx, hDx, hcx⟩, a4⟩ := h2
    have hlp := fun (P : List Int) (c' : au_Co) (hP : Rs lo P) (hD : Dc P) (hc : c' ++ emt P = c ++ v.2) => lpA_sim hL hw hEN hN 302 (v.1, 1, v.2) q W P c c' (by have := hL.1; omega) (by omega) a2 hC (hP.up hop.1) hD hc a3
    show (match bnd (lpA so en N w op 302 (v.1, 1, v.2) q) (fun s r => Sum.inr (allV op s, r)) with | .inl e => _ | .inr (v', q) => _)
    cases hl : lpA so en N w op 302 (v.1, 1, v.2) q with
    | inl e =>
      refine a4 _ fun P c' hP hD hc => ?_
      have := hlp P c' hP hD hc
      rw [hl] at this
      exact this
    | inr sq' =>
      obtain ⟨s, q'⟩ := sq'
      have h9 := hlp Px cx hPx hDx hcx
      rw [hl] at h9
      obtain ⟨b1, b2, b3, b4, -⟩ := h9
      show p ≤ q' ∧ q' ≤ n ∧ (EN (so q') ∧ so q' ≠ w) ∧ _ ∧ _
      rw [allV_code]
      refine ⟨by omega, b2, b3, b4, fun r hr => a4 _ fun P c' hP hD hc => ?_⟩
      have := hlp P c' hP hD hc
      rw [hl] at this
      exact this.2.2.2.2 r hr
def EE (s : Int) : Prop := (ES s ∧ s ≠ 221) ∧ s ≠ 220
theorem either_sim (hL : LxO so en nu n) {N : Int → au_R au_PV} {o : Int} (hN : SimA so en nu kd n N (CA 4) 3 ES o) : SimA so en nu kd n (gEither so en N) (CA 1) 1 EE o := by
  have h1 : SimA so en nu kd n (gBoth so en N) (CA 2) 2 (fun s => ES s ∧ s ≠ 221) o := all_sim hL (Or.inl ⟨rfl, rfl, rfl, rfl⟩) (fun _ h => h) hN
  exact all_sim hL (Or.inr ⟨rfl, rfl, rfl, rfl⟩) (fun _ h => h.1) h1
end SN
