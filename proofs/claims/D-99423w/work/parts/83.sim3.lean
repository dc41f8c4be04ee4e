/-! PURE: the machine does what the grammar says: what opens, by depth; the whole sum -/
set_option maxRecDepth 100000
section SL
variable {so en nu : Int → Int} {kd n : Int}
theorem stl_open {P W : List Int} {c : au_Co} {o x : Int} (hx : 40 ≤ x) (hP : Rs 1 P) : stl 1 (P ++ x :: W) c (o + cntN P) = (x :: W, c ++ emt P, o) := by
  rw [stl_app 1 P (x :: W) c o hP]
  refine stl_stop fun y R e => ?_
  cases e
  unfold wRk
  rw [if_pos hx]; decide
theorem opn_open {P W : List Int} {x : Int} (hx : 40 ≤ x) (hP : Rs 1 P) : opn (P ++ x :: W) = x := (opn_app hP).trans (if_pos hx)
theorem ahd_open {W : List Int} {x : Int} (hx : 40 ≤ x) (h : x ≠ 42) : ahd (x :: W) = false := by
  unfold ahd
  rw [Bool.and_eq_false_iff]
  left
  refine decide_eq_false ?_
  rw [show opn (x :: W) = x from if_pos hx]
  exact h
theorem bet_open {P W : List Int} {x q : Int} (hx : 40 ≤ x) (h : x ≠ 42) (hP : Rs 1 P) (hE : ES (so q)) : betM so q (P ++ x :: W) = -1 := by
  rw [betM_es hE, if_pos (by rw [opn_open hx hP]; exact h)]
theorem Re_pre {q o x : Int} {W : List Int} {c : au_Co} {r : au_R au_Co} (hx : wRk x = 7) (h : Re so en nu kd q W (c ++ [(x, 0)]) o r) : Re so en nu kd q (x :: W) c (o + 1) r := by
  have e : stl 7 (x :: W) c (o + 1) = stl 7 W (c ++ [(x, 0)]) o := by
    show (if 7 ≤ wRk x then stl 7 W (c ++ [(x, 0)]) (if wRk x = 7 ∨ x = 20 then o + 1 - 1 else o + 1) else _) = _
    rw [if_pos (by omega), if_pos (Or.inl hx)]
    congr 1; omega
  unfold Re endM at h ⊢
  rw [e]
  exact h
/-- what is shut -/
theorem beh_shut {P W : List Int} {c' cc : au_Co} {x q o : Int} (hx : 40 ≤ x) (h42 : x ≠ 42) (hP : Rs 1 P) (hE : ES (so q)) (hp : (x = 40 ∧ so q = 41) ∨ (x = 44 ∧ so q = 219)) (hc : c' ++ emt P = cc) : stpM so en nu kd (q, P ++ x :: W, c', o + 1 + cntN P, true) = endM so en (en q) W (cc ++ (if x = 44 then [(3, 0)] else [])) o := by
  show behM so en q (P ++ x :: W) c' (o + 1 + cntN P) = _
  have h1 : parM so q (P ++ x :: W) = 0 := by
    unfold parM
    rw [opn_open hx hP]
    rcases hp with ⟨e, e2⟩ | ⟨e, e2⟩
    · rw [if_pos e, if_pos e2]
    · rw [if_neg (by omega), if_neg (by omega), if_neg (by omega), if_pos e, if_pos e2]
  unfold behM
  rw [bet_open hx h42 hP hE, h1, if_neg (by decide), if_neg (by decide), if_pos rfl, stl_open hx hP, opn_open hx hP, hc]
  show endM so en (en q) W (cc ++ (if x = 44 then [(3, 0)] else [])) (o + 1 - 1) = _
  congr 1; omega
/-- its next part -/
theorem beh_next {P W : List Int} {c' cc : au_Co} {q o : Int} (hP : Rs 1 P) (hE : ES (so q)) (hs : so q = 218) (hc : c' ++ emt P = cc) : stpM so en nu kd (q, P ++ 43 :: W, c', o + cntN P, true) = .inr (en q, 44 :: W, cc, o, false) := by
  show behM so en q (P ++ 43 :: W) c' (o + cntN P) = _
  have h1 : parM so q (P ++ 43 :: W) = 44 := by
    unfold parM
    rw [opn_open (by decide) hP, if_neg (by decide), if_neg (by decide), if_pos rfl, if_pos hs]
  unfold behM
  rw [bet_open (by decide) (by decide) hP hE, h1, if_neg (by decide), if_neg (by decide), if_neg (by decide), stl_open (by decide) hP, hc]
  rfl
theorem beh_none {P W : List Int} {c' : au_Co} {x q o : Int} (hx : x = 40 ∨ x = 43 ∨ x = 44) (hP : Rs 1 P) (hE : ES (so q)) (hp : ¬ ((x = 40 ∧ so q = 41) ∨ (x = 43 ∧ so q = 218) ∨ (x = 44 ∧ so q = 219))) : Rt so en nu kd (q, P ++ x :: W, c', o, true) (.inl (1, q)) := by
  refine Rt_none (bet_open (by omega) (by omega) hP hE) ?_ (by rw [opn_open (by omega) hP]; omega)
  unfold parM
  rw [opn_open (by omega) hP]
  rcases hx with e | e | e <;> subst e
  · rw [if_pos rfl, if_neg (fun z => hp (Or.inl ⟨rfl, z⟩))]
  · rw [if_neg (by decide), if_neg (by decide), if_pos rfl, if_neg (fun z => hp (Or.inr (Or.inl ⟨rfl, z⟩)))]
  · rw [if_neg (by decide), if_neg (by decide), if_neg (by decide), if_pos rfl, if_neg (fun z => hp (Or.inr (Or.inr ⟨rfl, z⟩)))]
theorem isDp_cases {s : Int} (h : isDp s = true) : s = 40 ∨ s = 45 ∨ s = 215 ∨ s = 213 ∨ s = 216 := of_decide_eq_true h
theorem beg_dp {p o : Int} {W : List Int} {c : au_Co} (h : isDp (so p) = true) : stpM so en nu kd (p, W, c, o, false) = opnM en (dpO (so p)) p W c o := by
  show begM so en nu kd p W c o = _
  have hn : nmI (so p) = -1 := by
    rcases isDp_cases h with e | e | e | e | e <;> rw [e] <;> rfl
  have h3 : so p ≠ 300 := by
    rcases isDp_cases h with e | e | e | e | e <;> rw [e] <;> decide
  unfold begM
  rw [hn, if_neg (fun z => h3 z.1), if_neg (fun z => absurd z.1 (by decide)), if_neg h3, if_neg (by decide), if_pos h]
theorem atom_sim (hL : LxO so en nu n) {dp : Int → au_R au_PV} {o : Int} (hd : ∀ (p : Int) (W : List Int) (c : au_Co), 0 ≤ p → p ≤ n → isDp (so p) = true → match dp p with
      | .inl e => Rt so en nu kd (p, W, c, o, false) (.inl e)
      | .inr (v, q) => p ≤ q ∧ q ≤ n ∧ ∀ r, Re so en nu kd q W (c ++ v.2) o r → Rt so en nu kd (p, W, c, o, false) r) : SimO so en nu kd n (gAtom so en nu kd dp) o := by
  intro p W c h0 h1 h2
  obtain ⟨g1, g2, g3, -⟩ := hL.2 p h0 h1
  unfold gAtom
  by_cases e3 : so p = 300
  · rw [if_pos e3]
    by_cases e4 : nu p ≤ 9999
    · rw [if_pos e4]
      refine ⟨g1, g2, fun r hr => Rt_re ?_ hr⟩
      show begM so en nu kd p W c o = _
      unfold begM
      rw [if_neg (fun z => absurd z.2 (by omega)), if_neg (fun z => absurd z.1 (by rw [e3]; decide)), if_pos e3]
    · rw [if_neg e4]
      refine Rt_flt ?_ (by decide)
      show begM so en nu kd p W c o = _
      unfold begM
      rw [if_pos ⟨e3, by omega⟩]
  · rw [if_neg e3]
    by_cases e4 : 0 ≤ nmI (so p)
    · rw [if_pos e4]
      by_cases e5 : mayN kd (nmI (so p)) = true
      · rw [if_pos e5]
        refine ⟨g1, g2, fun r hr => Rt_re ?_ hr⟩
        show begM so en nu kd p W c o = _
        unfold begM
        rw [if_neg (fun z => e3 z.1), if_neg (fun z => by rw [e5] at z; exact Bool.noConfusion z.2), if_neg e3, if_pos e4]
      · rw [if_neg e5]
        refine Rt_flt ?_ (by decide)
        show begM so en nu kd p W c o = _
        unfold begM
        rw [if_neg (fun z => e3 z.1), if_pos ⟨e4, by simpa using e5⟩]
    · rw [if_neg e4]
      by_cases e5 : isDp (so p) = true
      · rw [if_pos e5]
        exact hd p W c h0 h1 e5
      · rw [if_neg e5]
        refine Rt_flt ?_ (by decide)
        show begM so en nu kd p W c o = _
        unfold begM
        rw [if_neg (fun z => e3 z.1), if_neg (fun z => e4 z.1), if_neg e3, if_neg e4, if_neg e5, if_neg (fun z => by rw [h2 z.1] at z; exact Bool.noConfusion z.2)]
theorem deep_sim (hL : LxO so en nu n) {one ask : Int → au_R au_PV} {o : Int} (ho : o ≠ 8) (hO : SimO so en nu kd n one (o + 1)) (hA : SimA so en nu kd n ask (CA 4) 3 ES (o + 1)) (p : Int) (W : List Int) (c : au_Co) (h0 : 0 ≤ p) (h1 : p ≤ n) (hd : isDp (so p) = true) : match gDeep so en one ask p with
      | .inl e => Rt so en nu kd (p, W, c, o, false) (.inl e)
      | .inr (v, q) => p ≤ q ∧ q ≤ n ∧ ∀ r, Re so en nu kd q W (c ++ v.2) o r → Rt so en nu kd (p, W, c, o, false) r := by
  have hsum := sum_sim hL hO
  have h301 : so p ≠ 301 := by
    rcases isDp_cases hd with e | e | e | e | e <;> rw [e] <;> decide
  obtain ⟨g1, g2, g3, -⟩ := hL.2 p h0 h1
  have g3 := g3 h301
  have st0 : ∀ x, dpO (so p) = x → stpM so en nu kd (p, W, c, o, false) = .inr (en p, x :: W, c, o + 1, false) := fun x hx => by
    rw [beg_dp hd, hx]
    exact if_neg ho
  unfold gDeep
  by_cases e1 : so p = 40
  · rw [if_pos e1]
    have st := st0 40 (by rw [e1]; rfl)
    have h2 := hsum (en p) (40 :: W) c (by omega) g2 ⟨fun x R e => by cases e; exact ⟨by decide, by decide⟩, fun _ => ahd_open (by decide) (by decide)⟩
    cases hS : gSum so en one (en p) with
    | inl e => rw [hS] at h2; exact Rt_step st h2
    | inr vq =>
      obtain ⟨v, q⟩ := vq
      rw [hS] at h2
      obtain ⟨a1, a2, a3, a4⟩ := h2
      show (match (if so q = 41 then Sum.inr (v, en q) else Sum.inl (1, q) : au_R au_PV) with | .inl e => _ | .inr (v', q') => _)
      by_cases e2 : so q = 41
      · rw [if_pos e2]
        obtain ⟨b1, b2, -, -⟩ := hL.2 q (by omega) a2
        refine ⟨by omega, b2, fun r hr => Rt_step st (a4 _ fun P c' hP _ hc => Rt_re (beh_shut (by decide) (by decide) (hP.up (by decide)) a3 (Or.inl ⟨rfl, e2⟩) hc) ?_)⟩
        rw [if_neg (by decide), List.append_nil]
        exact hr
      · rw [if_neg e2]
        exact Rt_step st (a4 _ fun P c' hP _ hc => beh_none (Or.inl rfl) (hP.up (by decide)) a3 (by omega))
  rw [if_neg e1]
  by_cases e1b : so p = 45
  · rw [if_pos e1b]
    have st := st0 5 (by rw [e1b]; rfl)
    have h2 := hO (en p) (5 :: W) c (by omega) g2 (fun _ => ahd_op (by decide))
    cases hS : one (en p) with
    | inl e => rw [hS] at h2; exact Rt_step st h2
    | inr vq =>
      obtain ⟨v, q⟩ := vq
      rw [hS] at h2
      obtain ⟨a1, a2, a3⟩ := h2
      exact ⟨by omega, a2, fun r hr => Rt_step st (a3 _ (Re_pre (by decide) (by rw [List.append_assoc]; exact hr)))⟩
  rw [if_neg e1b]
  by_cases e1c : so p = 215
  · rw [if_pos e1c]
    have st := st0 2 (by rw [e1c]; rfl)
    have h2 := hO (en p) (2 :: W) c (by omega) g2 (fun _ => ahd_op (by decide))
    cases hS : one (en p) with
    | inl e => rw [hS] at h2; exact Rt_step st h2
    | inr vq =>
      obtain ⟨v, q⟩ := vq
      rw [hS] at h2
      obtain ⟨a1, a2, a3⟩ := h2
      exact ⟨by omega, a2, fun r hr => Rt_step st (a3 _ (Re_pre (by decide) (by rw [List.append_assoc]; exact hr)))⟩
  rw [if_neg e1c]
  by_cases e1d : so p = 213
  · rw [if_pos e1d]
    have st := st0 41 (by rw [e1d]; rfl)
    have h2 := hO (en p) (41 :: W) c (by omega) g2 (fun _ => ahd_open (by decide) (by decide))
    cases hS : one (en p) with
    | inl e => rw [hS] at h2; exact Rt_step st h2
    | inr vq =>
      obtain ⟨v, q⟩ := vq
      rw [hS] at h2
      obtain ⟨a1, a2, a3⟩ := h2
      have hRe : ∀ r, (match (if so q = 214 then Sum.inr (en q, 4 :: W, c ++ v.2, o + 1, false) else Sum.inl (1, q) : (Int × Int) ⊕ au_MS) with | .inl e => r = Sum.inl e | .inr s => Rt so en nu kd s r) → Rt so en nu kd (p, W, c, o, false) r := fun r hr => Rt_step st (a3 r hr)
      show (match (if so q = 214 then bnd (one (en q)) _ else Sum.inl (1, q) : au_R au_PV) with | .inl e => _ | .inr (v', q') => _)
      by_cases e2 : so q = 214
      · rw [if_pos e2] at hRe ⊢
        obtain ⟨b1, b2, b3, -⟩ := hL.2 q (by omega) a2
        have h5 := hO (en q) (4 :: W) (c ++ v.2) (by omega) b2 (fun _ => ahd_op (by decide))
        cases hT : one (en q) with
        | inl e => rw [hT] at h5; exact hRe _ h5
        | inr wr =>
          obtain ⟨w, r9⟩ := wr
          rw [hT] at h5
          obtain ⟨d1, d2, d3⟩ := h5
          exact ⟨by omega, d2, fun r hr => hRe r (d3 _ (Re_pre (by decide) (by rw [List.append_assoc, List.append_assoc, ← List.append_assoc v.2]; exact hr)))⟩
      · rw [if_neg e2] at hRe ⊢
        exact hRe _ rfl
  rw [if_neg e1d]
  have e1e : so p = 216 := by
    rcases isDp_cases hd with e | e | e | e | e
    · exact absurd e e1
    · exact absurd e e1b
    · exact absurd e e1c
    · exact absurd e e1d
    · exact e
  have st := st0 42 (by rw [e1e]; rfl)
  have h2 := either_sim hL hA (en p) (42 :: W) c (by omega) g2 ⟨42, W, rfl, by decide, rfl, Or.inl (by decide)⟩
  cases hS : gEither so en ask (en p) with
  | inl e => rw [hS] at h2; exact Rt_step st h2
  | inr aq =>
    obtain ⟨a, q⟩ := aq
    rw [hS] at h2
    obtain ⟨a1, a2, a3, -, a4⟩ := h2
    have hbet : ∀ P : List Int, Rs 1 P → Dc P → betM so q (P ++ 42 :: W) = -1 := fun P hP hD => by
      rw [betM_es a3.1.1, if_neg (by rw [opn_open (by decide) hP]; decide), if_neg (by rw [hD]; decide), if_neg a3.1.2, if_neg a3.2]
    show (match (if so q = 217 then bnd (gSum so en one (en q)) _ else Sum.inl (1, q) : au_R au_PV) with | .inl e => _ | .inr (v', q') => _)
    by_cases e2 : so q = 217
    · rw [if_pos e2]
      obtain ⟨b1, b2, b3, -⟩ := hL.2 q (by omega) a2
      have st1 : ∀ P c', Rs 1 P → Dc P → c' ++ emt P = c ++ a.2 → stpM so en nu kd (q, P ++ 42 :: W, c', o + 1 + cntN P, true) = .inr (en q, 43 :: W, c ++ a.2, o + 1, false) := fun P c' hP hD hc => by
        show behM so en q (P ++ 42 :: W) c' (o + 1 + cntN P) = _
        have h9 : parM so q (P ++ 42 :: W) = 43 := by
          unfold parM
          rw [opn_open (by decide) hP, if_neg (by decide), if_pos rfl, if_pos ⟨e2, hD _⟩]
        unfold behM
        rw [hbet P hP hD, h9, if_neg (by decide), if_neg (by decide), if_neg (by decide), stl_open (by decide) hP, hc]
        rfl
      have h5 := hsum (en q) (43 :: W) (c ++ a.2) (by omega) b2 ⟨fun x R e => by cases e; exact ⟨by decide, by decide⟩, fun _ => ahd_open (by decide) (by decide)⟩
      cases hT : gSum so en one (en q) with
      | inl e => rw [hT] at h5; exact Rt_step st (a4 _ fun P c' hP hD hc => Rt_step (st1 P c' hP hD hc) h5)
      | inr vr =>
        obtain ⟨v, r9⟩ := vr
        rw [hT] at h5
        obtain ⟨d1, d2, d3, d4⟩ := h5
        show (match (if so r9 = 218 then bnd (gSum so en one (en r9)) _ else Sum.inl (1, r9) : au_R au_PV) with | .inl e => _ | .inr (v', q') => _)
        by_cases e3 : so r9 = 218
        · rw [if_pos e3]
          obtain ⟨b4, b5, -, -⟩ := hL.2 r9 (by omega) d2
          have h6 := hsum (en r9) (44 :: W) (c ++ a.2 ++ v.2) (by omega) b5 ⟨fun x R e => by cases e; exact ⟨by decide, by decide⟩, fun _ => ahd_open (by decide) (by decide)⟩
          cases hU : gSum so en one (en r9) with
          | inl e =>
            rw [hU] at h6
            exact Rt_step st (a4 _ fun P c' hP hD hc => Rt_step (st1 P c' hP hD hc) (d4 _ fun P c' hP _ hc => Rt_step (beh_next (hP.up (by decide)) d3 e3 hc) h6))
          | inr wt =>
            obtain ⟨w, t⟩ := wt
            rw [hU] at h6
            obtain ⟨f1, f2, f3, f4⟩ := h6
            show (match (if so t = 219 then Sum.inr _ else Sum.inl (1, t) : au_R au_PV) with | .inl e => _ | .inr (v', q') => _)
            by_cases e4 : so t = 219
            · rw [if_pos e4]
              obtain ⟨b6, b7, -, -⟩ := hL.2 t (by omega) f2
              refine ⟨by omega, b7, fun r hr => Rt_step st (a4 _ fun P c' hP hD hc => Rt_step (st1 P c' hP hD hc) (d4 _ fun P c' hP _ hc => Rt_step (beh_next (hP.up (by decide)) d3 e3 hc) (f4 _ fun P c' hP _ hc => Rt_re (beh_shut (by decide) (by decide) (hP.up (by decide)) f3 (Or.inr ⟨rfl, e4⟩) hc) ?_)))⟩
              rw [if_pos rfl]
              have e9 : c ++ a.2 ++ v.2 ++ w.2 ++ [(3, 0)] = c ++ (a.2 ++ v.2 ++ w.2 ++ [(3, 0)]) := by simp only [List.append_assoc]
              rw [e9]
              exact hr
            · rw [if_neg e4]
              exact Rt_step st (a4 _ fun P c' hP hD hc => Rt_step (st1 P c' hP hD hc) (d4 _ fun P c' hP _ hc => Rt_step (beh_next (hP.up (by decide)) d3 e3 hc) (f4 _ fun P c' hP _ hc => beh_none (Or.inr (Or.inr rfl)) (hP.up (by decide)) f3 (by omega))))
        · rw [if_neg e3]
          exact Rt_step st (a4 _ fun P c' hP hD hc => Rt_step (st1 P c' hP hD hc) (d4 _ fun P c' hP _ hc => beh_none (Or.inr (Or.inl rfl)) (hP.up (by decide)) d3 (by omega)))
    · rw [if_neg e2]
      refine Rt_step st (a4 _ fun P c' hP hD hc => Rt_none (hbet P hP hD) ?_ (by rw [opn_open (by decide) hP]; decide))
      unfold parM
      rw [opn_open (by decide) hP, if_neg (by decide), if_pos rfl, if_neg (fun z => e2 z.1)]
theorem lv_sim (hL : LxO so en nu n) : ∀ (d : Nat) (o : Int), o + d = 8 → SimO so en nu kd n (gLv so en nu kd d).1 o ∧ SimA so en nu kd n (gLv so en nu kd d).2 (CA 4) 3 ES o := by
  intro d
  induction d with
  | zero =>
    intro o ho
    have ho : o = 8 := by omega
    have h1 : SimO so en nu kd n (gAtom so en nu kd (fun p => .inl (3, p))) o := atom_sim hL fun p W c h0 h1 hd => by
      refine Rt_flt ?_ (by decide)
      rw [beg_dp hd]
      exact if_pos ho
    refine ⟨h1, fun p W c h0 h1' hC => ?_⟩
    show (match (if so p = 222 then Sum.inl (3, p) else gCmp so en (gAtom so en nu kd (fun p => .inl (3, p))) p : au_R au_PV) with | .inl e => _ | .inr (v', q') => _)
    by_cases e : so p = 222
    · rw [if_pos e]
      refine Rt_flt ?_ (by decide)
      show begM so en nu kd p W c o = _
      unfold begM
      rw [e, if_neg (fun z => absurd z.1 (by decide)), if_neg (fun z => absurd z.1 (by decide)), if_neg (by decide), if_neg (by decide), if_neg (by decide), if_pos ⟨rfl, hC.ahd'⟩]
      exact if_pos ho
    · rw [if_neg e]
      exact cmp_sim hL h1 p W c h0 h1' ⟨hC, e⟩
  | succ d ih =>
    intro o ho
    obtain ⟨i1, i2⟩ := ih (o + 1) (by omega)
    have h1 : SimO so en nu kd n (gAtom so en nu kd (gDeep so en (gLv so en nu kd d).1 (gLv so en nu kd d).2)) o := atom_sim hL fun p W c h0 h1 hd => deep_sim hL (by omega) i1 i2 p W c h0 h1 hd
    refine ⟨h1, fun p W c h0 h1' hC => ?_⟩
    show (match (if so p = 222 then bnd ((gLv so en nu kd d).2 (en p)) (fun v q => Sum.inr ((fun nm => 1 - v.1 nm, v.2 ++ [(20, 0)]), q)) else gCmp so en (gAtom so en nu kd (gDeep so en (gLv so en nu kd d).1 (gLv so en nu kd d).2)) p : au_R au_PV) with | .inl e => _ | .inr (v', q') => _)
    by_cases e : so p = 222
    · rw [if_pos e]
      have st : stpM so en nu kd (p, W, c, o, false) = .inr (en p, 20 :: W, c, o + 1, false) := by
        show begM so en nu kd p W c o = _
        unfold begM
        rw [e, if_neg (fun z => absurd z.1 (by decide)), if_neg (fun z => absurd z.1 (by decide)), if_neg (by decide), if_neg (by decide), if_neg (by decide), if_pos ⟨rfl, hC.ahd'⟩]
        exact if_neg (by omega)
      obtain ⟨g1, g2, g3, -⟩ := hL.2 p h0 h1'
      have h2 := i2 (en p) (20 :: W) c (by omega) g2 ⟨20, W, rfl, by decide, hC.opn', Or.inr (by decide)⟩
      cases hN : (gLv so en nu kd d).2 (en p) with
      | inl e => rw [hN] at h2; exact Rt_step st h2
      | inr vq =>
        obtain ⟨v, q⟩ := vq
        rw [hN] at h2
        obtain ⟨a1, a2, a3, ⟨Px, cx, hPx, hDx, hcx⟩, a4⟩ := h2
        have hR : Rs 3 [20] := Rs.one (by decide)
        have hD : ∀ P : List Int, Dc P → Dc (P ++ [20]) := fun P hP X => by rw [List.append_assoc]; exact hP _
        have hcc : ∀ (P : List Int) (c' : au_Co), c' ++ emt P = c ++ v.2 → c' ++ emt (P ++ [20]) = c ++ (v.2 ++ [(20, 0)]) := fun P c' h => by rw [emt_app, ← List.append_assoc, h]; simp [emt]
        refine ⟨by omega, a2, a3, ⟨Px ++ [20], cx, hPx.app hR, hD _ hDx, hcc _ _ hcx⟩, fun r hr => Rt_step st (a4 _ fun P c' hP hDp hc => ?_)⟩
        have := hr (P ++ [20]) c' (hP.app hR) (hD _ hDp) (hcc _ _ hc)
        rw [cntN_app, List.append_assoc] at this
        have e9 : o + (cntN P + cntN [20]) = o + 1 + cntN P := by
          show o + (cntN P + 1) = o + 1 + cntN P
          omega
        rw [e9] at this
        exact this
    · rw [if_neg e]
      exact cmp_sim hL h1 p W c h0 h1' ⟨hC, e⟩
/-- the whole -/
theorem top_sim (hL : LxO so en nu n) (p : Int) (h0 : 0 ≤ p) (h1 : p ≤ n) : match gSum so en (gLv so en nu kd 8).1 p with
    | .inl e => Rt so en nu kd (p, [], [], 0, false) (.inl e)
    | .inr (v, q) => p ≤ q ∧ q ≤ n ∧ Rt so en nu kd (p, [], [], 0, false) (.inr (v.2, q)) := by
  have h2 := sum_sim hL (lv_sim (kd := kd) hL 8 0 rfl).1 p [] [] h0 h1 ⟨fun x R e => absurd e (by simp), fun _ => rfl⟩
  cases hS : gSum so en (gLv so en nu kd 8).1 p with
  | inl e => rw [hS] at h2; exact h2
  | inr vq =>
    obtain ⟨v, q⟩ := vq
    rw [hS] at h2
    obtain ⟨a1, a2, a3, a4⟩ := h2
    refine ⟨a1, a2, a4 _ fun P c' hP _ hc => ?_⟩
    have ho : opn (P ++ []) = -1 := opn_app (hP.up (by decide))
    have h9 := Rt_out (so := so) (en := en) (nu := nu) (kd := kd) (s := (q, P ++ [], c', 0 + cntN P, true)) (p := q) (by
      show behM so en q (P ++ []) c' (0 + cntN P) = _
      have hb : betM so q (P ++ []) = -1 := by rw [betM_es a3, if_pos (by rw [ho]; decide)]
      have hp : parM so q (P ++ []) = -1 := by
        unfold parM
        rw [ho, if_neg (by decide), if_neg (by decide), if_neg (by decide), if_neg (by decide)]
      unfold behM
      rw [hb, hp, if_neg (by decide), if_pos (by decide)]) (by show ¬ 0 ≤ opn (P ++ []); rw [ho]; decide)
    have e9 : (stl 1 (P ++ []) c' (0 + cntN P)).2.1 = v.2 := by
      rw [stl_app 1 P [] c' 0 (fun x hx => ⟨by have := (hP x hx).1; omega, (hP x hx).2⟩), hc]
      rfl
    have h10 : Rt so en nu kd (q, P ++ [], c', 0 + cntN P, true) (.inr ((stl 1 (P ++ []) c' (0 + cntN P)).2.1, q)) := h9
    rw [e9] at h10
    exact h10
end SL
