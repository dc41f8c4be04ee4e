/-! DOINGS OF A TEXT, of ApologyUp (printed by tools/m55.py) -/
set_option maxRecDepth 100000
set_option maxHeartbeats 4000000

/-- a doing: its sort, three numbers, the clause's number -/
abbrev au_Do : Type := Int × Int × Int × Int × Int
/-- doings as they lie in the heap -/
def DoAt (r : au_A → Int → Option au_A) (hi : au_A → Int → Int) (t : au_A) (ds : List au_Do) : Prop :=
  ∃ p : Nat, 1126 ≤ p ∧ r t 2 = some (p, 0, 17) ∧ hi (p, 0, 17) 2 = (ds.length : Int) ∧ (0 < ds.length → ∃ q c : Nat, LsAt r hi p q c ds.length ∧ ∀ (j : Nat) (e : au_Do), ds[j]? = some e → ∃ z : Nat, 1126 ≤ z ∧ r (q, c, 45) (j : Int) = some (z, 0, 16) ∧ hi (z, 0, 16) 0 = e.1 ∧ hi (z, 0, 16) 1 = e.2.1 ∧ hi (z, 0, 16) 2 = e.2.2.1 ∧ hi (z, 0, 16) 3 = e.2.2.2.1 ∧ hi (z, 0, 16) 4 = e.2.2.2.2)
/-- doings that are well formed -/
def DoOK (e : au_Do) : Prop := (203 ≤ e.1 ∧ e.1 ≤ 208) ∧ (e.1 = 208 → 0 ≤ e.2.1 ∧ e.2.1 ≤ 60)
def ofP (n b q : Int) : Prop := ((n = 0 ∧ b = -1) ∨ (¬ n = 0 ∧ 0 ≤ b ∧ b < n)) ∧ (0 ≤ q ∧ q ≤ 9) ∧ n < 10
def ofY (y : au_Y) (b q : Int) : Int × au_Y := if ((y.1 = 0 ∧ b = -1) ∨ (¬ y.1 = 0 ∧ 0 ≤ b ∧ b < y.1)) ∧ (0 ≤ q ∧ q ≤ 9) ∧ y.1 < 10 then (y.1, (y.1 + 1, up1 y.2.1 y.1 b, up1 y.2.2.1 y.1 q, y.2.2.2)) else (-1, y)
def coP (n : Int) (Co : Int → Int) (o t : Int) : Prop := (0 ≤ o ∧ o < n) ∧ (0 ≤ t ∧ t < n) ∧ ¬ o = t ∧ ¬ hs (Co o) t
noncomputable def coY (y : au_Y) (o t : Int) : Int × au_Y := @ite _ (coP y.1 y.2.2.2.1 o t) (Classical.propDecidable _) (1, (y.1, y.2.1, y.2.2.1, up1 (up1 y.2.2.2.1 o (au_or (y.2.2.2.1 o) (au_shl 1 t))) t (au_or (y.2.2.2.1 t) (au_shl 1 o)), y.2.2.2.2)) (0, y)
theorem chB_congr {B B' : Int → Int} {n : Int} (hB : Bs B n) (e : ∀ o, 0 ≤ o → o < n → B' o = B o) {a : Int} : ∀ (k : Nat) (u : Int), -1 ≤ u → u < n → (chB B' a k u ↔ chB B a k u) := by
  intro k
  induction k with
  | zero => intro u _ _; exact Iff.rfl
  | succ k ih =>
    intro u h0 h1
    by_cases hu : u = -1
    · simp only [chB, hu, not_true, false_and, or_false]
    · have h3 := hB.2.2 u (by omega) h1
      have h4 := ih (B u) h3.2.1 (by omega)
      simp only [chB]
      rw [e u (by omega) h1]
      exact ⟨fun z => z.imp id (fun q => ⟨q.1, h4.mp q.2⟩), fun z => z.imp id (fun q => ⟨q.1, h4.mpr q.2⟩)⟩
theorem below_congr {B B' : Int → Int} {n : Int} (hB : Bs B n) (e : ∀ o, 0 ≤ o → o < n → B' o = B o) {o a : Int} (h0 : 0 ≤ o) (h1 : o < n) : below B' o a ↔ below B o a := by
  have h3 := hB.2.2 o h0 h1
  unfold below
  rw [e o h0 h1]
  exact chB_congr hB e 10 (B o) h3.2.1 (by omega)
theorem RowOK.more {R : Int → Int} {n : Int} {B B' : Int → Int} (hB : Bs B n) (h : RowOK R n B) (e : ∀ o, 0 ≤ o → o < n → B' o = B o) : RowOK R (n + 1) B' := by
  obtain ⟨⟨h0, h1, h2, h3, h4⟩, h5⟩ := h
  refine ⟨⟨h0, h1, h2, h3, fun a a0 a2 => ?_⟩, fun a a0 a2 => ?_⟩
  · obtain ⟨k0, k1, k2, k3, k4, k5⟩ := h4 a a0 a2
    exact ⟨⟨k0.1, by omega⟩, ⟨k1.1, by omega⟩, ⟨k2.1, by omega⟩, k3, k4, k5⟩
  · obtain ⟨k0, k1, k2, k3, k4, k5⟩ := h4 a a0 a2
    obtain ⟨q0, q1, q2⟩ := h5 a a0 a2
    exact ⟨(below_congr hB e k0.1 k0.2).mpr q0, fun z => (below_congr hB e k2.1 k2.2).mpr (q1 z), fun z => (below_congr hB e k0.1 k0.2).mpr (q2 z)⟩
theorem ofY_ok {y : au_Y} (h : YOK y) (b q : Int) : YOK (ofY y b q).2 := by
  obtain ⟨n, B, Pr, Co, R, ns, S⟩ := y
  unfold ofY
  split
  · rename_i hc
    obtain ⟨h1, h2, h3, h4, h5, h6⟩ := h
    have hc : ((n = 0 ∧ b = -1) ∨ (¬ n = 0 ∧ 0 ≤ b ∧ b < n)) ∧ (0 ≤ q ∧ q ≤ 9) ∧ n < 10 := hc
    have h1 : Bs B n := h1
    have e : ∀ o, 0 ≤ o → o < n → up1 B n b o = B o := fun o _ o1 => up1_ne _ _ (by omega)
    have h10 := h1.1
    refine ⟨⟨by show 0 ≤ n + 1; omega, by show n + 1 ≤ 10; omega, fun o o0 o1 => ?_⟩, fun o o0 o1 => ?_, fun o o0 o1 => h3 o (by have o0 : n + 1 ≤ o := o0; show n ≤ o; omega) o1, RowOK.more h1 h4 e, h5, fun k hk => RowOK.more h1 (h6 k hk) e⟩
    · have o1 : o < n + 1 := o1
      show up1 B n b o < o ∧ -1 ≤ up1 B n b o ∧ (0 < o → 0 ≤ up1 B n b o)
      by_cases ho : o = n
      · rw [ho, up1_self]; omega
      · rw [e o o0 (by omega)]; exact h1.2.2 o o0 (by omega)
    · have o1 : o < n + 1 := o1
      show 0 ≤ up1 Pr n q o ∧ up1 Pr n q o ≤ 9
      by_cases ho : o = n
      · rw [ho, up1_self]; exact hc.2.1
      · rw [up1_ne _ _ ho]; exact h2 o o0 (by show o < n; omega)
  · exact h
theorem coY_ok {y : au_Y} (h : YOK y) (o t : Int) : YOK (coY y o t).2 := by
  obtain ⟨n, B, Pr, Co, R, ns, S⟩ := y
  by_cases hc : coP n Co o t
  · rw [show coY (n, B, Pr, Co, R, ns, S) o t = _ from if_pos hc]
    obtain ⟨h1, h2, h3, h4⟩ := h
    obtain ⟨c1, c2, -⟩ := hc
    refine ⟨h1, h2, fun z z0 z1 => ?_, h4⟩
    have z0 : n ≤ z := z0
    show up1 (up1 Co o _) t _ z = 0
    rw [up1_ne _ _ (by omega), up1_ne _ _ (by omega)]
    exact h3 z z0 z1
  · rw [show coY (n, B, Pr, Co, R, ns, S) o t = _ from if_neg hc]
    exact h
theorem ofX_conv {hi sl si : au_A → Int → Int} {r : au_A → Int → Option au_A} {nx : Nat} {mi : au_A → Int → Int} {n : Int} {B Pr Co R : Int → Int} {ns : Int} {S : Nat → Int → Int} {b q : Int} {rv : Option au_V} {M' : au_M} (hY : XY mi (n, B, Pr, Co, R, ns, S)) (h0 : 0 ≤ n)
    (h : (ofP n b q ∧ rv = some (au_i n) ∧ M' = (au_up (au_up (au_up mi XNboss n b) XNpride n q) XNn 0 (n + 1), si, hi, sl, r, nx)) ∨ (¬ ofP n b q ∧ rv = some (au_i (-1)) ∧ M' = (mi, si, hi, sl, r, nx))) :
    PoX hi sl r nx mi (some (au_i (ofY (n, B, Pr, Co, R, ns, S) b q).1)) (ofY (n, B, Pr, Co, R, ns, S) b q).2 rv M' := by
  rcases h with ⟨hc, rfl, rfl⟩ | ⟨hc, rfl, rfl⟩
  · obtain ⟨h1, h2, h3, h4, h5, h6, h7⟩ := hY
    refine PoX.of (w := n) (y := (n + 1, up1 B n b, up1 Pr n q, Co, R, ns, S)) (if_pos hc) (Nat.le_refl _) ?_ (fun a j z => ?_) rfl
    · refine ⟨au_up_self _ _ _ _, fun o o0 o1 => ?_, fun o o0 o1 => ?_, fun o o0 o1 => ?_, ?_, ?_, fun k hk => ?_⟩
      · rw [au_up_neF _ _ _ (by decide), au_up_neF _ _ _ (by decide)]
        show au_up mi XNboss n b XNboss o = up1 B n b o
        unfold au_up up1
        by_cases e : o = n
        · rw [if_pos ⟨rfl, e⟩, if_pos e]
        · rw [if_neg (fun z => e z.2), if_neg e]; exact h2 o o0 o1
      · rw [au_up_neF _ _ _ (by decide)]
        show au_up _ XNpride n q XNpride o = up1 Pr n q o
        by_cases e : o = n
        · rw [e, au_up_self, up1_self]
        · rw [au_up_ne _ _ (fun z => e z.2), up1_ne _ _ e, au_up_neF _ _ _ (by decide)]; exact h3 o o0 o1
      · rw [au_up_neF _ _ _ (by decide), au_up_neF _ _ _ (by decide), au_up_neF _ _ _ (by decide)]; exact h4 o o0 o1
      · rw [au_up_neF _ _ _ (by decide), au_up_neF _ _ _ (by decide), au_up_neF _ _ _ (by decide)]; exact h5
      · rw [au_up_ne _ _ (by decide), au_up_neF _ _ _ (by decide), au_up_neF _ _ _ (by decide)]; exact h6
      · rw [au_up_neF _ _ _ (ne1 (by show 1022 + k ≠ 1002; omega)), au_up_neF _ _ _ (ne1 (by show 1022 + k ≠ 1005; omega)), au_up_neF _ _ _ (ne1 (by show 1022 + k ≠ 1004; omega))]; exact h7 k hk
    · rw [au_up_ne _ _ (fun q => z (Or.inl ⟨q.1, Or.inl q.2⟩)), au_up_ne _ _ (fun q => z (Or.inr (Or.inl (by rw [q.1]; decide)))), au_up_ne _ _ (fun q => z (Or.inr (Or.inl (by rw [q.1]; decide))))]
  · exact PoX.of (if_neg hc) (Nat.le_refl _) hY (FrX.rf mi) rfl
theorem coX_conv {hi sl si : au_A → Int → Int} {r : au_A → Int → Option au_A} {nx : Nat} {mi : au_A → Int → Int} {n : Int} {B Pr Co R : Int → Int} {ns : Int} {S : Nat → Int → Int} {o t : Int} {rv : Option au_V} {M' : au_M} (hY : XY mi (n, B, Pr, Co, R, ns, S))
    (h : (coP n Co o t ∧ rv = some (au_i 1) ∧ M' = (au_up (au_up mi XNcousin o (au_or (Co o) (au_shl 1 t))) XNcousin t (au_or (Co t) (au_shl 1 o)), si, hi, sl, r, nx)) ∨ (¬ coP n Co o t ∧ rv = some (au_i 0) ∧ M' = (mi, si, hi, sl, r, nx))) :
    PoX hi sl r nx mi (some (au_i (coY (n, B, Pr, Co, R, ns, S) o t).1)) (coY (n, B, Pr, Co, R, ns, S) o t).2 rv M' := by
  rcases h with ⟨hc, rfl, rfl⟩ | ⟨hc, rfl, rfl⟩
  · obtain ⟨h1, h2, h3, h4, h5, h6, h7⟩ := hY
    refine PoX.of (w := 1) (y := (n, B, Pr, up1 (up1 Co o (au_or (Co o) (au_shl 1 t))) t (au_or (Co t) (au_shl 1 o)), R, ns, S)) (if_pos hc) (Nat.le_refl _) ?_ (fun a j z => ?_) rfl
    · refine ⟨(au_up_ne _ _ (fun q => absurd q.1 (by decide))).trans ((au_up_ne _ _ (fun q => absurd q.1 (by decide))).trans h1), fun z z0 z1 => ?_, fun z z0 z1 => ?_, fun z z0 z1 => ?_, ?_, ?_, fun k hk => ?_⟩
      · rw [au_up_neF _ _ _ (by decide), au_up_neF _ _ _ (by decide)]; exact h2 z z0 z1
      · rw [au_up_neF _ _ _ (by decide), au_up_neF _ _ _ (by decide)]; exact h3 z z0 z1
      · show au_up _ XNcousin t _ XNcousin z = up1 _ t _ z
        by_cases e : z = t
        · rw [e, au_up_self, up1_self]
        · rw [au_up_ne _ _ (fun q => e q.2), up1_ne _ _ e]
          by_cases e : z = o
          · rw [e, au_up_self, up1_self]
          · rw [au_up_ne _ _ (fun q => e q.2), up1_ne _ _ e]; exact h4 z z0 z1
      · rw [au_up_neF _ _ _ (by decide), au_up_neF _ _ _ (by decide)]; exact h5
      · rw [au_up_ne _ _ (fun q => absurd q.1 (by decide)), au_up_ne _ _ (fun q => absurd q.1 (by decide))]; exact h6
      · rw [au_up_neF _ _ _ (ne1 (by show 1022 + k ≠ 1006; omega)), au_up_neF _ _ _ (ne1 (by show 1022 + k ≠ 1006; omega))]; exact h7 k hk
    · rw [au_up_ne _ _ (fun q => z (Or.inr (Or.inl (by rw [q.1]; decide)))), au_up_ne _ _ (fun q => z (Or.inr (Or.inl (by rw [q.1]; decide))))]
  · exact PoX.of (if_neg hc) (Nat.le_refl _) hY (FrX.rf mi) rfl
theorem EnX.to {r : au_A → Int → Option au_A} {hi mi m1 : au_A → Int → Int} {d : Nat} {n : Int} {B Pr : Int → Int} {Lw : au_Lw} (h : EnX r hi mi d n B Pr Lw) (hf : FrX mi m1) {y : au_Y} (hY : XY m1 y) (hK : YOK y) : EnX r hi m1 d y.1 y.2.1 y.2.2.1 Lw := by
  obtain ⟨-, -, -, -, -, t, h6, h7⟩ := h
  refine ⟨hY.1, hY.2.1, hK.1, hY.2.2.1, hK.2.1, t, ?_, h7⟩
  unfold RuAt at h6 ⊢
  rw [hf _ _ (by decide)]; exact h6
/-- what a doing does: whether it could, what is then, cells -/
noncomputable def doY (Lw : au_Lw) (e : au_Do) (y : au_Y) : Int × au_Y × Nat :=
  if e.1 = 203 then ((if (ofY y e.2.2.1 e.2.1).1 = -1 then 0 else 1), (ofY y e.2.2.1 e.2.1).2, 0)
  else if e.1 = 204 then ((coY y e.2.1 e.2.2.1).1, (coY y e.2.1 e.2.2.1).2, 0)
  else if e.1 = 205 then ((if (wrY y e.2.1 e.2.2.1 e.2.2.2.1).1 = -1 then 0 else 1), (wrY y e.2.1 e.2.2.1 e.2.2.2.1).2, 1)
  else if e.1 = 206 then ((awY y e.2.1 e.2.2.1).1, (awY y e.2.1 e.2.2.1).2, 0)
  else if e.1 = 207 then ((sdY y e.2.1 e.2.2.1).1, (sdY y e.2.1 e.2.2.1).2, 0)
  else ((paY Lw e.2.1.toNat y).1, (paY Lw e.2.1.toNat y).2.1, (paY Lw e.2.1.toNat y).2.2.2)
noncomputable def plF (Lw : au_Lw) : List au_Do → au_Y → Int × au_Y × Nat
  | [], y => (-1, y, 0)
  | e :: t, y => if (doY Lw e y).1 = 0 then (e.2.2.2.2, (doY Lw e y).2.1, (doY Lw e y).2.2) else ((plF Lw t (doY Lw e y).2.1).1, (plF Lw t (doY Lw e y).2.1).2.1, (doY Lw e y).2.2 + (plF Lw t (doY Lw e y).2.1).2.2)
theorem doY_ok {Lw : au_Lw} {y : au_Y} (h : YOK y) (e : au_Do) : YOK (doY Lw e y).2.1 := by
  unfold doY
  split
  · exact ofY_ok h _ _
  split
  · exact coY_ok h _ _
  split
  · exact wrY_ok h _ _ _
  split
  · exact awY_ok h _ _
  split
  · exact sdY_ok h _ _
  · exact (paY_ok _ _ h).1
theorem undN_10 (R : Int → Int) : undN R 10 ≤ 10 := undN_bd R 10
theorem sdF_und {R : Int → Int} (a t : Int) (h : 0 ≤ a) : undN (sdF R a t) 10 = undN R 10 := undN_eq 10 (fun c c0 c1 => (up1_ne _ _ (by omega)).trans (up1_ne _ _ (by omega)))
/-- what a doing costs -/
theorem doY_cost {Lw : au_Lw} {y : au_Y} (h : YOK y) {e : au_Do} (he : DoOK e) : (doY Lw e y).2.2 + undN (doY Lw e y).2.1.2.2.2.2.1 10 ≤ 610 + undN y.2.2.2.2.1 10 := by
  have hu := undN_10 y.2.2.2.2.1
  have hv := undN_10 (doY Lw e y).2.1.2.2.2.2.1
  obtain ⟨⟨e0, e1⟩, e2⟩ := he
  by_cases h8 : e.1 = 208
  · have e3 := e2 h8
    have q : doY Lw e y = ((paY Lw e.2.1.toNat y).1, (paY Lw e.2.1.toNat y).2.1, (paY Lw e.2.1.toNat y).2.2.2) := by
      unfold doY
      rw [if_neg (by omega), if_neg (by omega), if_neg (by omega), if_neg (by omega), if_neg (by omega)]
    rw [q]
    have := paY_cost (Lw := Lw) e.2.1.toNat y h
    show (paY Lw e.2.1.toNat y).2.2.2 + undN (paY Lw e.2.1.toNat y).2.1.2.2.2.2.1 10 ≤ _
    omega
  · have q : (doY Lw e y).2.2 ≤ 1 := by
      unfold doY
      split
      · exact Nat.zero_le _
      split
      · exact Nat.zero_le _
      split
      · exact Nat.le_refl _
      split
      · exact Nat.zero_le _
      split
      · exact Nat.zero_le _
      · exfalso; omega
    omega
theorem plF_ok {Lw : au_Lw} : ∀ (ds : List au_Do) (y : au_Y), YOK y → YOK (plF Lw ds y).2.1 := by
  intro ds
  induction ds with
  | nil => intro y h; exact h
  | cons e t ih =>
    intro y h
    unfold plF
    split
    · exact doY_ok h e
    · exact ih _ (doY_ok h e)
theorem plF_cost {Lw : au_Lw} : ∀ (ds : List au_Do) (y : au_Y), YOK y → (∀ e ∈ ds, DoOK e) → (plF Lw ds y).2.2 ≤ 610 * ds.length + 10 := by
  have key : ∀ (ds : List au_Do) (y : au_Y), YOK y → (∀ e ∈ ds, DoOK e) → (plF Lw ds y).2.2 ≤ 610 * ds.length + undN y.2.2.2.2.1 10 := by
    intro ds
    induction ds with
    | nil => intro y _ _; exact Nat.zero_le _
    | cons e t ih =>
      intro y h hd
      have c := doY_cost (Lw := Lw) h (hd e List.mem_cons_self)
      unfold plF
      split
      · show (doY Lw e y).2.2 ≤ 610 * (t.length + 1) + _
        omega
      · have i := ih _ (doY_ok (Lw := Lw) h e) (fun x hx => hd x (List.mem_cons_of_mem _ hx))
        show (doY Lw e y).2.2 + _ ≤ 610 * (t.length + 1) + _
        omega
  intro ds y h hd
  have := key ds y h hd
  have := undN_10 y.2.2.2.2.1
  omega
theorem coY_01 {y : au_Y} {o t : Int} : (coY y o t).1 = 0 ∨ (coY y o t).1 = 1 := by
  by_cases hc : coP y.1 y.2.2.2.1 o t
  · rw [show coY y o t = _ from if_pos hc]; exact Or.inr rfl
  · rw [show coY y o t = _ from if_neg hc]; exact Or.inl rfl
theorem sdY_01 {y : au_Y} {a t : Int} : (sdY y a t).1 = 0 ∨ (sdY y a t).1 = 1 := by
  by_cases hc : sdP y.1 y.2.1 y.2.2.2.1 y.2.2.2.2.1 a t
  · rw [show sdY y a t = _ from if_pos hc]; exact Or.inr rfl
  · rw [show sdY y a t = _ from if_neg hc]; exact Or.inl rfl
theorem awY_01 {y : au_Y} {o d : Int} : (awY y o d).1 = 0 ∨ (awY y o d).1 = 1 := by
  unfold awY
  split
  · exact Or.inr rfl
  · exact Or.inl rfl
theorem paY_01 {Lw : au_Lw} : ∀ {k : Nat} {y : au_Y}, (paY Lw k y).1 = 0 ∨ (paY Lw k y).1 = 1 := by
  intro k
  induction k with
  | zero => intro y; exact Or.inr rfl
  | succ k ih =>
    intro y
    unfold paY
    split
    · exact ih
    · exact Or.inl rfl
theorem doY_203 {Lw : au_Lw} {e : au_Do} {y : au_Y} (h : e.1 = 203) : doY Lw e y = ((if (ofY y e.2.2.1 e.2.1).1 = -1 then 0 else 1), (ofY y e.2.2.1 e.2.1).2, 0) := if_pos h
theorem doY_204 {Lw : au_Lw} {e : au_Do} {y : au_Y} (h : e.1 = 204) : doY Lw e y = ((coY y e.2.1 e.2.2.1).1, (coY y e.2.1 e.2.2.1).2, 0) := by
  unfold doY; rw [if_neg (by omega), if_pos h]
theorem doY_205 {Lw : au_Lw} {e : au_Do} {y : au_Y} (h : e.1 = 205) : doY Lw e y = ((if (wrY y e.2.1 e.2.2.1 e.2.2.2.1).1 = -1 then 0 else 1), (wrY y e.2.1 e.2.2.1 e.2.2.2.1).2, 1) := by
  unfold doY; rw [if_neg (by omega), if_neg (by omega), if_pos h]
theorem doY_206 {Lw : au_Lw} {e : au_Do} {y : au_Y} (h : e.1 = 206) : doY Lw e y = ((awY y e.2.1 e.2.2.1).1, (awY y e.2.1 e.2.2.1).2, 0) := by
  unfold doY; rw [if_neg (by omega), if_neg (by omega), if_neg (by omega), if_pos h]
theorem doY_207 {Lw : au_Lw} {e : au_Do} {y : au_Y} (h : e.1 = 207) : doY Lw e y = ((sdY y e.2.1 e.2.2.1).1, (sdY y e.2.1 e.2.2.1).2, 0) := by
  unfold doY; rw [if_neg (by omega), if_neg (by omega), if_neg (by omega), if_neg (by omega), if_pos h]
theorem doY_208 {Lw : au_Lw} {e : au_Do} {y : au_Y} (h : e.1 < 203 ∨ 207 < e.1) : doY Lw e y = ((paY Lw e.2.1.toNat y).1, (paY Lw e.2.1.toNat y).2.1, (paY Lw e.2.1.toNat y).2.2.2) := by
  unfold doY; rw [if_neg (by omega), if_neg (by omega), if_neg (by omega), if_neg (by omega), if_neg (by omega)]

theorem kX16_sort (G : au_G) (z : Nat) (x : Int) (mi si hi sl : au_A → Int → Int) (r : au_A → Int → Option au_A) (nx : Nat) (hz : 1126 ≤ z) (hx : hi (z, 0, 16) 0 = x) : au_Ctr G yX16_sort cX16_sort 1 (some .int) 0 0 0 [au_r (z, 0, 16)] (mi, si, hi, sl, r, nx) (au_pure (au_i x) (mi, si, hi, sl, r, nx)) := by
  refine au_of (by decide) (Nat.le_of_ble_eq_true rfl) ?_
  show au_Go G _ _ 0 [some (au_r (z, 0, 16))] [] (mi, si, hi, sl, r, nx) 0 0
  refine au_aload_n dX16_sort_0 rfl ?_
  refine au_getf (C := RX16) (T := TX16) (N := 5) in_X16 (show 16 < 40 by decide) rfl 0 (by decide) rfl rfl q858 rfl dX16_sort_1 (v := au_i (x)) ((congrArg au_i ((au_gi_h (au_reg_o hz (by decide) _)).trans hx))) ?_
  exact au_iret dX16_sort_4 rfl rfl (Nat.le_of_ble_eq_true rfl) (Nat.le_of_ble_eq_true rfl) (⟨rfl, rfl⟩)
theorem kX16_a (G : au_G) (z : Nat) (x : Int) (mi si hi sl : au_A → Int → Int) (r : au_A → Int → Option au_A) (nx : Nat) (hz : 1126 ≤ z) (hx : hi (z, 0, 16) 1 = x) : au_Ctr G yX16_a cX16_a 1 (some .int) 0 0 0 [au_r (z, 0, 16)] (mi, si, hi, sl, r, nx) (au_pure (au_i x) (mi, si, hi, sl, r, nx)) := by
  refine au_of (by decide) (Nat.le_of_ble_eq_true rfl) ?_
  show au_Go G _ _ 0 [some (au_r (z, 0, 16))] [] (mi, si, hi, sl, r, nx) 0 0
  refine au_aload_n dX16_a_0 rfl ?_
  refine au_getf (C := RX16) (T := TX16) (N := 5) in_X16 (show 16 < 40 by decide) rfl 1 (by decide) rfl rfl q859 rfl dX16_a_1 (v := au_i (x)) ((congrArg au_i ((au_gi_h (au_reg_o hz (by decide) _)).trans hx))) ?_
  exact au_iret dX16_a_4 rfl rfl (Nat.le_of_ble_eq_true rfl) (Nat.le_of_ble_eq_true rfl) (⟨rfl, rfl⟩)
theorem kX16_b (G : au_G) (z : Nat) (x : Int) (mi si hi sl : au_A → Int → Int) (r : au_A → Int → Option au_A) (nx : Nat) (hz : 1126 ≤ z) (hx : hi (z, 0, 16) 2 = x) : au_Ctr G yX16_b cX16_b 1 (some .int) 0 0 0 [au_r (z, 0, 16)] (mi, si, hi, sl, r, nx) (au_pure (au_i x) (mi, si, hi, sl, r, nx)) := by
  refine au_of (by decide) (Nat.le_of_ble_eq_true rfl) ?_
  show au_Go G _ _ 0 [some (au_r (z, 0, 16))] [] (mi, si, hi, sl, r, nx) 0 0
  refine au_aload_n dX16_b_0 rfl ?_
  refine au_getf (C := RX16) (T := TX16) (N := 5) in_X16 (show 16 < 40 by decide) rfl 2 (by decide) rfl rfl q860 rfl dX16_b_1 (v := au_i (x)) ((congrArg au_i ((au_gi_h (au_reg_o hz (by decide) _)).trans hx))) ?_
  exact au_iret dX16_b_4 rfl rfl (Nat.le_of_ble_eq_true rfl) (Nat.le_of_ble_eq_true rfl) (⟨rfl, rfl⟩)
theorem kX16_c (G : au_G) (z : Nat) (x : Int) (mi si hi sl : au_A → Int → Int) (r : au_A → Int → Option au_A) (nx : Nat) (hz : 1126 ≤ z) (hx : hi (z, 0, 16) 3 = x) : au_Ctr G yX16_c cX16_c 1 (some .int) 0 0 0 [au_r (z, 0, 16)] (mi, si, hi, sl, r, nx) (au_pure (au_i x) (mi, si, hi, sl, r, nx)) := by
  refine au_of (by decide) (Nat.le_of_ble_eq_true rfl) ?_
  show au_Go G _ _ 0 [some (au_r (z, 0, 16))] [] (mi, si, hi, sl, r, nx) 0 0
  refine au_aload_n dX16_c_0 rfl ?_
  refine au_getf (C := RX16) (T := TX16) (N := 5) in_X16 (show 16 < 40 by decide) rfl 3 (by decide) rfl rfl q861 rfl dX16_c_1 (v := au_i (x)) ((congrArg au_i ((au_gi_h (au_reg_o hz (by decide) _)).trans hx))) ?_
  exact au_iret dX16_c_4 rfl rfl (Nat.le_of_ble_eq_true rfl) (Nat.le_of_ble_eq_true rfl) (⟨rfl, rfl⟩)
theorem kX16_number (G : au_G) (z : Nat) (x : Int) (mi si hi sl : au_A → Int → Int) (r : au_A → Int → Option au_A) (nx : Nat) (hz : 1126 ≤ z) (hx : hi (z, 0, 16) 4 = x) : au_Ctr G yX16_number cX16_number 1 (some .int) 0 0 0 [au_r (z, 0, 16)] (mi, si, hi, sl, r, nx) (au_pure (au_i x) (mi, si, hi, sl, r, nx)) := by
  refine au_of (by decide) (Nat.le_of_ble_eq_true rfl) ?_
  show au_Go G _ _ 0 [some (au_r (z, 0, 16))] [] (mi, si, hi, sl, r, nx) 0 0
  refine au_aload_n dX16_number_0 rfl ?_
  refine au_getf (C := RX16) (T := TX16) (N := 5) in_X16 (show 16 < 40 by decide) rfl 4 (by decide) rfl rfl q862 rfl dX16_number_1 (v := au_i (x)) ((congrArg au_i ((au_gi_h (au_reg_o hz (by decide) _)).trans hx))) ?_
  exact au_iret dX16_number_4 rfl rfl (Nat.le_of_ble_eq_true rfl) (Nat.le_of_ble_eq_true rfl) (⟨rfl, rfl⟩)
theorem kJ3_sizeN (G : au_G) (p : Nat) (x : Int) (mi si hi sl : au_A → Int → Int) (r : au_A → Int → Option au_A) (nx : Nat) (hp : 1126 ≤ p) (hx : hi (p, 0, 17) 2 = x) : au_Ctr G yJ3_size cJ3_size 1 (some .int) 0 0 0 [au_r (p, 0, 17)] (mi, si, hi, sl, r, nx) (au_pure (au_i x) (mi, si, hi, sl, r, nx)) := by
  refine au_of (by decide) (Nat.le_of_ble_eq_true rfl) ?_
  show au_Go G _ _ 0 [some (au_r (p, 0, 17))] [] (mi, si, hi, sl, r, nx) 0 0
  refine au_aload_n dJ3_size_0 rfl ?_
  refine au_getf (C := RJ3) (T := TJ3) (N := 3) in_J3 (show 17 < 40 by decide) rfl 2 (by decide) rfl rfl q385 rfl dJ3_size_1 (v := au_i (x)) ((congrArg au_i ((au_gi_h (au_reg_o hp (by decide) _)).trans hx))) ?_
  exact au_iret dJ3_size_4 rfl rfl (Nat.le_of_ble_eq_true rfl) (Nat.le_of_ble_eq_true rfl) (⟨rfl, rfl⟩)
theorem kX0_does (G : au_G) (d : Nat) (Lw : au_Lw) (z : Nat) (e : au_Do) (n : Int) (B Pr Co R : Int → Int) (ns : Int) (S : Nat → Int → Int) (c : Nat) (mi si hi sl : au_A → Int → Int) (r : au_A → Int → Option au_A) (nx : Nat) (hF : Fix r) (hnx : 1126 ≤ nx) (hX : EnX r hi mi d n B Pr Lw) (hY : XY mi (n, B, Pr, Co, R, ns, S)) (hK : YOK (n, B, Pr, Co, R, ns, S)) (hz : 1126 ≤ z) (hz0 : hi (z, 0, 16) 0 = e.1) (hz1 : hi (z, 0, 16) 1 = e.2.1) (hz2 : hi (z, 0, 16) 2 = e.2.2.1) (hz3 : hi (z, 0, 16) 3 = e.2.2.2.1) (hz4 : hi (z, 0, 16) 4 = e.2.2.2.2) (hD : DoOK e) (hc : (doY Lw e (n, B, Pr, Co, R, ns, S)).2.2 ≤ c) : au_Ctr G yX0_does cX0_does 2 (some .boolean) (d + 13) c (7 * c) [au_r XO, au_r (z, 0, 16)] (mi, si, hi, sl, r, nx) (PoX hi sl r nx mi (some (au_i (doY Lw e (n, B, Pr, Co, R, ns, S)).1)) (doY Lw e (n, B, Pr, Co, R, ns, S)).2.1) := by
  refine au_of (by decide) (Nat.le_of_ble_eq_true rfl) ?_
  obtain ⟨jN, jE, jPr, jCo, jRw, jSt⟩ := id hY
  obtain ⟨jB, jP9, jC0, jR, jns, jSR⟩ := id hK
  have hN : mi XNn 0 = n := jN
  have hE : ∀ o, 0 ≤ o → o < 10 → mi XNboss o = B o := jE
  have hPr : ∀ o, 0 ≤ o → o < 10 → mi XNpride o = Pr o := jPr
  have hCo : ∀ o, 0 ≤ o → o < 10 → mi XNcousin o = Co o := jCo
  have hRw : mi XNrow = R := jRw
  have hSt : StX mi ns S := jSt
  have hB : Bs B n := jB
  have hns : 0 ≤ ns ∧ ns ≤ 30 := jns
  have hb1 := hB.1
  have hb0 := hB.2.1
  have hn : 0 ≤ n ∧ n ≤ 10 := ⟨hb1, hb0⟩
  have hR : RowOK R n B := jR
  subst hRw
  obtain ⟨⟨r0, r0b⟩, ⟨r1, r1b⟩, ⟨r2, r2b⟩, ⟨r83, r83b⟩, rA⟩ := id hR.1
  have hq : 1003 = 1003 ∨ 1003 = 1107 := Or.inl rfl
  show au_Go G _ _ 0 [some (au_r XO), some (au_r (z, 0, 16))] [] (mi, si, hi, sl, r, nx) 0 0
  refine au_aload_n dX0_does_0 rfl ?_
  refine au_callVp (n := 0) (kX16_sort G z e.1 mi si hi sl r nx hz hz0) (lw_V q1113 q1114 q1115 q164 q1116) rfl (by decide +kernel) (show 16 < 40 by decide) (T := TX16) (N := 5) rfl rfl rfl rfl (Nat.le_of_ble_eq_true rfl) (by show _ ≤ (d + 13); omega) (by show _ ≤ 80 * (d + 13); omega) (by show _ ≤ c; omega) (by show _ ≤ 7 * c; omega) dX0_does_1 ?_
  by_cases c4 : e.1 < 203 ∨ 207 < e.1
  · refine au_tableOut (tgt := 127) dX0_does_4 c4 (by decide) ?_
    have hD8 : 0 ≤ e.2.1 ∧ e.2.1 ≤ 60 := hD.2 (by have := hD.1; omega)
    have hc : (paY Lw e.2.1.toNat (n, B, Pr, Co, mi XNrow, ns, S)).2.2.2 ≤ c := by
      rw [show doY Lw e (n, B, Pr, Co, mi XNrow, ns, S) = _ from doY_208 c4] at hc; exact hc
    refine au_aload_n dX0_does_127 rfl ?_
    refine au_aload_n dX0_does_128 rfl ?_
    refine au_callVp (n := 0) (kX16_a G z e.2.1 mi si hi sl r nx hz hz1) (lw_V q1121 q1122 q1123 q164 q1124) rfl (by decide +kernel) (show 16 < 40 by decide) (T := TX16) (N := 5) rfl rfl rfl rfl (Nat.le_of_ble_eq_true rfl) (by show _ ≤ (d + 13); omega) (by show _ ≤ 80 * (d + 13); omega) (by show _ ≤ c; omega) (by show _ ≤ 7 * c; omega) dX0_does_129 ?_
    refine au_callV (n := 1) (kX0_passesAll G d Lw e.2.1 n B Pr Co (mi XNrow) ns S (paY Lw e.2.1.toNat (n, B, Pr, Co, mi XNrow, ns, S)).2.2.2 mi si hi sl r nx hF hnx hX hY hK hD8 (Nat.le_refl _)) (lw_V q1134 q1136 qs41 q130 q1137) rfl (by decide +kernel) (by decide) (T := TX0) (N := 15) rfl rfl rfl rfl (Nat.le_of_ble_eq_true rfl) (by show _ ≤ (d + 13); omega) (by show _ ≤ 80 * (d + 13); omega) (by show _ ≤ c; omega) (by show _ ≤ 7 * c; omega) dX0_does_132 (fun rv_ M_ hp_ => ?_)
    obtain ⟨rfl, m2, s2, n2, hn2, rfl, hY2, hF2⟩ := hp_
    show au_Go G _ _ 135 [some (au_r XO), some (au_r (z, 0, 16))] [au_i ((paY Lw e.2.1.toNat (n, B, Pr, Co, mi XNrow, ns, S)).1)] (m2, s2, hi, sl, r, n2) (0 + ((paY Lw e.2.1.toNat (n, B, Pr, Co, mi XNrow, ns, S)).2.2.2)) (0 + (4 * (paY Lw e.2.1.toNat (n, B, Pr, Co, mi XNrow, ns, S)).2.2.2))
    refine au_zret dX0_does_135 rfl (by first | exact coY_01 | exact awY_01 | exact sdY_01 | exact paY_01) rfl (by show _ ≤ c; omega) (by show _ ≤ 7 * c; omega) ?_
    refine ⟨?_, m2, s2, n2, hn2, rfl, ?_, hF2⟩
    · rw [show doY Lw e (n, B, Pr, Co, mi XNrow, ns, S) = _ from doY_208 c4]
    · rw [show doY Lw e (n, B, Pr, Co, mi XNrow, ns, S) = _ from doY_208 c4]; exact hY2
  · have c4 : e.1 = 203 ∨ e.1 = 204 ∨ e.1 = 205 ∨ e.1 = 206 ∨ e.1 = 207 := by omega
    rcases c4 with e4 | e4 | e4 | e4 | e4
    · refine au_tableIn (off := 36) (tgt := 40) dX0_does_4 (by omega) (by omega) (by rw [e4]; rfl) (by decide) ?_
      refine au_aload_n dX0_does_40 rfl ?_
      refine au_aload_n dX0_does_41 rfl ?_
      refine au_callVp (n := 0) (kX16_b G z e.2.2.1 mi si hi sl r nx hz hz2) (lw_V q1117 q1118 q1119 q164 q1120) rfl (by decide +kernel) (show 16 < 40 by decide) (T := TX16) (N := 5) rfl rfl rfl rfl (Nat.le_of_ble_eq_true rfl) (by show _ ≤ (d + 13); omega) (by show _ ≤ 80 * (d + 13); omega) (by show _ ≤ c; omega) (by show _ ≤ 7 * c; omega) dX0_does_42 ?_
      refine au_aload_n dX0_does_45 rfl ?_
      refine au_callVp (n := 0) (kX16_a G z e.2.1 mi si hi sl r nx hz hz1) (lw_V q1121 q1122 q1123 q164 q1124) rfl (by decide +kernel) (show 16 < 40 by decide) (T := TX16) (N := 5) rfl rfl rfl rfl (Nat.le_of_ble_eq_true rfl) (by show _ ≤ (d + 13); omega) (by show _ ≤ 80 * (d + 13); omega) (by show _ ≤ c; omega) (by show _ ≤ 7 * c; omega) dX0_does_46 ?_
      refine au_callV (n := 2) (kX0_officer G e.2.2.1 e.2.1 mi si hi sl r nx hF n hN hn) (lw_V q1125 q293 q294 q130 q295) rfl (by decide +kernel) (by decide) (T := TX0) (N := 15) rfl rfl rfl rfl (Nat.le_of_ble_eq_true rfl) (by show _ ≤ (d + 13); omega) (by show _ ≤ 80 * (d + 13); omega) (by show _ ≤ c; omega) (by show _ ≤ 7 * c; omega) dX0_does_49 (fun rv_ M_ hp_ => ?_)
      have hp_ := ofX_conv (b := e.2.2.1) (q := e.2.1) hY hb1 hp_
      obtain ⟨rfl, m2, s2, n2, hn2, rfl, hY2, hF2⟩ := hp_
      show au_Go G _ _ 52 [some (au_r XO), some (au_r (z, 0, 16))] [au_i ((ofY (n, B, Pr, Co, mi XNrow, ns, S) e.2.2.1 e.2.1).1)] (m2, s2, hi, sl, r, n2) 0 0
      refine au_iconst dX0_does_52 rfl rfl ?_
      refine au_icmp_eq (tgt := 60) dX0_does_53 (by decide) (fun c53 => ?_) (fun c53 => ?_)
      · refine au_iconst dX0_does_60 rfl rfl ?_
        refine au_zret dX0_does_61 rfl (Or.inl rfl) rfl (by show _ ≤ c; omega) (by show _ ≤ 7 * c; omega) ?_
        refine ⟨?_, m2, s2, n2, hn2, rfl, ?_, hF2⟩
        · rw [show doY Lw e (n, B, Pr, Co, mi XNrow, ns, S) = _ from doY_203 e4]
          first
          | exact congrArg (fun q => some (au_i q)) (if_pos c53).symm
          | exact congrArg (fun q => some (au_i q)) (if_neg c53).symm
        · rw [show doY Lw e (n, B, Pr, Co, mi XNrow, ns, S) = _ from doY_203 e4]; exact hY2
      · refine au_iconst dX0_does_56 rfl rfl ?_
        refine au_goto (tgt := 61) dX0_does_57 (by decide) ?_
        refine au_zret dX0_does_61 rfl (Or.inr rfl) rfl (by show _ ≤ c; omega) (by show _ ≤ 7 * c; omega) ?_
        refine ⟨?_, m2, s2, n2, hn2, rfl, ?_, hF2⟩
        · rw [show doY Lw e (n, B, Pr, Co, mi XNrow, ns, S) = _ from doY_203 e4]
          first
          | exact congrArg (fun q => some (au_i q)) (if_pos c53).symm
          | exact congrArg (fun q => some (au_i q)) (if_neg c53).symm
        · rw [show doY Lw e (n, B, Pr, Co, mi XNrow, ns, S) = _ from doY_203 e4]; exact hY2
    · refine au_tableIn (off := 58) (tgt := 62) dX0_does_4 (by omega) (by omega) (by rw [e4]; rfl) (by decide) ?_
      refine au_aload_n dX0_does_62 rfl ?_
      refine au_aload_n dX0_does_63 rfl ?_
      refine au_callVp (n := 0) (kX16_a G z e.2.1 mi si hi sl r nx hz hz1) (lw_V q1121 q1122 q1123 q164 q1124) rfl (by decide +kernel) (show 16 < 40 by decide) (T := TX16) (N := 5) rfl rfl rfl rfl (Nat.le_of_ble_eq_true rfl) (by show _ ≤ (d + 13); omega) (by show _ ≤ 80 * (d + 13); omega) (by show _ ≤ c; omega) (by show _ ≤ 7 * c; omega) dX0_does_64 ?_
      refine au_aload_n dX0_does_67 rfl ?_
      refine au_callVp (n := 0) (kX16_b G z e.2.2.1 mi si hi sl r nx hz hz2) (lw_V q1117 q1118 q1119 q164 q1120) rfl (by decide +kernel) (show 16 < 40 by decide) (T := TX16) (N := 5) rfl rfl rfl rfl (Nat.le_of_ble_eq_true rfl) (by show _ ≤ (d + 13); omega) (by show _ ≤ 80 * (d + 13); omega) (by show _ ≤ c; omega) (by show _ ≤ 7 * c; omega) dX0_does_68 ?_
      refine au_callV (n := 2) (kX0_cousin G e.2.1 e.2.2.1 mi si hi sl r nx hF n hN hn Co hCo) (lw_V q1126 q304 q305 q130 q306) rfl (by decide +kernel) (by decide) (T := TX0) (N := 15) rfl rfl rfl rfl (Nat.le_of_ble_eq_true rfl) (by show _ ≤ (d + 13); omega) (by show _ ≤ 80 * (d + 13); omega) (by show _ ≤ c; omega) (by show _ ≤ 7 * c; omega) dX0_does_71 (fun rv_ M_ hp_ => ?_)
      have hp_ := coX_conv (o := e.2.1) (t := e.2.2.1) hY hp_
      obtain ⟨rfl, m2, s2, n2, hn2, rfl, hY2, hF2⟩ := hp_
      show au_Go G _ _ 74 [some (au_r XO), some (au_r (z, 0, 16))] [au_i ((coY (n, B, Pr, Co, mi XNrow, ns, S) e.2.1 e.2.2.1).1)] (m2, s2, hi, sl, r, n2) 0 0
      refine au_zret dX0_does_74 rfl (by first | exact coY_01 | exact awY_01 | exact sdY_01 | exact paY_01) rfl (by show _ ≤ c; omega) (by show _ ≤ 7 * c; omega) ?_
      refine ⟨?_, m2, s2, n2, hn2, rfl, ?_, hF2⟩
      · rw [show doY Lw e (n, B, Pr, Co, mi XNrow, ns, S) = _ from doY_204 e4]
      · rw [show doY Lw e (n, B, Pr, Co, mi XNrow, ns, S) = _ from doY_204 e4]; exact hY2
    · refine au_tableIn (off := 71) (tgt := 75) dX0_does_4 (by omega) (by omega) (by rw [e4]; rfl) (by decide) ?_
      have hc : 1 ≤ c := by rw [show doY Lw e (n, B, Pr, Co, mi XNrow, ns, S) = _ from doY_205 e4] at hc; exact hc
      refine au_aload_n dX0_does_75 rfl ?_
      refine au_aload_n dX0_does_76 rfl ?_
      refine au_callVp (n := 0) (kX16_a G z e.2.1 mi si hi sl r nx hz hz1) (lw_V q1121 q1122 q1123 q164 q1124) rfl (by decide +kernel) (show 16 < 40 by decide) (T := TX16) (N := 5) rfl rfl rfl rfl (Nat.le_of_ble_eq_true rfl) (by show _ ≤ (d + 13); omega) (by show _ ≤ 80 * (d + 13); omega) (by show _ ≤ c; omega) (by show _ ≤ 7 * c; omega) dX0_does_77 ?_
      refine au_aload_n dX0_does_80 rfl ?_
      refine au_callVp (n := 0) (kX16_b G z e.2.2.1 mi si hi sl r nx hz hz2) (lw_V q1117 q1118 q1119 q164 q1120) rfl (by decide +kernel) (show 16 < 40 by decide) (T := TX16) (N := 5) rfl rfl rfl rfl (Nat.le_of_ble_eq_true rfl) (by show _ ≤ (d + 13); omega) (by show _ ≤ 80 * (d + 13); omega) (by show _ ≤ c; omega) (by show _ ≤ 7 * c; omega) dX0_does_81 ?_
      refine au_aload_n dX0_does_84 rfl ?_
      refine au_callVp (n := 0) (kX16_c G z e.2.2.2.1 mi si hi sl r nx hz hz3) (lw_V q1127 q1128 q1129 q164 q1130) rfl (by decide +kernel) (show 16 < 40 by decide) (T := TX16) (N := 5) rfl rfl rfl rfl (Nat.le_of_ble_eq_true rfl) (by show _ ≤ (d + 13); omega) (by show _ ≤ 80 * (d + 13); omega) (by show _ ≤ c; omega) (by show _ ≤ 7 * c; omega) dX0_does_85 ?_
      refine au_callV (n := 3) (kX0_wrong G e.2.1 e.2.2.1 e.2.2.2.1 n B Pr Co (mi XNrow) ns S mi si hi sl r nx hF hnx hY hK) (lw_V q1131 q1071 q1072 q130 q1073) rfl (by decide +kernel) (by decide) (T := TX0) (N := 15) rfl rfl rfl rfl (Nat.le_of_ble_eq_true rfl) (by show _ ≤ (d + 13); omega) (by show _ ≤ 80 * (d + 13); omega) (by show _ ≤ c; omega) (by show _ ≤ 7 * c; omega) dX0_does_88 (fun rv_ M_ hp_ => ?_)
      obtain ⟨rfl, m2, s2, n2, hn2, rfl, hY2, hF2⟩ := hp_
      show au_Go G _ _ 91 [some (au_r XO), some (au_r (z, 0, 16))] [au_i ((wrY (n, B, Pr, Co, mi XNrow, ns, S) e.2.1 e.2.2.1 e.2.2.2.1).1)] (m2, s2, hi, sl, r, n2) 1 7
      refine au_iconst dX0_does_91 rfl rfl ?_
      refine au_icmp_eq (tgt := 99) dX0_does_92 (by decide) (fun c92 => ?_) (fun c92 => ?_)
      · refine au_iconst dX0_does_99 rfl rfl ?_
        refine au_zret dX0_does_100 rfl (Or.inl rfl) rfl (by show _ ≤ c; omega) (by show _ ≤ 7 * c; omega) ?_
        refine ⟨?_, m2, s2, n2, hn2, rfl, ?_, hF2⟩
        · rw [show doY Lw e (n, B, Pr, Co, mi XNrow, ns, S) = _ from doY_205 e4]
          first
          | exact congrArg (fun q => some (au_i q)) (if_pos c92).symm
          | exact congrArg (fun q => some (au_i q)) (if_neg c92).symm
        · rw [show doY Lw e (n, B, Pr, Co, mi XNrow, ns, S) = _ from doY_205 e4]; exact hY2
      · refine au_iconst dX0_does_95 rfl rfl ?_
        refine au_goto (tgt := 100) dX0_does_96 (by decide) ?_
        refine au_zret dX0_does_100 rfl (Or.inr rfl) rfl (by show _ ≤ c; omega) (by show _ ≤ 7 * c; omega) ?_
        refine ⟨?_, m2, s2, n2, hn2, rfl, ?_, hF2⟩
        · rw [show doY Lw e (n, B, Pr, Co, mi XNrow, ns, S) = _ from doY_205 e4]
          first
          | exact congrArg (fun q => some (au_i q)) (if_pos c92).symm
          | exact congrArg (fun q => some (au_i q)) (if_neg c92).symm
        · rw [show doY Lw e (n, B, Pr, Co, mi XNrow, ns, S) = _ from doY_205 e4]; exact hY2
    · refine au_tableIn (off := 97) (tgt := 101) dX0_does_4 (by omega) (by omega) (by rw [e4]; rfl) (by decide) ?_
      refine au_aload_n dX0_does_101 rfl ?_
      refine au_aload_n dX0_does_102 rfl ?_
      refine au_callVp (n := 0) (kX16_a G z e.2.1 mi si hi sl r nx hz hz1) (lw_V q1121 q1122 q1123 q164 q1124) rfl (by decide +kernel) (show 16 < 40 by decide) (T := TX16) (N := 5) rfl rfl rfl rfl (Nat.le_of_ble_eq_true rfl) (by show _ ≤ (d + 13); omega) (by show _ ≤ 80 * (d + 13); omega) (by show _ ≤ c; omega) (by show _ ≤ 7 * c; omega) dX0_does_103 ?_
      refine au_aload_n dX0_does_106 rfl ?_
      refine au_callVp (n := 0) (kX16_b G z e.2.2.1 mi si hi sl r nx hz hz2) (lw_V q1117 q1118 q1119 q164 q1120) rfl (by decide +kernel) (show 16 < 40 by decide) (T := TX16) (N := 5) rfl rfl rfl rfl (Nat.le_of_ble_eq_true rfl) (by show _ ≤ (d + 13); omega) (by show _ ≤ 80 * (d + 13); omega) (by show _ ≤ c; omega) (by show _ ≤ 7 * c; omega) dX0_does_107 ?_
      refine au_callV (n := 2) (kX0_away G e.2.1 e.2.2.1 n B Pr Co (mi XNrow) ns S mi si hi sl r nx hF hnx hY hK) (lw_V q1132 q1087 q1088 q130 q1089) rfl (by decide +kernel) (by decide) (T := TX0) (N := 15) rfl rfl rfl rfl (Nat.le_of_ble_eq_true rfl) (by show _ ≤ (d + 13); omega) (by show _ ≤ 80 * (d + 13); omega) (by show _ ≤ c; omega) (by show _ ≤ 7 * c; omega) dX0_does_110 (fun rv_ M_ hp_ => ?_)
      obtain ⟨rfl, m2, s2, n2, hn2, rfl, hY2, hF2⟩ := hp_
      show au_Go G _ _ 113 [some (au_r XO), some (au_r (z, 0, 16))] [au_i ((awY (n, B, Pr, Co, mi XNrow, ns, S) e.2.1 e.2.2.1).1)] (m2, s2, hi, sl, r, n2) 0 0
      refine au_zret dX0_does_113 rfl (by first | exact coY_01 | exact awY_01 | exact sdY_01 | exact paY_01) rfl (by show _ ≤ c; omega) (by show _ ≤ 7 * c; omega) ?_
      refine ⟨?_, m2, s2, n2, hn2, rfl, ?_, hF2⟩
      · rw [show doY Lw e (n, B, Pr, Co, mi XNrow, ns, S) = _ from doY_206 e4]
      · rw [show doY Lw e (n, B, Pr, Co, mi XNrow, ns, S) = _ from doY_206 e4]; exact hY2
    · refine au_tableIn (off := 110) (tgt := 114) dX0_does_4 (by omega) (by omega) (by rw [e4]; rfl) (by decide) ?_
      refine au_aload_n dX0_does_114 rfl ?_
      refine au_aload_n dX0_does_115 rfl ?_
      refine au_callVp (n := 0) (kX16_a G z e.2.1 mi si hi sl r nx hz hz1) (lw_V q1121 q1122 q1123 q164 q1124) rfl (by decide +kernel) (show 16 < 40 by decide) (T := TX16) (N := 5) rfl rfl rfl rfl (Nat.le_of_ble_eq_true rfl) (by show _ ≤ (d + 13); omega) (by show _ ≤ 80 * (d + 13); omega) (by show _ ≤ c; omega) (by show _ ≤ 7 * c; omega) dX0_does_116 ?_
      refine au_aload_n dX0_does_119 rfl ?_
      refine au_callVp (n := 0) (kX16_b G z e.2.2.1 mi si hi sl r nx hz hz2) (lw_V q1117 q1118 q1119 q164 q1120) rfl (by decide +kernel) (show 16 < 40 by decide) (T := TX16) (N := 5) rfl rfl rfl rfl (Nat.le_of_ble_eq_true rfl) (by show _ ≤ (d + 13); omega) (by show _ ≤ 80 * (d + 13); omega) (by show _ ≤ c; omega) (by show _ ≤ 7 * c; omega) dX0_does_120 ?_
      refine au_callV (n := 2) (kX0_sideways G e.2.1 e.2.2.1 n B Pr Co (mi XNrow) ns S mi si hi sl r nx hF hnx hY hK) (lw_V q1133 q1095 q1096 q130 q1097) rfl (by decide +kernel) (by decide) (T := TX0) (N := 15) rfl rfl rfl rfl (Nat.le_of_ble_eq_true rfl) (by show _ ≤ (d + 13); omega) (by show _ ≤ 80 * (d + 13); omega) (by show _ ≤ c; omega) (by show _ ≤ 7 * c; omega) dX0_does_123 (fun rv_ M_ hp_ => ?_)
      obtain ⟨rfl, m2, s2, n2, hn2, rfl, hY2, hF2⟩ := hp_
      show au_Go G _ _ 126 [some (au_r XO), some (au_r (z, 0, 16))] [au_i ((sdY (n, B, Pr, Co, mi XNrow, ns, S) e.2.1 e.2.2.1).1)] (m2, s2, hi, sl, r, n2) 0 0
      refine au_zret dX0_does_126 rfl (by first | exact coY_01 | exact awY_01 | exact sdY_01 | exact paY_01) rfl (by show _ ≤ c; omega) (by show _ ≤ 7 * c; omega) ?_
      refine ⟨?_, m2, s2, n2, hn2, rfl, ?_, hF2⟩
      · rw [show doY Lw e (n, B, Pr, Co, mi XNrow, ns, S) = _ from doY_207 e4]
      · rw [show doY Lw e (n, B, Pr, Co, mi XNrow, ns, S) = _ from doY_207 e4]; exact hY2
theorem kX0_played (G : au_G) (d : Nat) (Lw : au_Lw) (t tn : Int) (ds : List au_Do) (n : Int) (B Pr Co R : Int → Int) (ns : Int) (S : Nat → Int → Int) (c : Nat) (mi si hi sl : au_A → Int → Int) (r : au_A → Int → Option au_A) (nx : Nat) (hF : Fix r) (hnx : 1126 ≤ nx) (hX : EnX r hi mi d n B Pr Lw) (hY : XY mi (n, B, Pr, Co, R, ns, S)) (hK : YOK (n, B, Pr, Co, R, ns, S)) (hTn : mi XNn 1 = tn) (htn : 0 ≤ tn ∧ tn ≤ 4) (hT : 0 ≤ t → t < tn → ∃ tx : au_A, tx.2.2 = 4 ∧ r XNtext t = some tx ∧ DoAt r hi tx ds) (hds : ds.length < 100000) (hD : ∀ e ∈ ds, DoOK e) (hc : 0 ≤ t → t < tn → (plF Lw ds (n, B, Pr, Co, R, ns, S)).2.2 ≤ c) : au_Ctr G yX0_played cX0_played 4 (some .int) (d + 14) c (7 * c) [au_r XO, au_i t] (mi, si, hi, sl, r, nx) (PoX hi sl r nx mi (some (au_i (if 0 ≤ t ∧ t < tn then (plF Lw ds (n, B, Pr, Co, R, ns, S)).1 else -2))) (if 0 ≤ t ∧ t < tn then (plF Lw ds (n, B, Pr, Co, R, ns, S)).2.1 else (n, B, Pr, Co, R, ns, S))) := by
  refine au_of (by decide) (Nat.le_of_ble_eq_true rfl) ?_
  show au_Go G _ _ 0 [some (au_r XO), some (au_i t), none, none] [] (mi, si, hi, sl, r, nx) 0 0
  refine au_aload_n dX0_played_0 rfl ?_
  refine au_iload_n dX0_played_1 rfl ?_
  refine au_callVp (n := 1) (kX0_isText G t mi si hi sl r nx hF tn hTn htn) (lw_V q882 q884 qs24 q130 q885) rfl (by decide +kernel) (by decide) (T := TX0) (N := 15) rfl rfl rfl rfl (Nat.le_of_ble_eq_true rfl) (by show _ ≤ (d + 14); omega) (by show _ ≤ 80 * (d + 14); omega) (by show _ ≤ c; omega) (by show _ ≤ 7 * c; omega) dX0_played_2 ?_
  refine au_if_ne (tgt := 11) dX0_played_5 (by decide) (fun c5 => ?_) (fun c5 => ?_)
  · have c5 := au_b1 c5
    have ht : 0 ≤ t ∧ t < tn := c5
    obtain ⟨⟨tp, tq, tk⟩, hk4, ht1, p, hp, hdo, hlen, hdl⟩ := hT ht.1 ht.2
    have hk4 : tk = 4 := hk4
    subst hk4
    have hcc := hc ht.1 ht.2
    refine au_aload_n dX0_played_11 rfl ?_
    refine au_getf (C := RX0) (T := TX0) (N := 15) in_X0 (by decide) rfl 0 (by decide) rfl rfl q245 rfl dX0_played_12 (v := au_r XN) (congrArg au_q (fx_XO_0 hF)) ?_
    refine au_getN (C := RX1) (T := TX1) (N := 11) in_X1 (by decide) rfl 10 (by decide) rfl rfl q207 rfl dX0_played_15 (v := au_r XNtext) (congrArg au_q (fx_XN_10 hF)) ?_
    refine au_iload_n dX0_played_18 rfl ?_
    refine au_aald dX0_played_19 (by decide) (by decide) (by omega) (by show _ < ((4 : Nat) : Int); omega) (v := au_r (tp, tq, 4)) (congrArg au_q (ht1)) ?_
    refine au_getN (C := RX4) (T := TX4) (N := 3) in_X4 (show 4 < 40 by decide) rfl 2 (by decide) rfl rfl q402 rfl dX0_played_20 (v := au_r (p, 0, 17)) (congrArg au_q (hdo)) ?_
    refine au_astore_n dX0_played_23 (show 2 < 4 by decide) ?_
    show au_Go G _ _ 24 [some (au_r XO), some (au_i t), some (au_r (p, 0, 17)), none] [] (mi, si, hi, sl, r, nx) 0 0
    refine au_iconst dX0_played_24 rfl rfl ?_
    refine au_istore_n dX0_played_25 (show 3 < 4 by decide) ?_
    show au_Go G _ _ 26 [some (au_r XO), some (au_i t), some (au_r (p, 0, 17)), some (au_i 0)] [] (mi, si, hi, sl, r, nx) 0 0
    have hl : ∀ (f : Nat) (k : Nat) (nk : Int) (Bk Pk Ck Rk : Int → Int) (mk : Int) (Sk : Nat → Int → Int) (wj : Nat) (mj sj : au_A → Int → Int) (xj : Nat), k ≤ ds.length → YOK (nk, Bk, Pk, Ck, Rk, mk, Sk) → XY mj (nk, Bk, Pk, Ck, Rk, mk, Sk) → FrX mi mj → EnX r hi mj d nk Bk Pk Lw → nx ≤ xj → wj + (plF Lw (ds.drop k) (nk, Bk, Pk, Ck, Rk, mk, Sk)).2.2 ≤ c → (plF Lw (ds.drop k) (nk, Bk, Pk, Ck, Rk, mk, Sk)).1 = (plF Lw ds (n, B, Pr, Co, R, ns, S)).1 → (plF Lw (ds.drop k) (nk, Bk, Pk, Ck, Rk, mk, Sk)).2.1 = (plF Lw ds (n, B, Pr, Co, R, ns, S)).2.1 → ds.length - k < f → au_Go G (yX0_played.cls, cX0_played, 4, (some .int), au_rm (d + 14) c (7 * c), yX0_played.name) (au_QM G (au_rm (d + 14) c (7 * c)) (PoX hi sl r nx mi (some (au_i (if 0 ≤ t ∧ t < tn then (plF Lw ds (n, B, Pr, Co, R, ns, S)).1 else -2))) (if 0 ≤ t ∧ t < tn then (plF Lw ds (n, B, Pr, Co, R, ns, S)).2.1 else (n, B, Pr, Co, R, ns, S)))) 26 [some (au_r XO), some (au_i t), some (au_r (p, 0, 17)), some (au_i (k : Int))] [] (mj, sj, hi, sl, r, xj) wj (7 * wj) := by
      intro f
      induction f with
      | zero => intro k nk Bk Pk Ck Rk mk Sk wj mj sj xj h1 hKk hYk hFk hXk hn3 hw hv hy hf; exfalso; omega
      | succ f ih =>
        intro k nk Bk Pk Ck Rk mk Sk wj mj sj xj h1 hKk hYk hFk hXk hn3 hw hv hy hf
        have hw0 : wj ≤ c := Nat.le_trans (Nat.le_add_right _ _) hw
        refine au_iload_n dX0_played_26 rfl ?_
        refine au_aload_n dX0_played_27 rfl ?_
        refine au_callVp (n := 0) (kJ3_sizeN G p (ds.length : Int) mj sj hi sl r xj hp hlen) (lw_V q1106 q689 q690 q139 q691) rfl (by decide +kernel) (show 17 < 40 by decide) (T := TJ3) (N := 3) rfl rfl rfl rfl (Nat.le_of_ble_eq_true rfl) (by show _ ≤ (d + 14); omega) (by show _ ≤ 80 * (d + 14); omega) (by show _ ≤ c; omega) (by show _ ≤ 7 * c; omega) dX0_played_28 ?_
        refine au_icmp_ge (tgt := 67) dX0_played_31 (by decide) (fun c31 => ?_) (fun c31 => ?_)
        · refine au_iconst dX0_played_67 rfl rfl ?_
          refine au_iret dX0_played_68 rfl rfl (by show _ ≤ c; omega) (by show _ ≤ 7 * c; omega) ?_
          rw [List.drop_eq_nil_of_le (by omega)] at hv hy
          have hv : (-1 : Int) = _ := hv
          have hy : (nk, Bk, Pk, Ck, Rk, mk, Sk) = _ := hy
          refine ⟨?_, mj, sj, xj, hn3, rfl, ?_, hFk⟩
          · rw [if_pos ht, ← hv]
          · rw [if_pos ht, ← hy]; exact hYk
        · have hk : k < ds.length := by omega
          obtain ⟨q, c_, hls, hel⟩ := hdl (by omega)
          obtain ⟨z, hz, hzr, z0, z1, z2, z3, z4⟩ := hel k ds[k] (List.getElem?_eq_getElem hk)
          rw [List.drop_eq_getElem_cons hk] at hw hv hy
          have hw1 : wj + (doY Lw ds[k] (nk, Bk, Pk, Ck, Rk, mk, Sk)).2.2 ≤ c := by
            unfold plF at hw
            split at hw
            · exact hw
            · have hw : wj + (_ + _) ≤ c := hw
              omega
          refine au_aload_n dX0_played_34 rfl ?_
          refine au_aload_n dX0_played_35 rfl ?_
          refine au_iload_n dX0_played_36 rfl ?_
          refine au_callVp (n := 1) (kJ3_get G p q c_ ds.length (k : Int) (z, 0, 16) mj sj hi sl r xj hls (by omega) (by omega) hzr) (lw_V q1107 q693 q694 q139 q695) rfl (by decide +kernel) (show 17 < 40 by decide) (T := TJ3) (N := 3) rfl rfl rfl rfl (Nat.le_of_ble_eq_true rfl) (by show _ ≤ (d + 14); omega) (by show _ ≤ 80 * (d + 14); omega) (by show _ ≤ c; omega) (by show _ ≤ 7 * c; omega) dX0_played_37 ?_
          refine au_castS (T := TX16) (N := 5) (show 16 < 40 by decide) rfl rfl q1108 dX0_played_40 ?_
          refine au_callV (n := 1) (kX0_does G d Lw z ds[k] nk Bk Pk Ck Rk mk Sk (doY Lw ds[k] (nk, Bk, Pk, Ck, Rk, mk, Sk)).2.2 mj sj hi sl r xj hF (by omega) hXk hYk hKk hz z0 z1 z2 z3 z4 (hD _ (List.getElem_mem hk)) (Nat.le_refl _)) (lw_V q1109 q1111 qs40 q130 q1112) rfl (by decide +kernel) (by decide) (T := TX0) (N := 15) rfl rfl rfl rfl (Nat.le_of_ble_eq_true rfl) (by show _ ≤ (d + 14); omega) (by show _ ≤ 80 * (d + 14); omega) (by show _ ≤ c; omega) (by show _ ≤ 7 * c; omega) dX0_played_43 (fun rv_ M_ hp_ => ?_)
          obtain ⟨rfl, m2, s2, n2, hn2, rfl, hY2, hF2⟩ := hp_
          show au_Go G _ _ 46 [some (au_r XO), some (au_i t), some (au_r (p, 0, 17)), some (au_i (k : Int))] [au_i ((doY Lw ds[k] (nk, Bk, Pk, Ck, Rk, mk, Sk)).1)] (m2, s2, hi, sl, r, n2) (wj + ((doY Lw ds[k] (nk, Bk, Pk, Ck, Rk, mk, Sk)).2.2)) ((7 * wj) + (7 * (doY Lw ds[k] (nk, Bk, Pk, Ck, Rk, mk, Sk)).2.2))
          refine au_if_ne (tgt := 61) dX0_played_46 (by decide) (fun c46 => ?_) (fun c46 => ?_)
          · refine au_iinc dX0_played_61 rfl (show 3 < 4 by decide) (by omega) (by omega) (by decide) (by decide) ?_
            show au_Go G _ _ 64 [some (au_r XO), some (au_i t), some (au_r (p, 0, 17)), some (au_i ((k : Int) + 1))] [] (m2, s2, hi, sl, r, n2) (wj + ((doY Lw ds[k] (nk, Bk, Pk, Ck, Rk, mk, Sk)).2.2)) ((7 * wj) + (7 * (doY Lw ds[k] (nk, Bk, Pk, Ck, Rk, mk, Sk)).2.2))
            refine au_goto (tgt := 26) dX0_played_64 (by decide) ?_
            have e1 : plF Lw (ds[k] :: ds.drop (k + 1)) (nk, Bk, Pk, Ck, Rk, mk, Sk) = _ := if_neg c46
            rw [e1] at hw hv hy
            have hw : wj + (_ + _) ≤ c := hw
            rw [show 7 * wj + 7 * (doY Lw ds[k] (nk, Bk, Pk, Ck, Rk, mk, Sk)).2.2 = 7 * (wj + (doY Lw ds[k] (nk, Bk, Pk, Ck, Rk, mk, Sk)).2.2) by omega]
            have hK2 := doY_ok (Lw := Lw) hKk ds[k]
            exact ih (k + 1) _ _ _ _ _ _ _ _ _ _ _ (by omega) hK2 hY2 (hFk.tr hF2) (hXk.to hF2 hY2 hK2) (by omega) (by rw [Nat.add_assoc]; exact hw) hv hy (by omega)
          · refine au_aload_n dX0_played_49 rfl ?_
            refine au_iload_n dX0_played_50 rfl ?_
            refine au_callVp (n := 1) (kJ3_get G p q c_ ds.length (k : Int) (z, 0, 16) m2 s2 hi sl r n2 hls (by omega) (by omega) hzr) (lw_V q1107 q693 q694 q139 q695) rfl (by decide +kernel) (show 17 < 40 by decide) (T := TJ3) (N := 3) rfl rfl rfl rfl (Nat.le_of_ble_eq_true rfl) (by show _ ≤ (d + 14); omega) (by show _ ≤ 80 * (d + 14); omega) (by show _ ≤ c; omega) (by show _ ≤ 7 * c; omega) dX0_played_51 ?_
            refine au_castS (T := TX16) (N := 5) (show 16 < 40 by decide) rfl rfl q1108 dX0_played_54 ?_
            refine au_callVp (n := 0) (kX16_number G z ds[k].2.2.2.2 m2 s2 hi sl r n2 hz z4) (lw_V q1139 q1140 q1141 q164 q1142) rfl (by decide +kernel) (show 16 < 40 by decide) (T := TX16) (N := 5) rfl rfl rfl rfl (Nat.le_of_ble_eq_true rfl) (by show _ ≤ (d + 14); omega) (by show _ ≤ 80 * (d + 14); omega) (by show _ ≤ c; omega) (by show _ ≤ 7 * c; omega) dX0_played_57 ?_
            refine au_iret dX0_played_60 rfl rfl (by show _ ≤ c; omega) (by show _ ≤ 7 * c; omega) ?_
            have e1 : plF Lw (ds[k] :: ds.drop (k + 1)) (nk, Bk, Pk, Ck, Rk, mk, Sk) = _ := if_pos c46
            rw [e1] at hv hy
            have hv : ds[k].2.2.2.2 = _ := hv
            refine ⟨?_, m2, s2, n2, by omega, rfl, ?_, hFk.tr hF2⟩
            · rw [if_pos ht, ← hv]
            · rw [if_pos ht, ← hy]; exact hY2
    exact hl (ds.length + 1) 0 n B Pr Co R ns S 0 mi si nx (by omega) hK hY (FrX.rf mi) hX (Nat.le_refl _) (by rw [List.drop_zero]; omega) (by rw [List.drop_zero]) (by rw [List.drop_zero]) (by omega)
  · have c5 := au_b0 c5
    refine au_bipush dX0_played_8 rfl rfl ?_
    refine au_iret dX0_played_10 rfl rfl (by show _ ≤ c; omega) (by show _ ≤ 7 * c; omega) ?_
    refine ⟨?_, mi, si, nx, Nat.le_refl _, rfl, ?_, FrX.rf mi⟩
    · rw [if_neg c5]
    · rw [if_neg c5]; exact hY
