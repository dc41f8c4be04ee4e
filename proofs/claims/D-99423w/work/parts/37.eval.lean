/-! WHAT A TEXT SAYS: what sums and askings come to by names, how they lie in the heap -/
set_option maxRecDepth 100000
/-- two by a sign, kept within a million -/
def twoF (s a b : Int) : Int := max (-1000000) (min 1000000 (if s = 43 then a + b else if s = 45 then a - b else if s = 42 then a * b else if b = 0 then 0 else Int.tdiv a b))
def hlvF (x : Int) : Nat → Int
  | 0 => x
  | t + 1 => if x = 0 then 0 else hlvF (Int.tdiv x 2) t
def cmpF (s d : Int) : Int := if s = 60 then (if d < 0 then 1 else 0) else if s = 62 then (if 0 < d then 1 else 0) else if s = 61 then (if d = 0 then 1 else 0) else if s = 35 then (if d = 0 then 0 else 1) else if s = 303 then (if d ≤ 0 then 1 else 0) else (if 0 ≤ d then 1 else 0)
def rnkF (nm : Int → Int) (o : Int) : Int := if o < 0 ∨ 10 ≤ o then 0 else nm (9 + o)
/-- ints -/
def I32 (v : Int) : Prop := -2147483648 ≤ v ∧ v ≤ 2147483647
/-- one more than ints: what a sum comes to -/
def I33 (v : Int) : Prop := -2147483648 ≤ v ∧ v ≤ 2147483648
theorem twoF_bd (s a b : Int) : I33 (twoF s a b) := by unfold twoF I33; omega
theorem tdiv2 (x : Int) : Int.tdiv x 2 = if 0 ≤ x then x / 2 else -((-x) / 2) := by
  split
  · rename_i h; exact Int.tdiv_eq_ediv_of_nonneg h
  · rename_i h
    have h1 : Int.tdiv (-x) 2 = (-x) / 2 := Int.tdiv_eq_ediv_of_nonneg (by omega)
    rw [Int.neg_tdiv] at h1
    omega
theorem hlvF_bd : ∀ (t : Nat) (x : Int), I33 x → I33 (hlvF x t) := by
  intro t
  induction t with
  | zero => intro x h; exact h
  | succ t ih =>
    intro x h
    simp only [hlvF]
    split
    · unfold I33; omega
    · refine ih _ ?_
      rw [tdiv2]
      unfold I33 at h ⊢
      split <;> omega
theorem cmpF_01 (s d : Int) : cmpF s d = 0 ∨ cmpF s d = 1 := by
  unfold cmpF
  repeat' split
  all_goals first | exact Or.inl rfl | exact Or.inr rfl
def ICm (_ : au_A → Int → Int) : Prop := True
/-- a list's cells: where, how many -/
def LsAt (r : au_A → Int → Option au_A) (hi : au_A → Int → Int) (p : Nat) (q c n : Nat) : Prop := 1126 ≤ p ∧ r (p, 0, 17) 1 = some (q, c, 45) ∧ hi (p, 0, 17) 2 = (n : Int) ∧ n ≤ c ∧ c < 100000
/-- the kinds of sums, of askings -/
def sk (a : au_A) : Prop := a.2.2 = 6 ∨ a.2.2 = 7 ∨ a.2.2 = 11 ∨ a.2.2 = 12 ∨ a.2.2 = 13 ∨ a.2.2 = 14 ∨ a.2.2 = 15
def ak (a : au_A) : Prop := a.2.2 = 8 ∨ a.2.2 = 9 ∨ a.2.2 = 10
abbrev au_F : Type := (Int → Int) → Int
/-- a chain's parts: F j is what the first j of it come to -/
def ChAt (r : au_A → Int → Option au_A) (hi : au_A → Int → Int) (X : au_A → au_F → Prop) (p n : Nat) (F : Nat → au_F) : Prop :=
  ∃ (s : au_A) (m g mq mc gq gc : Nat), r (p, 0, 6) 0 = some s ∧ sk s ∧ X s (F 0) ∧ r (p, 0, 6) 1 = some (m, 0, 17) ∧ r (p, 0, 6) 2 = some (g, 0, 17) ∧ LsAt r hi m mq mc n ∧ LsAt r hi g gq gc n ∧
    ∀ j : Nat, j < n → ∃ (t : au_A) (b : au_F) (sg : Int), r (mq, mc, 45) (j : Int) = some t ∧ r (gq, gc, 45) (j : Int) = some (ic sg) ∧ -128 ≤ sg ∧ sg ≤ 127 ∧ sk t ∧ X t b ∧ ∀ nm, F (j + 1) nm = twoF sg (F j nm) (b nm)
/-- askings in a list: F j is how many of the first j are so -/
def AlAt (r : au_A → Int → Option au_A) (hi : au_A → Int → Int) (X : au_A → au_F → Prop) (l n : Nat) (F : Nat → au_F) : Prop :=
  ∃ (q c : Nat), LsAt r hi l q c n ∧ (∀ nm, F 0 nm = 0) ∧ ∀ j : Nat, j < n → ∃ (t : au_A) (b : au_F), r (q, c, 45) (j : Int) = some t ∧ ak t ∧ X t b ∧ ∀ nm, F (j + 1) nm = F j nm + b nm
/-- how a sum or an asking lies in the heap, and what it comes to -/
def au_X (r : au_A → Int → Option au_A) (hi : au_A → Int → Int) : Nat → au_A → au_F → Prop
  | 0, _, _ => False
  | d + 1, a, f => ∃ p : Nat, 1126 ≤ p ∧ (
      (a = (p, 0, 7) ∧ 0 ≤ hi a 0 ∧ hi a 0 ≤ 9999 ∧ ∀ nm, f nm = hi a 0)
    ∨ (a = (p, 0, 13) ∧ 0 ≤ hi a 0 ∧ hi a 0 < 9 ∧ ∀ nm, f nm = nm (hi a 0))
    ∨ (a = (p, 0, 15) ∧ ∃ (s : au_A) (g : au_F), r a 0 = some s ∧ sk s ∧ au_X r hi d s g ∧ ∀ nm, f nm = -g nm)
    ∨ (a = (p, 0, 14) ∧ ∃ (s : au_A) (g : au_F), r a 0 = some s ∧ sk s ∧ au_X r hi d s g ∧ ∀ nm, f nm = rnkF nm (g nm))
    ∨ (a = (p, 0, 12) ∧ ∃ (s t : au_A) (g h : au_F), r a 0 = some s ∧ r a 1 = some t ∧ sk s ∧ sk t ∧ au_X r hi d s g ∧ au_X r hi d t h ∧ ∀ nm, f nm = hlvF (g nm) (h nm).toNat)
    ∨ (a = (p, 0, 11) ∧ ∃ (c s t : au_A) (q g h : au_F), r a 0 = some c ∧ r a 1 = some s ∧ r a 2 = some t ∧ ak c ∧ sk s ∧ sk t ∧ au_X r hi d c q ∧ au_X r hi d s g ∧ au_X r hi d t h ∧ ∀ nm, f nm = if q nm = 0 then h nm else g nm)
    ∨ (a = (p, 0, 6) ∧ ∃ (n : Nat) (F : Nat → au_F), ChAt r hi (au_X r hi d) p n F ∧ ∀ nm, f nm = F n nm)
    ∨ (a = (p, 0, 9) ∧ ∃ (s t : au_A) (g h : au_F), r a 1 = some s ∧ r a 2 = some t ∧ sk s ∧ sk t ∧ au_X r hi d s g ∧ au_X r hi d t h ∧ ∀ nm, f nm = cmpF (hi a 0) (g nm - h nm))
    ∨ (a = (p, 0, 8) ∧ ∃ (s : au_A) (g : au_F), r a 0 = some s ∧ ak s ∧ au_X r hi d s g ∧ ∀ nm, f nm = 1 - g nm)
    ∨ (a = (p, 0, 10) ∧ ∃ (l n : Nat) (F : Nat → au_F), r a 1 = some (l, 0, 17) ∧ AlAt r hi (au_X r hi d) l n F ∧ (hi a 0 = 0 ∨ hi a 0 = 1) ∧ ∀ nm, f nm = if hi a 0 = 0 then (if 0 < F n nm then 1 else 0) else (if F n nm = (n : Int) then 1 else 0)))
theorem ChAt.mono {r : au_A → Int → Option au_A} {hi : au_A → Int → Int} {X Y : au_A → au_F → Prop} {p n : Nat} {F : Nat → au_F} (h : ChAt r hi X p n F) (hm : ∀ a f, X a f → Y a f) : ChAt r hi Y p n F := by
  obtain ⟨s, m, g, mq, mc, gq, gc, a1, a2, a3, a4, a5, a6, a7, a8⟩ := h
  refine ⟨s, m, g, mq, mc, gq, gc, a1, a2, hm _ _ a3, a4, a5, a6, a7, fun j hj => ?_⟩
  obtain ⟨t, b, sg, b1, b2, b3, b4, b5, b6, b7⟩ := a8 j hj
  exact ⟨t, b, sg, b1, b2, b3, b4, b5, hm _ _ b6, b7⟩
theorem AlAt.mono {r : au_A → Int → Option au_A} {hi : au_A → Int → Int} {X Y : au_A → au_F → Prop} {p n : Nat} {F : Nat → au_F} (h : AlAt r hi X p n F) (hm : ∀ a f, X a f → Y a f) : AlAt r hi Y p n F := by
  obtain ⟨q, c, a1, a2, a3⟩ := h
  refine ⟨q, c, a1, a2, fun j hj => ?_⟩
  obtain ⟨t, b, b1, b2, b3, b4⟩ := a3 j hj
  exact ⟨t, b, b1, b2, hm _ _ b3, b4⟩
theorem au_X.step {r : au_A → Int → Option au_A} {hi : au_A → Int → Int} : ∀ (d : Nat) (a : au_A) (f : au_F), au_X r hi d a f → au_X r hi (d + 1) a f := by
  intro d
  induction d with
  | zero => intro a f h; exact h.elim
  | succ d ih =>
    intro a f h
    obtain ⟨p, hp, h⟩ := h
    refine ⟨p, hp, ?_⟩
    rcases h with h | h | ⟨h, s, g, x1, x2, x3, x4⟩ | ⟨h, s, g, x1, x2, x3, x4⟩ | ⟨h, s, t, g, k, x1, x2, x3, x4, x5, x6, x7⟩ | ⟨h, c, s, t, q, g, k, x1, x2, x3, x4, x5, x6, x7, x8, x9, x10⟩ | ⟨h, n, F, x1, x2⟩ | ⟨h, s, t, g, k, x1, x2, x3, x4, x5, x6, x7⟩ | ⟨h, s, g, x1, x2, x3, x4⟩ | ⟨h, l, n, F, x1, x2, x3, x4⟩
    · exact Or.inl h
    · exact Or.inr (Or.inl h)
    · exact Or.inr (Or.inr (Or.inl ⟨h, s, g, x1, x2, ih _ _ x3, x4⟩))
    · exact Or.inr (Or.inr (Or.inr (Or.inl ⟨h, s, g, x1, x2, ih _ _ x3, x4⟩)))
    · exact Or.inr (Or.inr (Or.inr (Or.inr (Or.inl ⟨h, s, t, g, k, x1, x2, x3, x4, ih _ _ x5, ih _ _ x6, x7⟩))))
    · exact Or.inr (Or.inr (Or.inr (Or.inr (Or.inr (Or.inl ⟨h, c, s, t, q, g, k, x1, x2, x3, x4, x5, x6, ih _ _ x7, ih _ _ x8, ih _ _ x9, x10⟩)))))
    · exact Or.inr (Or.inr (Or.inr (Or.inr (Or.inr (Or.inr (Or.inl ⟨h, n, F, x1.mono ih, x2⟩))))))
    · exact Or.inr (Or.inr (Or.inr (Or.inr (Or.inr (Or.inr (Or.inr (Or.inl ⟨h, s, t, g, k, x1, x2, x3, x4, ih _ _ x5, ih _ _ x6, x7⟩)))))))
    · exact Or.inr (Or.inr (Or.inr (Or.inr (Or.inr (Or.inr (Or.inr (Or.inr (Or.inl ⟨h, s, g, x1, x2, ih _ _ x3, x4⟩))))))))
    · exact Or.inr (Or.inr (Or.inr (Or.inr (Or.inr (Or.inr (Or.inr (Or.inr (Or.inr ⟨h, l, n, F, x1, x2.mono ih, x3, x4⟩))))))))
theorem au_X.deeper {r : au_A → Int → Option au_A} {hi : au_A → Int → Int} {d : Nat} {a : au_A} {f : au_F} (h : au_X r hi d a f) : ∀ d', d ≤ d' → au_X r hi d' a f := by
  intro d' hd
  obtain ⟨k, rfl⟩ : ∃ k, d' = d + k := ⟨d' - d, by omega⟩
  clear hd
  induction k with
  | zero => exact h
  | succ k ih => exact au_X.step _ _ _ ih
/-- what it comes to lies within bounds -/
theorem au_X.bd {nm : Int → Int} (hn : ∀ k, 0 ≤ k → k < 19 → I32 (nm k)) {r : au_A → Int → Option au_A} {hi : au_A → Int → Int} : ∀ (d : Nat) (a : au_A) (f : au_F), au_X r hi d a f → (sk a → I33 (f nm)) ∧ (ak a → f nm = 0 ∨ f nm = 1) := by
  intro d
  induction d with
  | zero => intro a f h; exact h.elim
  | succ d ih =>
    intro a f h
    obtain ⟨p, hp, h⟩ := h
    unfold I32 at hn
    rcases h with ⟨h, x1, x2, x3⟩ | ⟨h, x1, x2, x3⟩ | ⟨h, s, g, x1, x2, x3, x4⟩ | ⟨h, s, g, x1, x2, x3, x4⟩ | ⟨h, s, t, g, k, x1, x2, x3, x4, x5, x6, x7⟩ | ⟨h, c, s, t, q, g, k, x1, x2, x3, x4, x5, x6, x7, x8, x9, x10⟩ | ⟨h, n, F, x1, x2⟩ | ⟨h, s, t, g, k, x1, x2, x3, x4, x5, x6, x7⟩ | ⟨h, s, g, x1, x2, x3, x4⟩ | ⟨h, l, n, F, x1, x2, x3, x4⟩
    · refine ⟨fun _ => ?_, fun q => by rw [h] at q; simp [ak] at q⟩
      rw [x3]; unfold I33; omega
    · refine ⟨fun _ => ?_, fun q => by rw [h] at q; simp [ak] at q⟩
      have := hn _ x1 (by omega)
      rw [x3]; unfold I33; omega
    · refine ⟨fun _ => ?_, fun q => by rw [h] at q; simp [ak] at q⟩
      have := (ih _ _ x3).1 x2
      rw [x4]; unfold I33 at this ⊢; omega
    · refine ⟨fun _ => ?_, fun q => by rw [h] at q; simp [ak] at q⟩
      rw [x4]; unfold rnkF
      split
      · unfold I33; omega
      · have := hn (9 + g nm) (by omega) (by omega)
        unfold I33; omega
    · refine ⟨fun _ => ?_, fun q => by rw [h] at q; simp [ak] at q⟩
      rw [x7]; exact hlvF_bd _ _ ((ih _ _ x5).1 x3)
    · refine ⟨fun _ => ?_, fun q => by rw [h] at q; simp [ak] at q⟩
      rw [x10]
      split
      · exact (ih _ _ x9).1 x6
      · exact (ih _ _ x8).1 x5
    · refine ⟨fun _ => ?_, fun q => by rw [h] at q; simp [ak] at q⟩
      rw [x2]
      obtain ⟨s, m, g, mq, mc, gq, gc, a1, a2, a3, a4, a5, a6, a7, a8⟩ := x1
      cases n with
      | zero => exact (ih _ _ a3).1 a2
      | succ n =>
        obtain ⟨t, b, sg, b1, b2, b3, b4, b5, b6, b7⟩ := a8 n (by omega)
        rw [b7]; exact twoF_bd _ _ _
    · refine ⟨fun q => by rw [h] at q; simp [sk] at q, fun _ => ?_⟩
      rw [x7]; exact cmpF_01 _ _
    · refine ⟨fun q => by rw [h] at q; simp [sk] at q, fun _ => ?_⟩
      have := (ih _ _ x3).2 x2
      rw [x4]; omega
    · refine ⟨fun q => by rw [h] at q; simp [sk] at q, fun _ => ?_⟩
      rw [x4]; repeat' split
      all_goals first | exact Or.inl rfl | exact Or.inr rfl
