/-! PURE: the model's steps run on two stacks (values, truths) -/
set_option maxRecDepth 100000
abbrev au_St : Type := List Int × List Int
def on1 (g : Int → Int) (s : au_St) : Option au_St := match s.1 with
  | b :: r => some (g b :: r, s.2)
  | [] => none
def on2 (g : Int → Int → Int) (s : au_St) : Option au_St := match s.1 with
  | b :: a :: r => some (g a b :: r, s.2)
  | _ => none
def onC (g : Int → Int → Int) (s : au_St) : Option au_St := match s.1 with
  | b :: a :: r => some (r, g a b :: s.2)
  | _ => none
def onS (s : au_St) : Option au_St := match s.1, s.2 with
  | b :: a :: r, x :: t => some ((if x = 0 then b else a) :: r, t)
  | _, _ => none
def onN (s : au_St) : Option au_St := match s.2 with
  | x :: t => some (s.1, (1 - x) :: t)
  | [] => none
def jnF (o x y : Int) : Int := if o = 21 then (if x = 0 then 0 else y) else (if x = 0 then y else 1)
def onJ (o : Int) (s : au_St) : Option au_St := match s.2 with
  | y :: x :: t => some (s.1, jnF o x y :: t)
  | _ => none
/-- one step; none where it can't be done -/
def stp (nm rk : Int → Int) (o v : Int) (s : au_St) : Option au_St :=
  if o = 0 then (if 0 ≤ v ∧ v ≤ 9999 then some (v :: s.1, s.2) else none)
  else if o = 1 then (if 0 ≤ v ∧ v < 9 then some (nm v :: s.1, s.2) else none)
  else if o = 3 then onS s
  else if o = 5 then on1 (fun b => -b) s
  else if o = 2 then on1 rk s
  else if o = 4 then on2 (fun a b => hlvF a b.toNat) s
  else if 6 ≤ o ∧ o ≤ 9 then on2 (twoF (sgO o)) s
  else if 10 ≤ o ∧ o ≤ 15 then onC (fun a b => cmpF (sgC o) (a - b)) s
  else if o = 20 then onN s
  else if o = 21 ∨ o = 22 then onJ o s
  else none
/-- steps of a list -/
def runL (nm rk : Int → Int) : List (Int × Int) → au_St → Option au_St
  | [], s => some s
  | q :: c, s => match stp nm rk q.1 q.2 s with
    | none => none
    | some s' => runL nm rk c s'
theorem runL_app (nm rk : Int → Int) : ∀ (c d : List (Int × Int)) (s s' : au_St), runL nm rk c s = some s' → runL nm rk (c ++ d) s = runL nm rk d s' := by
  intro c
  induction c with
  | nil => intro d s s' h; cases h; rfl
  | cons q c ih =>
    intro d s s' h
    simp only [runL, List.cons_append] at h ⊢
    cases hs : stp nm rk q.1 q.2 s with
    | none => rw [hs] at h; cases h
    | some s1 => rw [hs] at h; exact ih d s1 s' h
/-- values on a stack lie from its bottom on -/
def Vw (m : Int → Int) : List Int → Prop
  | [] => True
  | x :: r => m (r.length : Int) = x ∧ Vw m r
theorem Vw_congr {m m' : Int → Int} : ∀ (s : List Int), (∀ j : Int, 0 ≤ j → j < (s.length : Int) → m' j = m j) → Vw m s → Vw m' s
  | [], _, _ => trivial
  | x :: r, h, h2 => ⟨(h _ (by omega) (by rw [List.length_cons]; omega)).trans h2.1, Vw_congr r (fun j h0 h1 => h j h0 (by rw [List.length_cons]; omega)) h2.2⟩
theorem Vw_up {m : Int → Int} {s : List Int} {k v : Int} (hk : (s.length : Int) ≤ k) (h : Vw m s) : Vw (fun j => if j = k then v else m j) s :=
  Vw_congr s (fun j _ h1 => if_neg (by omega)) h
theorem Vw_push {m : Int → Int} {s : List Int} {k v : Int} (hk : k = (s.length : Int)) (h : Vw m s) : Vw (fun j => if j = k then v else m j) (v :: s) :=
  ⟨if_pos hk.symm, Vw_up (by omega) h⟩
def allI (s : au_St) : Prop := (∀ x ∈ s.1, I33 x) ∧ ∀ x ∈ s.2, x = 0 ∨ x = 1
def CdAt (m : Int → Int) (co : Int) : Int → List (Int × Int) → Prop
  | _, [] => True
  | i, q :: c => m (co + 2 * i) = q.1 ∧ m (co + 2 * i + 1) = q.2 ∧ CdAt m co (i + 1) c
theorem on1_inv {g : Int → Int} {s s' : au_St} (h : on1 g s = some s') : ∃ b r, s.1 = b :: r ∧ s' = (g b :: r, s.2) := by
  unfold on1 at h
  split at h
  · rename_i b r e; exact ⟨b, r, e, (Option.some.inj h).symm⟩
  · cases h
theorem on2_inv {g : Int → Int → Int} {s s' : au_St} (h : on2 g s = some s') : ∃ b a r, s.1 = b :: a :: r ∧ s' = (g a b :: r, s.2) := by
  unfold on2 at h
  split at h
  · rename_i b a r e; exact ⟨b, a, r, e, (Option.some.inj h).symm⟩
  · cases h
theorem onC_inv {g : Int → Int → Int} {s s' : au_St} (h : onC g s = some s') : ∃ b a r, s.1 = b :: a :: r ∧ s' = (r, g a b :: s.2) := by
  unfold onC at h
  split at h
  · rename_i b a r e; exact ⟨b, a, r, e, (Option.some.inj h).symm⟩
  · cases h
theorem onS_inv {s s' : au_St} (h : onS s = some s') : ∃ b a r x t, s.1 = b :: a :: r ∧ s.2 = x :: t ∧ s' = ((if x = 0 then b else a) :: r, t) := by
  unfold onS at h
  split at h
  · rename_i b a r x t e1 e2; exact ⟨b, a, r, x, t, e1, e2, (Option.some.inj h).symm⟩
  · cases h
theorem onN_inv {s s' : au_St} (h : onN s = some s') : ∃ x t, s.2 = x :: t ∧ s' = (s.1, (1 - x) :: t) := by
  unfold onN at h
  split at h
  · rename_i x t e; exact ⟨x, t, e, (Option.some.inj h).symm⟩
  · cases h
theorem onJ_inv {o : Int} {s s' : au_St} (h : onJ o s = some s') : ∃ y x t, s.2 = y :: x :: t ∧ s' = (s.1, jnF o x y :: t) := by
  unfold onJ at h
  split at h
  · rename_i y x t e; exact ⟨y, x, t, e, (Option.some.inj h).symm⟩
  · cases h
theorem stp_inv {nm rk : Int → Int} {o v : Int} {s s' : au_St} (h : stp nm rk o v s = some s') :
    (o = 0 ∧ 0 ≤ v ∧ v ≤ 9999 ∧ s' = (v :: s.1, s.2)) ∨ (o = 1 ∧ 0 ≤ v ∧ v < 9 ∧ s' = (nm v :: s.1, s.2)) ∨
    (o = 3 ∧ ∃ b a r x t, s.1 = b :: a :: r ∧ s.2 = x :: t ∧ s' = ((if x = 0 then b else a) :: r, t)) ∨
    (o = 5 ∧ ∃ b r, s.1 = b :: r ∧ s' = (-b :: r, s.2)) ∨ (o = 2 ∧ ∃ b r, s.1 = b :: r ∧ s' = (rk b :: r, s.2)) ∨
    (o = 4 ∧ ∃ b a r, s.1 = b :: a :: r ∧ s' = (hlvF a b.toNat :: r, s.2)) ∨
    ((6 ≤ o ∧ o ≤ 9) ∧ ∃ b a r, s.1 = b :: a :: r ∧ s' = (twoF (sgO o) a b :: r, s.2)) ∨
    ((10 ≤ o ∧ o ≤ 15) ∧ ∃ b a r, s.1 = b :: a :: r ∧ s' = (r, cmpF (sgC o) (a - b) :: s.2)) ∨
    (o = 20 ∧ ∃ x t, s.2 = x :: t ∧ s' = (s.1, (1 - x) :: t)) ∨
    ((o = 21 ∨ o = 22) ∧ ∃ y x t, s.2 = y :: x :: t ∧ s' = (s.1, jnF o x y :: t)) := by
  unfold stp at h
  by_cases h0 : o = 0
  · rw [if_pos h0] at h
    split at h
    · rename_i e; exact Or.inl ⟨h0, e.1, e.2, (Option.some.inj h).symm⟩
    · cases h
  rw [if_neg h0] at h
  refine Or.inr ?_
  by_cases h1 : o = 1
  · rw [if_pos h1] at h
    split at h
    · rename_i e; exact Or.inl ⟨h1, e.1, e.2, (Option.some.inj h).symm⟩
    · cases h
  rw [if_neg h1] at h
  refine Or.inr ?_
  by_cases h3 : o = 3
  · rw [if_pos h3] at h; exact Or.inl ⟨h3, onS_inv h⟩
  rw [if_neg h3] at h
  refine Or.inr ?_
  by_cases h5 : o = 5
  · rw [if_pos h5] at h; exact Or.inl ⟨h5, on1_inv h⟩
  rw [if_neg h5] at h
  refine Or.inr ?_
  by_cases h2 : o = 2
  · rw [if_pos h2] at h; exact Or.inl ⟨h2, on1_inv h⟩
  rw [if_neg h2] at h
  refine Or.inr ?_
  by_cases h4 : o = 4
  · rw [if_pos h4] at h; exact Or.inl ⟨h4, on2_inv h⟩
  rw [if_neg h4] at h
  refine Or.inr ?_
  by_cases h6 : 6 ≤ o ∧ o ≤ 9
  · rw [if_pos h6] at h; exact Or.inl ⟨h6, on2_inv h⟩
  rw [if_neg h6] at h
  refine Or.inr ?_
  by_cases h7 : 10 ≤ o ∧ o ≤ 15
  · rw [if_pos h7] at h; exact Or.inl ⟨h7, onC_inv h⟩
  rw [if_neg h7] at h
  refine Or.inr ?_
  by_cases h8 : o = 20
  · rw [if_pos h8] at h; exact Or.inl ⟨h8, onN_inv h⟩
  rw [if_neg h8] at h
  refine Or.inr ?_
  by_cases h9 : o = 21 ∨ o = 22
  · rw [if_pos h9] at h; exact ⟨h9, onJ_inv h⟩
  · rw [if_neg h9] at h; cases h
