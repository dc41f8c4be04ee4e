/-! PURE: the signs of a text of bytes, its clauses -/
set_option maxRecDepth 100000
def wsC (c : Int) : Bool := decide (c = 32 ∨ c = 10)
def leC (c : Int) : Bool := decide ((97 ≤ c ∧ c ≤ 122) ∨ (65 ≤ c ∧ c ≤ 90))
def diC (c : Int) : Bool := decide (48 ≤ c ∧ c ≤ 57)
def sgC' (c : Int) : Bool := decide (c = 60 ∨ c = 62 ∨ c = 61 ∨ c = 35 ∨ c = 43 ∨ c = 45 ∨ c = 42 ∨ c = 47 ∨ c = 40 ∨ c = 41 ∨ c = 59)
/-- letters packed; eight or more are none -/
def pkS (w c : Int) : Int := if w / 281474976710656 = 0 then w * 256 + c else 1152921504606846976
def nuS (v c : Int) : Int := min 99999 (10 * v + c - 48)
/-- the words, packed -/
def wpk (l : List Int32) : Int := l.foldl (fun w c => w * 256 + c.toInt) 0
def WPK : List Int := au_byt.map wpk |>.take 28
/-- the last of the words that is this -/
def wix (w : Int) : List Int → Int → Int → Int
  | [], _, acc => acc
  | x :: r, i, acc => wix w r (i + 1) (if w = x then i else acc)
section LE
variable (T : Int → Int) (n : Int)
def scn (f : Int → Bool) : Nat → Int → Int
  | 0, p => p
  | k + 1, p => if p < n ∧ f (T p) = true then scn f k (p + 1) else p
def fld (g : Int → Int → Int) : Nat → Int → Int → Int
  | 0, _, w => w
  | k + 1, q, w => fld g k (q + 1) (g w (T q))
def lxP (p : Int) : Int := scn T n wsC 301 p
def eqN (q : Int) : Bool := decide ((T q = 60 ∨ T q = 62) ∧ q + 1 < n ∧ T (q + 1) = 61)
/-- the end of the sign that begins at q -/
def lxEq (q : Int) : Int := if ¬ q < n then q else if leC (T q) then scn T n leC 301 q else if diC (T q) then scn T n diC 301 q else if eqN T n q then q + 2 else q + 1
def lxE (p : Int) : Int := lxEq T n (lxP T n p)
def lxK (p : Int) : Int := fld T pkS (lxE T n p - lxP T n p).toNat (lxP T n p) 0
def lxN (p : Int) : Int := fld T nuS (lxE T n p - lxP T n p).toNat (lxP T n p) 0
def lxSq (q k : Int) : Int := if ¬ q < n then 301 else if leC (T q) then wix k WPK 200 302 else if diC (T q) then 300 else if eqN T n q then (if T q = 60 then 303 else 304) else if sgC' (T q) then T q else 302
def lxS (p : Int) : Int := lxSq T n (lxP T n p) (lxK T n p)
end LE
theorem scn_rng (T : Int → Int) (n : Int) (f : Int → Bool) : ∀ (k : Nat) (p : Int), p ≤ scn T n f k p ∧ (p ≤ n → scn T n f k p ≤ n) := by
  intro k
  induction k with
  | zero => intro p; exact ⟨Int.le_refl _, fun h => h⟩
  | succ k ih =>
    intro p
    show p ≤ (if p < n ∧ f (T p) = true then scn T n f k (p + 1) else p) ∧ (p ≤ n → (if p < n ∧ f (T p) = true then scn T n f k (p + 1) else p) ≤ n)
    by_cases h : p < n ∧ f (T p) = true
    · rw [if_pos h]
      have := ih (p + 1)
      exact ⟨by omega, fun _ => this.2 (by omega)⟩
    · rw [if_neg h]; exact ⟨Int.le_refl _, fun h => h⟩
theorem scn_pos (T : Int → Int) (n : Int) (f : Int → Bool) (k : Nat) (p : Int) (h : p < n ∧ f (T p) = true) : p < scn T n f (k + 1) p := by
  show p < (if p < n ∧ f (T p) = true then scn T n f k (p + 1) else p)
  rw [if_pos h]
  have := (scn_rng T n f k (p + 1)).1
  omega
/-- enough steps are enough -/
theorem scn_stop (T : Int → Int) (n : Int) (f : Int → Bool) : ∀ (k : Nat) (p : Int), n - p < k → ¬ (scn T n f k p < n ∧ f (T (scn T n f k p)) = true) := by
  intro k
  induction k with
  | zero => intro p h g; have h : n - p < 0 := h; have g1 : p < n := g.1; omega
  | succ k ih =>
    intro p h
    show ¬ ((if p < n ∧ f (T p) = true then scn T n f k (p + 1) else p) < n ∧ f (T (if p < n ∧ f (T p) = true then scn T n f k (p + 1) else p)) = true)
    by_cases g : p < n ∧ f (T p) = true
    · rw [if_pos g]; exact ih (p + 1) (by omega)
    · rw [if_neg g]; exact g
theorem scn_in (T : Int → Int) (n : Int) (f : Int → Bool) : ∀ (k : Nat) (p j : Int), p ≤ j → j < scn T n f k p → j < n ∧ f (T j) = true := by
  intro k
  induction k with
  | zero => intro p j h1 h2; have h2 : j < p := h2; omega
  | succ k ih =>
    intro p j h1 h2
    have h2 : j < (if p < n ∧ f (T p) = true then scn T n f k (p + 1) else p) := h2
    by_cases g : p < n ∧ f (T p) = true
    · rw [if_pos g] at h2
      by_cases e : j = p
      · rw [e]; exact g
      · exact ih (p + 1) j (by omega) h2
    · rw [if_neg g] at h2; omega
/-- where it stops is where it stops -/
theorem scn_eq {T : Int → Int} {n : Int} {f : Int → Bool} {k : Nat} {p q : Int} (hk : n - p < k) (h1 : p ≤ q) (h2 : ∀ j, p ≤ j → j < q → j < n ∧ f (T j) = true) (h3 : ¬ (q < n ∧ f (T q) = true)) : scn T n f k p = q := by
  have a1 := (scn_rng T n f k p).1
  have a2 := scn_stop T n f k p hk
  rcases (show scn T n f k p = q ∨ scn T n f k p < q ∨ q < scn T n f k p by omega) with e | e | e
  · exact e
  · exact absurd (h2 _ a1 e) a2
  · exact absurd (scn_in T n f k p q h1 e) h3
theorem fld_snoc (T : Int → Int) (g : Int → Int → Int) : ∀ (k : Nat) (q w : Int), fld T g (k + 1) q w = g (fld T g k q w) (T (q + k)) := by
  intro k
  induction k with
  | zero => intro q w; show g w (T q) = g w (T (q + 0)); rw [Int.add_zero]
  | succ k ih =>
    intro q w
    have h := ih (q + 1) (g w (T q))
    show fld T g (k + 1) (q + 1) (g w (T q)) = _
    rw [h]
    show g (fld T g k (q + 1) (g w (T q))) (T (q + 1 + (k : Int))) = g (fld T g k (q + 1) (g w (T q))) (T (q + ((k + 1 : Nat) : Int)))
    rw [show q + 1 + (k : Int) = q + ((k + 1 : Nat) : Int) by omega]
theorem fld_nu {T : Int → Int} : ∀ (k : Nat) (q w : Int), (0 ≤ w ∧ w ≤ 99999) → (∀ j, q ≤ j → j < q + k → 48 ≤ T j) → 0 ≤ fld T nuS k q w ∧ fld T nuS k q w ≤ 99999 := by
  intro k
  induction k with
  | zero => intro q w h _; exact h
  | succ k ih =>
    intro q w h hd
    have := hd q (by omega) (by omega)
    exact ih (q + 1) (nuS w (T q)) (by unfold nuS; omega) (fun j h1 h2 => hd j (by omega) (by omega))
theorem wix_rng (w : Int) : ∀ (l : List Int) (i acc : Int), wix w l i acc = acc ∨ (i ≤ wix w l i acc ∧ wix w l i acc < i + l.length) := by
  intro l
  induction l with
  | nil => intro i acc; exact Or.inl rfl
  | cons x r ih =>
    intro i acc
    show wix w r (i + 1) (if w = x then i else acc) = acc ∨ (i ≤ wix w r (i + 1) (if w = x then i else acc) ∧ wix w r (i + 1) (if w = x then i else acc) < i + ((r.length + 1 : Nat) : Int))
    rcases ih (i + 1) (if w = x then i else acc) with h | h
    · rw [h]
      by_cases e : w = x
      · rw [if_pos e]; exact Or.inr (by omega)
      · rw [if_neg e]; exact Or.inl rfl
    · exact Or.inr (by omega)
theorem lx_ok (T : Int → Int) (n : Int) (hn : n ≤ 300) (hn0 : 0 ≤ n) : LxO (lxS T n) (lxE T n) (lxN T n) n := by
  refine ⟨hn, fun p h0 h1 => ?_⟩
  have a1 := scn_rng T n wsC 301 p
  have hq : p ≤ lxP T n p ∧ lxP T n p ≤ n := ⟨a1.1, a1.2 h1⟩
  unfold lxS
  generalize lxK T n p = kk
  unfold lxN
  unfold lxE
  generalize lxP T n p = q at hq
  have hE : q ≤ lxEq T n q ∧ lxEq T n q ≤ n ∧ (q < n → q < lxEq T n q) := by
    unfold lxEq
    by_cases c1 : q < n
    · rw [if_neg (by omega)]
      by_cases c2 : leC (T q) = true
      · rw [if_pos c2]
        have b1 := scn_rng T n leC 301 q
        have b2 := scn_pos T n leC 300 q ⟨c1, c2⟩
        exact ⟨b1.1, b1.2 hq.2, fun _ => b2⟩
      · rw [if_neg c2]
        by_cases c3 : diC (T q) = true
        · rw [if_pos c3]
          have b1 := scn_rng T n diC 301 q
          have b2 := scn_pos T n diC 300 q ⟨c1, c3⟩
          exact ⟨b1.1, b1.2 hq.2, fun _ => b2⟩
        · rw [if_neg c3]
          by_cases c4 : eqN T n q = true
          · rw [if_pos c4]
            have := (of_decide_eq_true c4).2.1
            omega
          · rw [if_neg c4]; omega
    · rw [if_pos c1]; omega
  refine ⟨by omega, hE.2.1, fun hs => ?_, fun hs => ?_⟩
  · have : q < n := by
      by_cases c1 : q < n
      · exact c1
      · exact absurd (show lxSq T n q kk = 301 from if_pos c1) hs
    have := hE.2.2 this
    omega
  · unfold lxSq at hs
    by_cases c1 : q < n
    · rw [if_neg (by omega)] at hs
      by_cases c2 : leC (T q) = true
      · rw [if_pos c2] at hs
        have hl : (WPK.length : Int) = 28 := by decide +kernel
        rcases wix_rng kk WPK 200 302 with e | e
        · omega
        · omega
      · rw [if_neg c2] at hs
        by_cases c3 : diC (T q) = true
        · have he : lxEq T n q = scn T n diC 301 q := by unfold lxEq; rw [if_neg (by omega), if_neg c2, if_pos c3]
          rw [he]
          refine (fld_nu _ q 0 ⟨by omega, by omega⟩ fun j j1 j2 => ?_).1
          have b1 := (scn_rng T n diC 301 q).1
          have := (scn_in T n diC 301 q j j1 (by omega)).2
          have := of_decide_eq_true this
          omega
        · rw [if_neg c3] at hs
          by_cases c4 : eqN T n q = true
          · rw [if_pos c4] at hs
            by_cases c5 : T q = 60
            · rw [if_pos c5] at hs; omega
            · rw [if_neg c5] at hs; omega
          · rw [if_neg c4] at hs
            by_cases c5 : sgC' (T q) = true
            · rw [if_pos c5] at hs
              have := of_decide_eq_true c5
              omega
            · rw [if_neg c5] at hs; omega
    · rw [if_pos c1] at hs; omega
/-! clauses -/
section CL
variable (so en nu : Int → Int)
def gNum (lo hi p : Int) : au_R Int := if so p ≠ 300 then .inl (1, p) else if nu p < lo ∨ hi < nu p then .inl (2, p) else .inr (nu p, en p)
def gBeh (w lo hi p : Int) : au_R Int := if so p ≠ w then .inl (1, p) else gNum so en nu lo hi (en p)
/-- a doing: three numbers -/
def gDo (kd p : Int) : au_R (Int × Int × Int) :=
  bnd (if kd = 208 then gNum so en nu 1 60 p else gNum so en nu 0 9 p) fun a q =>
    if kd = 203 then bnd (gBeh so en nu 209 0 9 q) fun b r => .inr ((a, b, -1), r)
    else if kd = 204 ∨ kd = 207 then bnd (gBeh so en nu 210 0 9 q) fun b r => .inr ((a, b, -1), r)
    else if kd = 205 then bnd (gBeh so en nu 210 0 9 q) fun b r => bnd (gBeh so en nu 211 1 9999 r) fun c t => .inr ((a, b, c), t)
    else if kd = 206 then bnd (gBeh so en nu 212 0 99 q) fun b r => .inr ((a, b, -1), r)
    else .inr ((a, -1, -1), q)
abbrev au_Rd : Type := List (Option au_Do) × au_Lw
def upL (Lw : au_Lw) (l : Nat) (f : au_F) : au_Lw := fun k => if k = l then some f else Lw k
/-- a clause behind its word -/
def gCls (kd p : Int) (s : au_Rd) : au_R au_Rd :=
  if kd ≤ 202 then bnd (gSum so en (gLv so en nu (kd - 200) 8).1 p) fun v q => .inr ((s.1 ++ [none], upL s.2 (kd - 200).toNat v.1), q)
  else bnd (gDo so en nu kd p) fun v q => .inr ((s.1 ++ [some (kd, v.1, v.2.1, v.2.2, (s.1.length : Int))], s.2), q)
def gRd : Nat → au_Rd → Int → (Int × Int) ⊕ au_Rd
  | 0, s, _ => .inr s
  | k + 1, s, p =>
    if so p = 301 then .inr s
    else if so p < 200 ∨ 208 < so p then .inl (1, p)
    else if so p ≤ 202 ∧ (s.2 (so p - 200).toNat).isSome = true then .inl (4, p)
    else if s.1.length = 24 then .inl (6, p)
    else match gCls so en nu (so p) (en p) s with
      | .inl e => .inl e
      | .inr (s', q) => if so q = 59 then gRd k s' (en q) else .inl (1, q)
end CL
