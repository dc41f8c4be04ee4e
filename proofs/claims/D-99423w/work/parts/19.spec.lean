/-! PURE: officers as a chain of bosses -/
set_option maxRecDepth 100000
/-- n officers, their bosses: an officer's boss was there before it; the first has none -/
def Bs (B : Int → Int) (n : Int) : Prop := 0 ≤ n ∧ n ≤ 10 ∧ ∀ o, 0 ≤ o → o < n → B o < o ∧ -1 ≤ B o ∧ (0 < o → 0 ≤ B o)
/-- how many stand from u on upwards -/
def chR (B : Int → Int) : Nat → Int → Int
  | 0, _ => 0
  | k + 1, u => if u = -1 then 0 else 1 + chR B k (B u)
/-- whether a stands from u on upwards -/
def chB (B : Int → Int) (a : Int) : Nat → Int → Prop
  | 0, _ => False
  | k + 1, u => u = a ∨ (¬ u = -1 ∧ chB B a k (B u))
def rank (B : Int → Int) (o : Int) : Int := chR B 10 (B o)
def below (B : Int → Int) (o a : Int) : Prop := chB B a 10 (B o)
theorem chR_bd {B : Int → Int} {n : Int} (hB : Bs B n) : ∀ (k : Nat) (u : Int), -1 ≤ u → u < n → 0 ≤ chR B k u ∧ chR B k u ≤ k ∧ chR B k u ≤ u + 1 := by
  intro k
  induction k with
  | zero => intro u h1 h2; simp [chR]; omega
  | succ k ih =>
    intro u h1 h2
    simp only [chR]
    split
    · omega
    · rename_i h
      have h3 := hB.2.2 u (by omega) h2
      have := ih (B u) h3.2.1 (by omega)
      omega
theorem rank_bd {B : Int → Int} {n : Int} (hB : Bs B n) {o : Int} (h0 : 0 ≤ o) (h1 : o < n) : 0 ≤ rank B o ∧ rank B o ≤ 9 := by
  have h3 := hB.2.2 o h0 h1
  have := chR_bd hB 10 (B o) h3.2.1 (by omega)
  have := hB.2.1
  unfold rank
  omega
