/-! PURE: words by their numbers -/
set_option maxRecDepth 100000
theorem wix_miss (w : Int) : ∀ (l : List Int) (i acc : Int), w ∉ l → wix w l i acc = acc
  | [], _, _, _ => rfl
  | x :: r, i, acc, h => by
    show wix w r (i + 1) (if w = x then i else acc) = acc
    rw [if_neg (fun e => h (by rw [e]; exact List.mem_cons_self)), wix_miss w r (i + 1) acc (fun e => h (List.mem_cons_of_mem _ e))]
theorem wix_hit (w : Int) : ∀ (l : List Int) (k : Nat) (i acc : Int), l.Nodup → l[k]? = some w → wix w l i acc = i + k
  | [], k, _, _, _, h => by simp at h
  | x :: r, 0, i, acc, hn, h => by
    have e : x = w := by simpa using h
    subst e
    show wix x r (i + 1) (if x = x then i else acc) = i + ((0 : Nat) : Int)
    rw [if_pos rfl, wix_miss x r (i + 1) i (List.nodup_cons.mp hn).1]
    omega
  | x :: r, k + 1, i, acc, hn, h => by
    show wix w r (i + 1) (if w = x then i else acc) = i + ((k + 1 : Nat) : Int)
    rw [wix_hit w r k (i + 1) _ (List.nodup_cons.mp hn).2 (by simpa using h)]
    omega
theorem WPK_len : WPK.length = 28 := by decide +kernel
theorem WPK_nodup : WPK.Nodup := by decide +kernel
theorem tkM_word {T : Int → Int} {n q : Int} : tkM T n q = 2 → q < n ∧ leC (T q) = true := by
  intro h
  unfold tkM at h
  by_cases c1 : q < n
  · rw [if_neg (by omega)] at h
    by_cases c2 : diC (T q) = true
    · rw [if_pos c2] at h; exact absurd h (by decide)
    · rw [if_neg c2] at h
      by_cases c3 : leC (T q) = true
      · exact ⟨c1, c3⟩
      · rw [if_neg c3] at h
        by_cases c4 : eqN T n q = true
        · rw [if_pos c4] at h
          split at h <;> exact absurd h (by decide)
        · rw [if_neg c4] at h
          split at h
          · rename_i z
            rcases z with z | z
            · have := of_decide_eq_true z; omega
            · omega
          · exact absurd h (by decide)
  · rw [if_pos c1] at h; exact absurd h (by decide)
theorem tkM_le {T : Int → Int} {n q : Int} (h1 : q < n) (h : leC (T q) = true) : tkM T n q = 2 := by
  unfold tkM
  rw [if_neg (by omega), if_neg (fun z => leC_diC z h), if_pos h]
/-- a word by its number -/
theorem wd_iff (T : Int → Int) (n p : Int) (k : Nat) (hk : k < 28) : (tkM T n (lxP T n p) = 2 ∧ lxK T n p = WPK.getD k 0) ↔ lxS T n p = 200 + (k : Int) := by
  have hl := WPK_len
  have hg : WPK[k]? = some (WPK.getD k 0) := by
    rw [List.getD_eq_getElem?_getD, List.getElem?_eq_getElem (by omega)]; rfl
  unfold lxS
  generalize lxP T n p = q
  generalize lxK T n p = w
  refine ⟨fun h => ?_, fun h => ?_⟩
  · obtain ⟨c1, c2⟩ := tkM_word h.1
    unfold lxSq
    rw [if_neg (by omega), if_pos c2, h.2]
    exact wix_hit _ WPK k 200 302 WPK_nodup hg
  · unfold lxSq at h
    by_cases c1 : q < n
    · rw [if_neg (by omega)] at h
      by_cases c2 : leC (T q) = true
      · rw [if_pos c2] at h
        refine ⟨tkM_le c1 c2, ?_⟩
        by_cases hm : w ∈ WPK
        · obtain ⟨j, hj⟩ := List.getElem?_of_mem hm
          have := wix_hit w WPK j 200 302 WPK_nodup hj
          have e : j = k := by omega
          subst e
          rw [hg] at hj
          exact (Option.some.inj hj).symm
        · rw [wix_miss w WPK 200 302 hm] at h
          omega
      · rw [if_neg c2] at h
        by_cases c3 : diC (T q) = true
        · rw [if_pos c3] at h; omega
        · rw [if_neg c3] at h
          by_cases c4 : eqN T n q = true
          · rw [if_pos c4] at h
            split at h <;> omega
          · rw [if_neg c4] at h
            by_cases c5 : sgC' (T q) = true
            · rw [if_pos c5] at h
              have := of_decide_eq_true c5
              omega
            · rw [if_neg c5] at h; omega
    · rw [if_pos c1] at h; omega
/-- the model's word at hand is that of the sort s -/
def WdAt (s : Int) (si sl : au_A → Int → Int) : Prop := ∀ k : Nat, k < 28 → ((si MO 9 = 2 ∧ sl MO 11 = WPK.getD k 0) ↔ s = 200 + (k : Int))
/-- the model's sign at hand is that of the sort s -/
def SgAt (s : Int) (si : au_A → Int → Int) : Prop := (si MO 9 = 0 ↔ s = 301) ∧ (si MO 9 = 1 ↔ s = 300) ∧ (si MO 9 = 4 ↔ s = 303) ∧ (si MO 9 = 5 ↔ s = 304) ∧ ∀ c : Int, (c = 60 ∨ c = 62 ∨ c = 61 ∨ c = 35 ∨ c = 43 ∨ c = 45 ∨ c = 42 ∨ c = 47 ∨ c = 40 ∨ c = 41 ∨ c = 59) → (si MO 9 = c ↔ s = c)
theorem LxM.wd {T : Int → Int} {n p : Int} {si sl : au_A → Int → Int} (h : LxM T n p si sl) : WdAt (lxS T n p) si sl := fun k hk => by
  rw [← wd_iff T n p k hk, h.2.2.1]
  refine ⟨fun z => ⟨z.1, ?_⟩, fun z => ⟨z.1, ?_⟩⟩
  · rw [← h.2.2.2.2 z.1]; exact z.2
  · rw [h.2.2.2.2 z.1]; exact z.2
theorem LxM.sg {T : Int → Int} {n p : Int} {si sl : au_A → Int → Int} (hT : TpOK T n) (hp : 0 ≤ p) (h : LxM T n p si sl) : SgAt (lxS T n p) si := by
  unfold SgAt
  rw [h.2.2.1]
  have hq := (scn_rng T n wsC 301 p).1
  have hq : p ≤ lxP T n p := hq
  unfold lxS
  generalize lxK T n p = w
  generalize lxP T n p = q at hq
  have go : ∀ a b : Int, tkM T n q = a → lxSq T n q w = b → ((a = 0 ↔ b = 301) ∧ (a = 1 ↔ b = 300) ∧ (a = 4 ↔ b = 303) ∧ (a = 5 ↔ b = 304) ∧ ∀ c : Int, (c = 60 ∨ c = 62 ∨ c = 61 ∨ c = 35 ∨ c = 43 ∨ c = 45 ∨ c = 42 ∨ c = 47 ∨ c = 40 ∨ c = 41 ∨ c = 59) → (a = c ↔ b = c)) → ((tkM T n q = 0 ↔ lxSq T n q w = 301) ∧ (tkM T n q = 1 ↔ lxSq T n q w = 300) ∧ (tkM T n q = 4 ↔ lxSq T n q w = 303) ∧ (tkM T n q = 5 ↔ lxSq T n q w = 304) ∧ ∀ c : Int, (c = 60 ∨ c = 62 ∨ c = 61 ∨ c = 35 ∨ c = 43 ∨ c = 45 ∨ c = 42 ∨ c = 47 ∨ c = 40 ∨ c = 41 ∨ c = 59) → (tkM T n q = c ↔ lxSq T n q w = c)) := fun a b e1 e2 h => by rw [e1, e2]; exact h
  by_cases c1 : q < n
  · have hTq := hT.2 q (by omega) c1
    have m1 : tkM T n q = if diC (T q) = true then 1 else if leC (T q) = true then 2 else if eqN T n q = true then (if T q = 60 then 4 else 5) else @ite Int (sgC' (T q) = true ∨ T q = 58) (Classical.propDecidable _) (T q) 3 := if_neg (by omega)
    have x1 : lxSq T n q w = if leC (T q) then wix w WPK 200 302 else if diC (T q) then 300 else if eqN T n q then (if T q = 60 then 303 else 304) else if sgC' (T q) then T q else 302 := if_neg (by omega)
    by_cases c2 : leC (T q) = true
    · have hw := wix_rng w WPK 200 302
      have hl := WPK_len
      rw [if_neg (fun z => leC_diC z c2), if_pos c2] at m1
      rw [if_pos c2] at x1
      exact go _ _ m1 x1 ⟨by omega, by omega, by omega, by omega, fun c hc => by omega⟩
    · by_cases c3 : diC (T q) = true
      · rw [if_pos c3] at m1
        rw [if_neg c2, if_pos c3] at x1
        exact go _ _ m1 x1 ⟨by omega, by omega, by omega, by omega, fun c hc => by omega⟩
      · rw [if_neg c3, if_neg c2] at m1
        rw [if_neg c2, if_neg c3] at x1
        by_cases c4 : eqN T n q = true
        · rw [if_pos c4] at m1 x1
          by_cases c5 : T q = 60
          · rw [if_pos c5] at m1 x1
            exact go _ _ m1 x1 ⟨by omega, by omega, by omega, by omega, fun c hc => by omega⟩
          · rw [if_neg c5] at m1 x1
            exact go _ _ m1 x1 ⟨by omega, by omega, by omega, by omega, fun c hc => by omega⟩
        · rw [if_neg c4] at m1 x1
          by_cases c5 : sgC' (T q) = true
          · have h5 := of_decide_eq_true c5
            rw [if_pos (Or.inl c5)] at m1
            rw [if_pos c5] at x1
            exact go _ _ m1 x1 ⟨by omega, by omega, by omega, by omega, fun c hc => by omega⟩
          · have h5 := of_decide_eq_false (show sgC' (T q) = false by simpa using c5)
            rw [if_neg c5] at x1
            by_cases c6 : T q = 58
            · rw [if_pos (Or.inr c6)] at m1
              exact go _ _ m1 x1 ⟨by omega, by omega, by omega, by omega, fun c hc => by omega⟩
            · rw [if_neg (fun z => z.elim c5 c6)] at m1
              exact go _ _ m1 x1 ⟨by omega, by omega, by omega, by omega, fun c hc => by omega⟩
  · exact go 0 301 (if_pos c1) (if_pos c1) ⟨by omega, by omega, by omega, by omega, fun c hc => by omega⟩
