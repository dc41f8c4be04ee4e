/-! CORE: one world for all methods. Abstract values (ints as Int), abstract memory (maps from cell names to contents), and the judgement au_G. -/
set_option maxRecDepth 100000
/-- a cell's name: its number (the order of its making), its length (arrays), its kind -/
abbrev au_A : Type := Nat × Nat × Nat
abbrev au_V : Type := Int ⊕ (Int ⊕ Option au_A)
abbrev au_i (x : Int) : au_V := .inl x
abbrev au_l (x : Int) : au_V := .inr (.inl x)
abbrev au_q (a : Option au_A) : au_V := .inr (.inr a)
abbrev au_n : au_V := .inr (.inr none)
abbrev au_r (a : au_A) : au_V := .inr (.inr (some a))
/-- what an abstract value stands for -/
def au_rel (ad : au_A → Nat) (Lv : au_A → Prop) (v : au_V) (c : Value) : Prop := match v with
  | .inl x => ∃ i : Int32, c = .int i ∧ i.toInt = x
  | .inr (.inl x) => ∃ i : Int64, c = .long i ∧ i.toInt = x
  | .inr (.inr none) => c = .null
  | .inr (.inr (some a)) => c = .ref (ad a) ∧ Lv a
def au_cat (v : au_V) : Nat := match v with
  | .inl _ => 1
  | .inr (.inl _) => 2
  | .inr (.inr _) => 1
theorem au_rel_cat {ad : au_A → Nat} {Lv : au_A → Prop} {v : au_V} {c : Value} (h : au_rel ad Lv v c) : c.category = au_cat v := by
  match v, h with
  | .inl x, h => obtain ⟨i, rfl, -⟩ := h; rfl
  | .inr (.inl x), h => obtain ⟨i, rfl, -⟩ := h; rfl
  | .inr (.inr none), h => cases h; rfl
  | .inr (.inr (some a)), h => obtain ⟨rfl, -⟩ := h; rfl
/-- a world grown: more cells, the old ones where they were -/
def au_ext (ad0 : au_A → Nat) (Lv0 : au_A → Prop) (ad : au_A → Nat) (Lv : au_A → Prop) : Prop := ∀ a, Lv0 a → Lv a ∧ ad a = ad0 a
theorem au_ext.rf {ad : au_A → Nat} {Lv : au_A → Prop} : au_ext ad Lv ad Lv := fun _ h => ⟨h, rfl⟩
theorem au_ext.tr {ad0 ad1 ad2 : au_A → Nat} {Lv0 Lv1 Lv2 : au_A → Prop} (h : au_ext ad0 Lv0 ad1 Lv1) (k : au_ext ad1 Lv1 ad2 Lv2) : au_ext ad0 Lv0 ad2 Lv2 := fun a ha => by
  obtain ⟨h1, h2⟩ := h a ha
  obtain ⟨k1, k2⟩ := k a h1
  exact ⟨k1, k2.trans h2⟩
theorem au_rel.ext {ad ad' : au_A → Nat} {Lv Lv' : au_A → Prop} (e : au_ext ad Lv ad' Lv') {v : au_V} {c : Value} (h : au_rel ad Lv v c) : au_rel ad' Lv' v c := by
  match v, h with
  | .inl x, h => exact h
  | .inr (.inl x), h => exact h
  | .inr (.inr none), h => exact h
  | .inr (.inr (some a)), h =>
    obtain ⟨rfl, h2⟩ := h
    obtain ⟨k1, k2⟩ := e a h2
    exact ⟨by rw [k2], k1⟩
/-! stacks -/
def au_S (ad : au_A → Nat) (Lv : au_A → Prop) : List au_V → List Value → Prop
  | [], [] => True
  | v :: t, c :: u => au_rel ad Lv v c ∧ au_S ad Lv t u
  | _, _ => False
theorem au_S.ext {ad ad' : au_A → Nat} {Lv Lv' : au_A → Prop} (e : au_ext ad Lv ad' Lv') : ∀ {st : List au_V} {cs : List Value}, au_S ad Lv st cs → au_S ad' Lv' st cs
  | [], [], _ => trivial
  | _ :: _, _ :: _, h => ⟨h.1.ext e, h.2.ext e⟩
  | [], _ :: _, h => h.elim
  | _ :: _, [], h => h.elim
theorem au_S_nil {ad : au_A → Nat} {Lv : au_A → Prop} {cs : List Value} (h : au_S ad Lv [] cs) : cs = [] := by
  cases cs with
  | nil => rfl
  | cons _ _ => exact h.elim
theorem au_S_v {ad : au_A → Nat} {Lv : au_A → Prop} {v : au_V} {st : List au_V} {cs : List Value} (h : au_S ad Lv (v :: st) cs) : ∃ c ct, cs = c :: ct ∧ au_rel ad Lv v c ∧ au_S ad Lv st ct := by
  cases cs with
  | nil => exact h.elim
  | cons c ct => exact ⟨c, ct, rfl, h.1, h.2⟩
theorem au_S_i {ad : au_A → Nat} {Lv : au_A → Prop} {x : Int} {st : List au_V} {cs : List Value} (h : au_S ad Lv (au_i x :: st) cs) : ∃ (i : Int32) (ct : List Value), cs = .int i :: ct ∧ i.toInt = x ∧ au_S ad Lv st ct := by
  obtain ⟨c, ct, rfl, ⟨i, rfl, e⟩, h2⟩ := au_S_v h
  exact ⟨i, ct, rfl, e, h2⟩
theorem au_S_l {ad : au_A → Nat} {Lv : au_A → Prop} {x : Int} {st : List au_V} {cs : List Value} (h : au_S ad Lv (au_l x :: st) cs) : ∃ (i : Int64) (ct : List Value), cs = .long i :: ct ∧ i.toInt = x ∧ au_S ad Lv st ct := by
  obtain ⟨c, ct, rfl, ⟨i, rfl, e⟩, h2⟩ := au_S_v h
  exact ⟨i, ct, rfl, e, h2⟩
theorem au_S_r {ad : au_A → Nat} {Lv : au_A → Prop} {a : au_A} {st : List au_V} {cs : List Value} (h : au_S ad Lv (au_r a :: st) cs) : ∃ (ct : List Value), cs = .ref (ad a) :: ct ∧ Lv a ∧ au_S ad Lv st ct := by
  obtain ⟨c, ct, rfl, ⟨rfl, e⟩, h2⟩ := au_S_v h
  exact ⟨ct, rfl, e, h2⟩
theorem au_S_n {ad : au_A → Nat} {Lv : au_A → Prop} {st : List au_V} {cs : List Value} (h : au_S ad Lv (au_n :: st) cs) : ∃ (ct : List Value), cs = .null :: ct ∧ au_S ad Lv st ct := by
  obtain ⟨c, ct, rfl, e, h2⟩ := au_S_v h
  cases e
  exact ⟨ct, rfl, h2⟩
theorem au_S_app {ad : au_A → Nat} {Lv : au_A → Prop} : ∀ {s1 s2 : List au_V} {cs : List Value}, au_S ad Lv (s1 ++ s2) cs → ∃ c1 c2, cs = c1 ++ c2 ∧ au_S ad Lv s1 c1 ∧ au_S ad Lv s2 c2
  | [], _, cs, h => ⟨[], cs, rfl, trivial, h⟩
  | _ :: _, _, cs, h => by
    obtain ⟨c, ct, rfl, h1, h2⟩ := au_S_v h
    obtain ⟨c1, c2, rfl, k1, k2⟩ := au_S_app h2
    exact ⟨c :: c1, c2, rfl, ⟨h1, k1⟩, k2⟩
theorem au_S_app' {ad : au_A → Nat} {Lv : au_A → Prop} : ∀ {s1 s2 : List au_V} {c1 c2 : List Value}, au_S ad Lv s1 c1 → au_S ad Lv s2 c2 → au_S ad Lv (s1 ++ s2) (c1 ++ c2)
  | [], _, [], _, _, h => h
  | _ :: _, _, _ :: _, _, h, k => ⟨h.1, au_S_app' h.2 k⟩
  | [], _, _ :: _, _, h, _ => h.elim
  | _ :: _, _, [], _, h, _ => h.elim
theorem au_S_len {ad : au_A → Nat} {Lv : au_A → Prop} : ∀ {st : List au_V} {cs : List Value}, au_S ad Lv st cs → cs.length = st.length
  | [], [], _ => rfl
  | _ :: _, _ :: _, h => by simp [au_S_len h.2]
  | [], _ :: _, h => h.elim
  | _ :: _, [], h => h.elim
theorem au_S_cat {ad : au_A → Nat} {Lv : au_A → Prop} : ∀ {st : List au_V} {cs : List Value}, au_S ad Lv st cs → (cs.map fun v => v.category).sum = (st.map au_cat).sum
  | [], [], _ => rfl
  | _ :: _, _ :: _, h => by simp [au_S_cat h.2, au_rel_cat h.1]
  | [], _ :: _, h => h.elim
  | _ :: _, [], h => h.elim
theorem au_S_rev {ad : au_A → Nat} {Lv : au_A → Prop} : ∀ {st : List au_V} {cs : List Value}, au_S ad Lv st cs → au_S ad Lv st.reverse cs.reverse
  | [], [], _ => trivial
  | _ :: _, _ :: _, h => by
    rw [List.reverse_cons, List.reverse_cons]
    exact au_S_app' (au_S_rev h.2) ⟨h.1, trivial⟩
  | [], _ :: _, h => h.elim
  | _ :: _, [], h => h.elim
/-! locals, by place -/
def au_get : List (Option au_V) → Nat → Option au_V
  | [], _ => none
  | x :: _, 0 => x
  | _ :: t, k + 1 => au_get t k
def au_put : List (Option au_V) → Nat → Option au_V → List (Option au_V)
  | [], _, _ => []
  | _ :: t, 0, v => v :: t
  | x :: t, k + 1, v => x :: au_put t k v
/-- a long that stands just before place i is lost when i is written -/
def au_kl : List (Option au_V) → Nat → List (Option au_V)
  | x :: t, 1 => (match x with | some (.inr (.inl _)) => none | y => y) :: t
  | x :: t, k + 2 => x :: au_kl t (k + 1)
  | L, _ => L
def au_st1 (L : List (Option au_V)) (i : Nat) (v : au_V) : List (Option au_V) := au_put (au_kl L i) i (some v)
def au_st2 (L : List (Option au_V)) (i : Nat) (v : au_V) : List (Option au_V) := au_put (au_put (au_kl L i) (i + 1) none) i (some v)
theorem au_put_len : ∀ (L : List (Option au_V)) (k : Nat) (v : Option au_V), (au_put L k v).length = L.length
  | [], _, _ => rfl
  | _ :: _, 0, _ => rfl
  | _ :: t, k + 1, v => by simp [au_put, au_put_len t k v]
theorem au_kl_len : ∀ (L : List (Option au_V)) (k : Nat), (au_kl L k).length = L.length
  | [], k => by cases k <;> rfl
  | _ :: _, 0 => rfl
  | _ :: _, 1 => rfl
  | _ :: t, k + 2 => by simp [au_kl, au_kl_len t (k + 1)]
theorem au_get_put : ∀ (L : List (Option au_V)) (k j : Nat) (v : Option au_V), au_get (au_put L k v) j = if j = k ∧ k < L.length then v else au_get L j
  | [], k, j, v => by simp [au_put, au_get]
  | x :: t, 0, 0, v => by simp [au_put, au_get]
  | x :: t, 0, j + 1, v => by simp [au_put, au_get]
  | x :: t, k + 1, 0, v => by simp [au_put, au_get]
  | x :: t, k + 1, j + 1, v => by simp [au_put, au_get, au_get_put t k j v]
theorem au_get_kl : ∀ (L : List (Option au_V)) (k j : Nat) (w : au_V), au_get (au_kl L k) j = some w → au_get L j = some w ∧ ¬ (j + 1 = k ∧ au_cat w = 2)
  | [], k, j, w, h => by cases k <;> simp [au_kl, au_get] at h
  | x :: t, 0, j, w, h => ⟨h, by omega⟩
  | x :: t, 1, 0, w, h => by
    simp only [au_kl, au_get] at h
    split at h
    · cases h
    · rename_i y hy
      refine ⟨h, fun q => ?_⟩
      match w, q.2 with
      | .inr (.inl z), _ => exact hy z h
  | x :: t, 1, j + 1, w, h => ⟨h, by omega⟩
  | x :: t, k + 2, 0, w, h => ⟨h, by omega⟩
  | x :: t, k + 2, j + 1, w, h => by
    obtain ⟨h1, h2⟩ := au_get_kl t (k + 1) j w h
    exact ⟨h1, by omega⟩
def au_Lr (ad : au_A → Nat) (Lv : au_A → Prop) (L : List (Option au_V)) (ls : Array Slot) : Prop := ∃ lv : List (Nat × Value), lv_has ls L.length lv ∧ ∀ i v, au_get L i = some v → ∃ c, (i, c) ∈ lv ∧ au_rel ad Lv v c
theorem au_Lr.ext {ad ad' : au_A → Nat} {Lv Lv' : au_A → Prop} (e : au_ext ad Lv ad' Lv') {L : List (Option au_V)} {ls : Array Slot} (h : au_Lr ad Lv L ls) : au_Lr ad' Lv' L ls := by
  obtain ⟨lv, h1, h2⟩ := h
  refine ⟨lv, h1, fun i v q => ?_⟩
  obtain ⟨c, h3, h4⟩ := h2 i v q
  exact ⟨c, h3, h4.ext e⟩
theorem au_Lr.at {ad : au_A → Nat} {Lv : au_A → Prop} {L : List (Option au_V)} {ls : Array Slot} (h : au_Lr ad Lv L ls) {i : Nat} {v : au_V} (hv : au_get L i = some v) : ∃ c, ls[i]? = some (.val c) ∧ au_rel ad Lv v c := by
  obtain ⟨lv, h1, h2⟩ := h
  obtain ⟨c, h3, h4⟩ := h2 i v hv
  exact ⟨c, h1.2.2 _ h3, h4⟩
theorem au_Lr.st1 {ad : au_A → Nat} {Lv : au_A → Prop} {L : List (Option au_V)} {lv : List (Nat × Value)} {nL : Nat} (hn : L.length = nL) (h2 : ∀ i v, au_get L i = some v → ∃ c, (i, c) ∈ lv ∧ au_rel ad Lv v c) {i : Nat} {v : au_V} {c : Value} (hr : au_rel ad Lv v c) {ls' : Array Slot}
    (h : lv_has ls' nL ((i, c) :: lv.filter (fun q => !(q.1 == i) && !(q.1 + 1 == i && q.2.category == 2)))) : au_Lr ad Lv (au_st1 L i v) ls' := by
  subst hn
  refine ⟨_, by rw [au_st1, au_put_len, au_kl_len]; exact h, fun j w hw => ?_⟩
  rw [au_st1, au_get_put] at hw
  by_cases hj : j = i ∧ i < (au_kl L i).length
  · rw [if_pos hj] at hw
    cases hw
    exact ⟨c, by rw [hj.1]; exact List.mem_cons_self, hr⟩
  · rw [if_neg hj] at hw
    obtain ⟨k1, k2⟩ := au_get_kl _ _ _ _ hw
    obtain ⟨cw, k3, k4⟩ := h2 j w k1
    by_cases hji : j = i
    · have : j < L.length := by
        rcases Nat.lt_or_ge j L.length with q | q
        · exact q
        · have : ∀ (L : List (Option au_V)) (j : Nat), L.length ≤ j → au_get L j = none := by
            intro L
            induction L with
            | nil => intro j _; rfl
            | cons x t ih => intro j hj; cases j with
              | zero => simp at hj
              | succ j => exact ih j (by simpa using hj)
          rw [this L j q] at k1; cases k1
      exact absurd ⟨hji, by rw [au_kl_len]; omega⟩ hj
    · refine ⟨cw, List.mem_cons_of_mem _ (List.mem_filter.mpr ⟨k3, ?_⟩), k4⟩
      have hc := au_rel_cat k4
      simp only [Bool.and_eq_true, Bool.not_eq_true', beq_eq_false_iff_ne, ne_eq, Bool.and_eq_false_iff]
      refine ⟨hji, ?_⟩
      by_cases q : j + 1 = i
      · exact Or.inr (fun z => k2 ⟨q, by rw [← hc]; exact z⟩)
      · exact Or.inl q
theorem au_get_ge : ∀ (L : List (Option au_V)) (j : Nat), L.length ≤ j → au_get L j = none := by
  intro L
  induction L with
  | nil => intro j _; rfl
  | cons x t ih => intro j hj; cases j with
    | zero => simp at hj
    | succ j => exact ih j (by simpa using hj)
theorem au_Lr.st2 {ad : au_A → Nat} {Lv : au_A → Prop} {L : List (Option au_V)} {lv : List (Nat × Value)} {nL : Nat} (hn : L.length = nL) (h2 : ∀ i v, au_get L i = some v → ∃ c, (i, c) ∈ lv ∧ au_rel ad Lv v c) {i : Nat} {v : au_V} {c : Value} (hr : au_rel ad Lv v c) (hi : i + 1 < nL) {ls' : Array Slot}
    (h : lv_has ls' nL ((i, c) :: lv.filter (fun q => !(q.1 == i) && (!(q.1 == i + 1) && !(q.1 + 1 == i && q.2.category == 2))))) : au_Lr ad Lv (au_st2 L i v) ls' := by
  subst hn
  refine ⟨_, by rw [au_st2, au_put_len, au_put_len, au_kl_len]; exact h, fun j w hw => ?_⟩
  rw [au_st2, au_get_put] at hw
  by_cases hj : j = i ∧ i < (au_put (au_kl L i) (i + 1) none).length
  · rw [if_pos hj] at hw
    cases hw
    exact ⟨c, by rw [hj.1]; exact List.mem_cons_self, hr⟩
  · rw [if_neg hj, au_get_put] at hw
    rw [au_put_len, au_kl_len] at hj
    have hji : j ≠ i := fun q => hj ⟨q, by omega⟩
    by_cases hj2 : j = i + 1 ∧ i + 1 < (au_kl L i).length
    · rw [if_pos hj2] at hw; cases hw
    · rw [if_neg hj2] at hw
      rw [au_kl_len] at hj2
      obtain ⟨k1, k2⟩ := au_get_kl _ _ _ _ hw
      obtain ⟨cw, k3, k4⟩ := h2 j w k1
      refine ⟨cw, List.mem_cons_of_mem _ (List.mem_filter.mpr ⟨k3, ?_⟩), k4⟩
      have hc := au_rel_cat k4
      have hji2 : j ≠ i + 1 := fun q => hj2 ⟨q, by omega⟩
      simp only [Bool.and_eq_true, Bool.not_eq_true', beq_eq_false_iff_ne, ne_eq, Bool.and_eq_false_iff]
      refine ⟨hji, hji2, ?_⟩
      by_cases q : j + 1 = i
      · exact Or.inr (fun z => k2 ⟨q, by rw [← hc]; exact z⟩)
      · exact Or.inl q
/-- the locals at a method's entry -/
def au_sl : List au_V → List (Option au_V)
  | [] => []
  | v :: t => if au_cat v = 2 then some v :: none :: au_sl t else some v :: au_sl t
def au_L0 (n : Nat) (as : List au_V) : List (Option au_V) := au_sl as ++ List.replicate (n - (au_sl as).length) none
theorem au_get_rep (k i : Nat) : au_get (List.replicate k none) i = none := by
  induction k generalizing i with
  | zero => rfl
  | succ k ih => cases i with
    | zero => rfl
    | succ i => exact ih i
theorem au_sl_args {ad : au_A → Nat} {Lv : au_A → Prop} (k : Nat) : ∀ {as : List au_V} {cs : List Value} (off : Nat), au_S ad Lv as cs → ∀ i v, au_get (au_sl as ++ List.replicate k none) i = some v → ∃ c, (off + i, c) ∈ lv_args off cs ∧ au_rel ad Lv v c
  | [], [], off, _, i, v, h => by
    have h : au_get (List.replicate k none) i = some v := h
    rw [au_get_rep] at h; cases h
  | a :: t, c :: u, off, hs, i, v, h => by
    have hc := au_rel_cat hs.1
    by_cases h2 : au_cat a = 2
    · simp only [au_sl, if_pos h2, List.cons_append] at h
      match i, h with
      | 0, h =>
        cases h
        exact ⟨c, List.mem_cons_self, hs.1⟩
      | 1, h => cases h
      | i + 2, h =>
        obtain ⟨d, k1, k2⟩ := au_sl_args k (off + 2) hs.2 i v h
        refine ⟨d, ?_, k2⟩
        rw [lv_args, if_pos (by rw [hc]; exact h2)]
        exact List.mem_cons_of_mem _ (by rw [show off + (i + 2) = off + 2 + i by omega]; exact k1)
    · simp only [au_sl, if_neg h2, List.cons_append] at h
      match i, h with
      | 0, h =>
        cases h
        exact ⟨c, List.mem_cons_self, hs.1⟩
      | i + 1, h =>
        obtain ⟨d, k1, k2⟩ := au_sl_args k (off + 1) hs.2 i v h
        refine ⟨d, ?_, k2⟩
        rw [lv_args, if_neg (by rw [hc]; exact h2)]
        exact List.mem_cons_of_mem _ (by rw [show off + (i + 1) = off + 1 + i by omega]; exact k1)
  | [], _ :: _, _, h, _, _, _ => h.elim
  | _ :: _, [], _, h, _, _, _ => h.elim
theorem au_sl_len {ad : au_A → Nat} {Lv : au_A → Prop} : ∀ {as : List au_V} {cs : List Value}, au_S ad Lv as cs → (lg_sl cs).length = (au_sl as).length
  | [], [], _ => rfl
  | a :: t, c :: u, hs => by
    have hc := au_rel_cat hs.1
    have ih := au_sl_len hs.2
    by_cases h2 : au_cat a = 2
    · simp only [au_sl, if_pos h2, lg_sl, List.flatMap_cons, if_pos (show c.category = 2 by rw [hc]; exact h2)]
      simp only [lg_sl] at ih
      simp [ih]
    · simp only [au_sl, if_neg h2, lg_sl, List.flatMap_cons, if_neg (show ¬ c.category = 2 by rw [hc]; exact h2)]
      simp only [lg_sl] at ih
      simp [ih]
  | [], _ :: _, h => h.elim
  | _ :: _, [], h => h.elim
theorem au_L0_ok {ad : au_A → Nat} {Lv : au_A → Prop} {as : List au_V} {cs : List Value} (h : au_S ad Lv as cs) {n : Nat} (hn : (au_sl as).length ≤ n) : au_Lr ad Lv (au_L0 n as) ((lg_sl cs ++ List.replicate (n - (lg_sl cs).length) Slot.unset).toArray) := by
  have hl := au_sl_len h
  refine ⟨lv_args 0 cs, ?_, fun i v hv => ?_⟩
  · have e : (au_L0 n as).length = n := by simp [au_L0]; omega
    rw [e]
    exact lv_entry cs (by rw [hl]; exact hn)
  · obtain ⟨c, k1, k2⟩ := au_sl_args _ 0 h i v hv
    exact ⟨c, by simpa using k1, k2⟩
