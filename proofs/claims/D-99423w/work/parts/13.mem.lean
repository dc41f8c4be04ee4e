/-! MEMORY ROWS: fields, arrays, new cells -/
set_option maxRecDepth 100000
def au_up {α : Type} (f : au_A → Int → α) (a : au_A) (j : Int) (v : α) : au_A → Int → α := fun b k => if b = a ∧ k = j then v else f b k
/-- all of a cell's places cleared -/
def au_zr {α : Type} (f : au_A → Int → α) (a : au_A) (z : α) : au_A → Int → α := fun b k => if b = a then z else f b k
theorem au_up_self {α : Type} (f : au_A → Int → α) (a : au_A) (j : Int) (v : α) : au_up f a j v a j = v := if_pos ⟨rfl, rfl⟩
theorem au_up_ne {α : Type} (f : au_A → Int → α) {a b : au_A} {j k : Int} (v : α) (h : ¬ (b = a ∧ k = j)) : au_up f a j v b k = f b k := if_neg h
def au_wi (M : au_M) (a : au_A) (j : Int) (v : Int) : au_M := match au_reg a j with
  | 0 => (au_up M.1 a j v, M.2) | 1 => (M.1, au_up M.2.1 a j v, M.2.2) | _ => (M.1, M.2.1, au_up M.2.2.1 a j v, M.2.2.2)
def au_wl' (M : au_M) (a : au_A) (j : Int) (v : Int) : au_M := (M.1, M.2.1, M.2.2.1, au_up M.2.2.2.1 a j v, M.2.2.2.2)
def au_wr (M : au_M) (a : au_A) (j : Int) (v : Option au_A) : au_M := (M.1, M.2.1, M.2.2.1, M.2.2.2.1, au_up M.2.2.2.2.1 a j v, M.2.2.2.2.2)
theorem au_gi_wi (M : au_M) (a b : au_A) (j k v : Int) : au_gi (au_wi M a j v) b k = if b = a ∧ k = j then v else au_gi M b k := by
  by_cases h : b = a ∧ k = j
  · obtain ⟨rfl, rfl⟩ := h
    rw [if_pos ⟨rfl, rfl⟩]
    unfold au_gi au_wi
    match au_reg b k with
    | 0 => exact au_up_self _ _ _ _
    | 1 => exact au_up_self _ _ _ _
    | n + 2 => exact au_up_self _ _ _ _
  · rw [if_neg h]
    unfold au_gi au_wi
    match au_reg a j, au_reg b k with
    | 0, 0 => exact au_up_ne _ _ h
    | 0, 1 => rfl
    | 0, n + 2 => rfl
    | 1, 0 => rfl
    | 1, 1 => exact au_up_ne _ _ h
    | 1, n + 2 => rfl
    | m + 2, 0 => rfl
    | m + 2, 1 => rfl
    | m + 2, n + 2 => exact au_up_ne _ _ h
theorem au_wi_rest (M : au_M) (a : au_A) (j v : Int) : (au_wi M a j v).2.2.2 = M.2.2.2 := by
  unfold au_wi
  match au_reg a j with
  | 0 => rfl
  | 1 => rfl
  | n + 2 => rfl
/-- a value put at a place, of its sort -/
def au_wv (k : Nat) (M : au_M) (a : au_A) (j : Int) (v : au_V) : au_M := match k, v with
  | 0, .inl x => au_wi M a j x
  | 1, .inr (.inl x) => au_wl' M a j x
  | _, .inr (.inr x) => au_wr M a j x
  | _, _ => M
theorem au_wv_nx (k : Nat) (M : au_M) (a : au_A) (j : Int) (v : au_V) : (au_wv k M a j v).2.2.2.2.2 = M.2.2.2.2.2 := by
  unfold au_wv
  split
  · rw [au_wi_rest]
  · rfl
  · rfl
  · rfl
/-- of the right sort -/
def au_srt (k : Nat) (v : au_V) : Prop := match k, v with
  | 0, .inl _ => True
  | 1, .inr (.inl _) => True
  | 0, _ => False
  | 1, _ => False
  | _, .inr (.inr _) => True
  | _, _ => False
theorem au_val_wv {k : Nat} {v : au_V} (hk : au_srt k v) (M : au_M) (a b : au_A) (j i : Int) (h : ¬ (b = a ∧ i = j)) (q : Nat) : au_val q (au_wv k M a j v) b i = au_val q M b i := by
  have hI : ∀ x, au_val q (au_wi M a j x) b i = au_val q M b i := by
    intro x
    unfold au_val
    match q with
    | 0 => simp only [au_gi_wi, if_neg h]
    | 1 => simp only [au_wi_rest]
    | n + 2 => simp only [au_wi_rest]
  have hL : ∀ x, au_val q (au_wl' M a j x) b i = au_val q M b i := by
    intro x
    unfold au_val au_wl'
    match q with
    | 0 => rfl
    | 1 => simp only [au_up_ne _ _ h]
    | n + 2 => rfl
  have hR : ∀ x, au_val q (au_wr M a j x) b i = au_val q M b i := by
    intro x
    unfold au_val au_wr
    match q with
    | 0 => rfl
    | 1 => rfl
    | n + 2 => simp only [au_up_ne _ _ h]
  unfold au_wv
  split
  · exact hI _
  · exact hL _
  · exact hR _
  · rfl
theorem au_val_self {k : Nat} {v : au_V} (hk : au_srt k v) (M : au_M) (a : au_A) (j : Int) : au_val k (au_wv k M a j v) a j = v := by
  match k, v, hk with
  | 0, .inl x, _ =>
    show au_i (au_gi (au_wi M a j x) a j) = _
    rw [au_gi_wi, if_pos ⟨rfl, rfl⟩]
  | 1, .inr (.inl x), _ =>
    show au_l (au_up _ a j x a j) = _
    rw [au_up_self]
  | n + 2, .inr (.inr x), _ =>
    show au_q (au_up _ a j x a j) = _
    rw [au_up_self]
/-- a cell that nothing touched -/
theorem au_C.kept {G : au_G} {ad ad' : au_A → Nat} {Lv Lv' : au_A → Prop} {M M' : au_M} {a : au_A} {H H1 : Heap} (h : au_C G ad Lv M a H) (e : au_ext ad Lv ad' Lv') (hl : Lv a) (hH : H1[ad a]? = H[ad a]?) (hM : ∀ (q : Nat) (i : Int), au_val q M' a i = au_val q M a i) : au_C G ad' Lv' M' a H1 := by
  obtain ⟨h1, h2⟩ := h
  have ea := (e a hl).2
  refine ⟨fun k => ?_, fun k1 k2 => ?_⟩
  · obtain ⟨fs, p1, p2, p3⟩ := h1 k
    refine ⟨fs, ?_, p2, fun i hi => ?_⟩
    · obtain ⟨r, q1, q2⟩ := p1
      exact ⟨r, q1, by rw [ea]; exact q2.kept hH⟩
    · obtain ⟨c, c1, c2⟩ := p3 i hi
      rw [hM]
      exact ⟨c, c1, c2.ext e⟩
  · obtain ⟨f, p1, p2⟩ := h2 k1 k2
    refine ⟨f, by rw [ea, hH]; exact p1, fun i hi => ?_⟩
    rw [hM]
    exact (p2 i hi).ext e
/-- one cell written -/
theorem au_P.upd {G : au_G} {ad : au_A → Nat} {Lv : au_A → Prop} {M M' : au_M} {H H1 : Heap} {a : au_A} (hP : au_P G ad Lv M H) (ha : Lv a) (hak : a.2.2 < 60) (hz : H1.size = H.size) (ho : ∀ q : Nat, q ≠ ad a → H1[q]? = H[q]?) (hn : M'.2.2.2.2.2 = M.2.2.2.2.2)
    (hM : ∀ b, b ≠ a → ∀ (q : Nat) (i : Int), au_val q M' b i = au_val q M b i) (hC : au_C G ad Lv M' a H1) : au_P G ad Lv M' H1 := by
  obtain ⟨h1, h2, h3, h4, h5, h6⟩ := hP
  refine ⟨fun b hb => ?_, h2, fun b hb => by rw [hn]; exact h3 b hb, h4, h5, fun b hb => by rw [hz]; exact h6 b hb⟩
  by_cases hba : b = a
  · subst hba; exact hC
  · by_cases hb60 : b.2.2 < 60
    · exact (h1 b hb).kept au_ext.rf hb (ho _ (fun q => hba (h2 b a hb ha hb60 hak q))) (hM b hba)
    · exact ⟨fun k => absurd k (by omega), fun _ k => absurd k hb60⟩
section AUM
variable {G : au_G} {K : au_K} {Qf : au_Qf} {pc : Nat} {L : List (Option au_V)} {st : List au_V} {M : au_M} {ck cs : Nat}
/-- a field read -/
theorem au_getf {own ref C : String} {T : u_T} {N index : Nat} {a : au_A} (hin : ∀ w ∈ u_ws C T N, w ∈ lw_all) (hk : a.2.2 < 40) (hc : au_cl[a.2.2]? = some (C, T, N)) (k : Nat) (hkN : k < N) (hN : au_N a.2.2 = N) (ho : K.1 = own) (hq : (Cond.fieldLink own index ref (T k).2.1 (T k).2.2.1) ∈ lw_all) (hsame : (T k).1 = ref) (hd : decode K.2.1 pc = .ok (.getfield index, 3)) {v : au_V} (hv : au_val (au_tv (au_ty a.2.2 k)) M a (k : Int) = v)
    (kk : au_Go G K Qf (pc + 3) L (v :: st) M ck cs) : au_Go G K Qf pc L (au_r a :: st) M ck cs := by
  intro p e s m args below meth c ad0 ad Lv0 Lv H ls cst locs X hm hP hLn hL hS hV hE
  obtain ⟨ct, rfl, ha, hS1⟩ := au_S_r hS
  obtain ⟨fs, p1, p2, p3⟩ := (hP.1 a ha).1 hk
  obtain ⟨cv, c1, c2⟩ := p3 k (by rw [hN]; exact hkN)
  subst ho
  refine va_get (D := G.2.1) (cl := au_cl) (tys := au_tys G) (ws := [(ad a, .inr (a.2.2, fs))]) (ci := a.2.2) (v := cv) (C := C) (T := T) (N := N) X.1 X.2.1 X.2.2.2.2.2.2.1 hin X.2.2.2.2.2.1 X.2.2.2.2.2.2.2.1 ?_ 0 rfl hc k hkN (X.2.2.2.2.2.2.1 _ hq) (fun x h9 => by rw [← hsame]; exact h9) c1 hd (kk p e s m args below meth c ad0 ad Lv0 Lv H ls _ locs X hm hP hLn hL ⟨by rw [← hv]; exact c2, hS1⟩ hV hE)
  intro j q hj
  match j, hj with
  | 0, hj => cases hj; exact p1
  | j + 1, hj => simp at hj
/-- a nest mate's field read -/
theorem au_getN {own ref C host : String} {T : u_T} {N index : Nat} {a : au_A} (hin : ∀ w ∈ u_ws C T N, w ∈ lw_all) (hk : a.2.2 < 40) (hc : au_cl[a.2.2]? = some (C, T, N)) (k : Nat) (hkN : k < N) (hN : au_N a.2.2 = N) (ho : K.1 = own) (hq : (Cond.fieldLinkNest own index ref (T k).2.1 (T k).2.2.1 host) ∈ lw_tbl) (hsame : (T k).1 = ref) (hd : decode K.2.1 pc = .ok (.getfield index, 3)) {v : au_V} (hv : au_val (au_tv (au_ty a.2.2 k)) M a (k : Int) = v)
    (kk : au_Go G K Qf (pc + 3) L (v :: st) M ck cs) : au_Go G K Qf pc L (au_r a :: st) M ck cs := by
  intro p e s m args below meth c ad0 ad Lv0 Lv H ls cst locs X hm hP hLn hL hS hV hE
  obtain ⟨ct, rfl, ha, hS1⟩ := au_S_r hS
  obtain ⟨fs, p1, p2, p3⟩ := (hP.1 a ha).1 hk
  obtain ⟨cv, c1, c2⟩ := p3 k (by rw [hN]; exact hkN)
  subst ho
  refine va_getN (host := host) (D := G.2.1) (cl := au_cl) (tys := au_tys G) (ws := [(ad a, .inr (a.2.2, fs))]) (ci := a.2.2) (v := cv) (C := C) (T := T) (N := N) X.1 X.2.1 X.2.2.2.2.2.2.1 hin X.2.2.2.2.2.1 X.2.2.2.2.2.2.2.1 ?_ 0 rfl hc k hkN (va_Nw.use rfl (X.2.2.2.2.2.2.2.2.2.2.1.1 _ hq rfl)) (fun x h9 => by rw [← hsame]; exact h9) c1 hd (kk p e s m args below meth c ad0 ad Lv0 Lv H ls _ locs X hm hP hLn hL ⟨by rw [← hv]; exact c2, hS1⟩ hV hE)
  intro j q hj
  match j, hj with
  | 0, hj => cases hj; exact p1
  | j + 1, hj => simp at hj
theorem au_nf_i {ad : au_A → Nat} {Lv : au_A → Prop} {x : Int} {c : Value} (h : au_rel ad Lv (au_i x) c) : narrow .int c = c ∧ fits .int c = true := by
  obtain ⟨i, rfl, -⟩ := h
  exact ⟨rfl, rfl⟩
theorem au_nf_l {ad : au_A → Nat} {Lv : au_A → Prop} {x : Int} {c : Value} (h : au_rel ad Lv (au_l x) c) : narrow .long c = c ∧ fits .long c = true := by
  obtain ⟨i, rfl, -⟩ := h
  exact ⟨rfl, rfl⟩
theorem au_nf_z {ad : au_A → Nat} {Lv : au_A → Prop} {x : Int} {c : Value} (hx : x = 0 ∨ x = 1) (h : au_rel ad Lv (au_i x) c) : narrow .boolean c = c ∧ fits .boolean c = true := by
  obtain ⟨i, rfl, e⟩ := h
  have h0 : i = 0 ∨ i = 1 := by
    rcases hx with h | h
    · exact Or.inl (Int32.toInt_inj.mp (by rw [e, h]; rfl))
    · exact Or.inr (Int32.toInt_inj.mp (by rw [e, h]; rfl))
  rcases h0 with rfl | rfl
  · exact ⟨rfl, rfl⟩
  · exact ⟨rfl, rfl⟩
theorem au_nf_o {ad : au_A → Nat} {Lv : au_A → Prop} {x : Option au_A} {n : String} {c : Value} (h : au_rel ad Lv (au_q x) c) : narrow (.object n) c = c ∧ fits (.object n) c = true := by
  match x, h with
  | none, h => cases h; exact ⟨rfl, rfl⟩
  | some a, h => obtain ⟨rfl, -⟩ := h; exact ⟨rfl, rfl⟩
theorem au_nf_a {ad : au_A → Nat} {Lv : au_A → Prop} {x : Option au_A} {t : FieldType} {c : Value} (h : au_rel ad Lv (au_q x) c) : narrow (.array t) c = c ∧ fits (.array t) c = true := by
  match x, h with
  | none, h => cases h; exact ⟨rfl, rfl⟩
  | some a, h => obtain ⟨rfl, -⟩ := h; exact ⟨rfl, rfl⟩
/-- an object's cell with one field written -/
theorem au_C.putf {G : au_G} {ad : au_A → Nat} {Lv : au_A → Prop} {M : au_M} {a : au_A} {H1 : Heap} {v : au_V} {cv : Value} {k : Nat} {fs : List Value} (hk : a.2.2 < 40) (hkN : k < au_N a.2.2) (p2 : fs.length = au_N a.2.2) (p3 : ∀ k : Nat, k < au_N a.2.2 → ∃ c, fs[k]? = some c ∧ au_rel ad Lv (au_val (au_tv (au_ty a.2.2 k)) M a (k : Int)) c) (hs : au_srt (au_tv (au_ty a.2.2 k)) v) (hv : au_rel ad Lv v cv) (p1 : va_at G.2.1 au_cl (ad a, .inr (a.2.2, fs.set k cv)) H1) : au_C G ad Lv (au_wv (au_tv (au_ty a.2.2 k)) M a k v) a H1 := by
  refine ⟨fun _ => ⟨fs.set k cv, p1, by rw [List.length_set]; exact p2, fun i hi => ?_⟩, fun q => absurd hk (by omega)⟩
  by_cases hik : i = k
  · subst hik
    exact ⟨cv, by rw [List.getElem?_set_self (by rw [p2]; exact hi)], by rw [au_val_self hs]; exact hv⟩
  · obtain ⟨c, c1, c2⟩ := p3 i hi
    exact ⟨c, by rw [List.getElem?_set_ne (fun q => hik q.symm)]; exact c1, by rw [au_val_wv hs _ _ _ _ _ (fun q => hik (Int.ofNat_inj.mp q.2))]; exact c2⟩
/-- a field written (not final) -/
theorem au_putf {own ref C : String} {T : u_T} {N index : Nat} {a : au_A} (hin : ∀ w ∈ u_ws C T N, w ∈ lw_all) (hty : ∀ k, k < N → parseFieldDescriptor (T k).2.2.1 = some (au_ty a.2.2 k)) (hnm : ∀ a, a < N → ∀ b, b < N → a ≠ b → (T a).2.1 ≠ (T b).2.1) (hk : a.2.2 < 40) (hc : au_cl[a.2.2]? = some (C, T, N)) (k : Nat) (hkN : k < N) (hN : au_N a.2.2 = N) (hnew : 1000 ≤ a.1) (ho : K.1 = own) (hq : (Cond.fieldLink own index ref (T k).2.1 (T k).2.2.1) ∈ lw_all) (hsame : (T k).1 = ref) (hfin : (T k).2.2.2 = false) {v : au_V} (hs : au_srt (au_tv (au_ty a.2.2 k)) v) (hnf : ∀ (ad : au_A → Nat) (Lv : au_A → Prop) (c : Value), au_rel ad Lv v c → narrow (au_ty a.2.2 k) c = c ∧ fits (au_ty a.2.2 k) c = true) (hd : decode K.2.1 pc = .ok (.putfield index, 3)) {M' : au_M} (hM : au_wv (au_tv (au_ty a.2.2 k)) M a k v = M')
    (kk : au_Go G K Qf (pc + 3) L st M' ck cs) : au_Go G K Qf pc L (v :: au_r a :: st) M ck cs := by
  intro p e s m args below meth c ad0 ad Lv0 Lv H ls cst locs X hm hP hLn hL hS hV hE
  obtain ⟨cv, ct, rfl, hv, hS0⟩ := au_S_v hS
  obtain ⟨ct, rfl, ha, hS1⟩ := au_S_r hS0
  obtain ⟨fs, p1, p2, p3⟩ := (hP.1 a ha).1 hk
  subst ho
  obtain ⟨n1, n2⟩ := hnf ad Lv cv hv
  have hK := X.2.2.2.2.2.2.2.1
  have hts := X.2.2.2.2.2.2.1
  have hown := X.2.2.2.2.2.1
  have hap := va_apart (own := K.1) hts hin (au_ty a.2.2) hty hnm hK hc
  obtain ⟨r, h1, cell, q1, q2, q3, q4⟩ := id p1
  have hr : r = (C, T, N) := Option.some.inj (h1.symm.trans hc)
  subst hr
  obtain ⟨hSl, hfc, kC, hkC, hkind⟩ := hK.1 a.2.2 _ hc
  obtain ⟨cf, kf, fi, f, hi, hsl⟩ := hSl k hkN
  have hlay := hts _ (hin _ (u_in_lay hkN))
  unfold u_lay at hlay
  rw [if_neg (by rw [hfin]; decide)] at hlay
  have hst := (u_facts hfc hkC (u_lays hts hin hkN) hi).1
  have h6 := u_store hfc hkC hkind hlay hi (hty k hkN) n1 n2
  refine W.putK X.1 X.2.1 (f := f) ⟨hown, hts _ hq, ⟨_, _, _, by rw [← hsame]; exact hi⟩, hst⟩ (by rw [q2]; exact h6) q1 q3 (by rw [hsl]; exact k2_hasslot (q4 k hkN)) rfl rfl hd fun H1 e1 e2 e3 => ?_
  rw [hsl] at e1 ⊢
  have hnewA : au_new G (ad a) := by
    rcases hP.2.2.2.1 a ha with q | q
    · omega
    · exact q
  have hl : k < fs.length := by rw [p2, hN]; exact hkN
  have hC : au_C G ad Lv M' a H1 := by
    rw [← hM]
    exact au_C.putf hk (by rw [hN]; exact hkN) p2 p3 hs hv ⟨_, hc, t_OB.to (V := updV (vp_V fs) k cv) ⟨_, e1, q2, q3, t_set q4 hap hkN cv⟩ (fun j _ => vp_updV_set hl cv j)⟩
  exact kk p e s m args below meth c ad0 ad Lv0 Lv H1 ls _ _ X hm (hP.upd ha (by omega) e2 e3 (by rw [← hM]; exact au_wv_nx _ _ _ _ _) (fun b hb q i => by rw [← hM]; exact au_val_wv hs _ _ _ _ _ (fun z => hb z.1) q) hC) hLn hL hS1 (hV.put e2 e3 hnewA) hE
/-- a nest mate's field written -/
theorem au_putN {own ref C host : String} {T : u_T} {N index : Nat} {a : au_A} (hin : ∀ w ∈ u_ws C T N, w ∈ lw_all) (hty : ∀ k, k < N → parseFieldDescriptor (T k).2.2.1 = some (au_ty a.2.2 k)) (hnm : ∀ a, a < N → ∀ b, b < N → a ≠ b → (T a).2.1 ≠ (T b).2.1) (hk : a.2.2 < 40) (hc : au_cl[a.2.2]? = some (C, T, N)) (k : Nat) (hkN : k < N) (hN : au_N a.2.2 = N) (hnew : 1000 ≤ a.1) (ho : K.1 = own) (hq : (Cond.fieldLinkNest own index ref (T k).2.1 (T k).2.2.1 host) ∈ lw_tbl) (hsame : (T k).1 = ref) (hfin : (T k).2.2.2 = false) {v : au_V} (hs : au_srt (au_tv (au_ty a.2.2 k)) v) (hnf : ∀ (ad : au_A → Nat) (Lv : au_A → Prop) (c : Value), au_rel ad Lv v c → narrow (au_ty a.2.2 k) c = c ∧ fits (au_ty a.2.2 k) c = true) (hd : decode K.2.1 pc = .ok (.putfield index, 3)) {M' : au_M} (hM : au_wv (au_tv (au_ty a.2.2 k)) M a k v = M')
    (kk : au_Go G K Qf (pc + 3) L st M' ck cs) : au_Go G K Qf pc L (v :: au_r a :: st) M ck cs := by
  intro p e s m args below meth c ad0 ad Lv0 Lv H ls cst locs X hm hP hLn hL hS hV hE
  obtain ⟨cv, ct, rfl, hv, hS0⟩ := au_S_v hS
  obtain ⟨ct, rfl, ha, hS1⟩ := au_S_r hS0
  obtain ⟨fs, p1, p2, p3⟩ := (hP.1 a ha).1 hk
  subst ho
  obtain ⟨n1, n2⟩ := hnf ad Lv cv hv
  have hK := X.2.2.2.2.2.2.2.1
  have hts := X.2.2.2.2.2.2.1
  have hown := X.2.2.2.2.2.1
  have hap := va_apart (own := K.1) hts hin (au_ty a.2.2) hty hnm hK hc
  obtain ⟨r, h1, cell, q1, q2, q3, q4⟩ := id p1
  have hr : r = (C, T, N) := Option.some.inj (h1.symm.trans hc)
  subst hr
  obtain ⟨hSl, hfc, kC, hkC, hkind⟩ := hK.1 a.2.2 _ hc
  obtain ⟨cf, kf, fi, f, hi, hsl⟩ := hSl k hkN
  have hlay := hts _ (hin _ (u_in_lay hkN))
  unfold u_lay at hlay
  rw [if_neg (by rw [hfin]; decide)] at hlay
  have hst := (u_facts hfc hkC (u_lays hts hin hkN) hi).1
  have h6 := u_store hfc hkC hkind hlay hi (hty k hkN) n1 n2
  refine va_WputK X.1 X.2.1 (f := f) hown (va_Nw.use rfl (X.2.2.2.2.2.2.2.2.2.2.1.1 _ hq rfl)) (by rw [← hsame]; exact hi) hst (by rw [q2]; exact h6) q1 q3 (by rw [hsl]; exact k2_hasslot (q4 k hkN)) rfl rfl hd fun H1 e1 e2 e3 => ?_
  rw [hsl] at e1 ⊢
  have hnewA : au_new G (ad a) := by
    rcases hP.2.2.2.1 a ha with q | q
    · omega
    · exact q
  have hl : k < fs.length := by rw [p2, hN]; exact hkN
  have hC : au_C G ad Lv M' a H1 := by
    rw [← hM]
    exact au_C.putf hk (by rw [hN]; exact hkN) p2 p3 hs hv ⟨_, hc, t_OB.to (V := updV (vp_V fs) k cv) ⟨_, e1, q2, q3, t_set q4 hap hkN cv⟩ (fun j _ => vp_updV_set hl cv j)⟩
  exact kk p e s m args below meth c ad0 ad Lv0 Lv H1 ls _ _ X hm (hP.upd ha (by omega) e2 e3 (by rw [← hM]; exact au_wv_nx _ _ _ _ _) (fun b hb q i => by rw [← hM]; exact au_val_wv hs _ _ _ _ _ (fun z => hb z.1) q) hC) hLn hL hS1 (hV.put e2 e3 hnewA) hE
/-- a final field written in a constructor -/
theorem au_putF {own ref C : String} {T : u_T} {N index : Nat} {a : au_A} (hin : ∀ w ∈ u_ws C T N, w ∈ lw_all) (hty : ∀ k, k < N → parseFieldDescriptor (T k).2.2.1 = some (au_ty a.2.2 k)) (hnm : ∀ a, a < N → ∀ b, b < N → a ≠ b → (T a).2.1 ≠ (T b).2.1) (hk : a.2.2 < 40) (hc : au_cl[a.2.2]? = some (C, T, N)) (k : Nat) (hkN : k < N) (hN : au_N a.2.2 = N) (hnew : 1000 ≤ a.1) (ho : K.1 = own) (hini : K.2.2.2.2.2 = "<init>") (hdecl : (T k).1 = own) (hq : (Cond.fieldLink own index ref (T k).2.1 (T k).2.2.1) ∈ lw_all) (hsame : (T k).1 = ref) (hfin : (T k).2.2.2 = true) {v : au_V} (hs : au_srt (au_tv (au_ty a.2.2 k)) v) (hnf : ∀ (ad : au_A → Nat) (Lv : au_A → Prop) (c : Value), au_rel ad Lv v c → narrow (au_ty a.2.2 k) c = c ∧ fits (au_ty a.2.2 k) c = true) (hd : decode K.2.1 pc = .ok (.putfield index, 3)) {M' : au_M} (hM : au_wv (au_tv (au_ty a.2.2 k)) M a k v = M')
    (kk : au_Go G K Qf (pc + 3) L st M' ck cs) : au_Go G K Qf pc L (v :: au_r a :: st) M ck cs := by
  intro p e s m args below meth c ad0 ad Lv0 Lv H ls cst locs X hm hP hLn hL hS hV hE
  obtain ⟨cv, ct, rfl, hv, hS0⟩ := au_S_v hS
  obtain ⟨ct, rfl, ha, hS1⟩ := au_S_r hS0
  obtain ⟨fs, p1, p2, p3⟩ := (hP.1 a ha).1 hk
  subst ho
  obtain ⟨n1, n2⟩ := hnf ad Lv cv hv
  have hK := X.2.2.2.2.2.2.2.1
  have hts := X.2.2.2.2.2.2.1
  have hown := X.2.2.2.2.2.1
  have hap := va_apart (own := K.1) hts hin (au_ty a.2.2) hty hnm hK hc
  obtain ⟨r, h1, cell, q1, q2, q3, q4⟩ := id p1
  have hr : r = (C, T, N) := Option.some.inj (h1.symm.trans hc)
  subst hr
  obtain ⟨hSl, hfc, kC, hkC, hkind⟩ := hK.1 a.2.2 _ hc
  obtain ⟨cf, kf, fi, f, hi, hsl⟩ := hSl k hkN
  have hlay := hts _ (hin _ (u_in_lay hkN))
  unfold u_lay at hlay
  rw [if_pos hfin] at hlay
  have hst := (u_facts hfc hkC (u_lays hts hin hkN) hi).1
  have hcf : m.cls = cf := by
    obtain ⟨_, _, c', _, _, _, -, -, hf', -, -, -, hown2, -⟩ := Cond.laysFinal_spec hlay
    have e1 : c' = cf := by have := hi.symm.trans hf'; simp at this; exact this.1.symm
    rw [hdecl] at hown2
    rw [← e1]; exact Option.some.inj (hown.symm.trans hown2)
  have h6 := u_fits hfc hkC hkind (Or.inr hlay) hi (hty k hkN) n1 n2
  refine W.putFinK X.1 X.2.1 hown (hts _ hq) (by rw [← hsame]; exact hi) hst hcf (hm.trans hini) (by rw [q2]; exact h6) q1 q3 (by rw [hsl]; exact k2_hasslot (q4 k hkN)) rfl rfl hd fun H1 e1 e2 e3 => ?_
  rw [hsl] at e1 ⊢
  have hnewA : au_new G (ad a) := by
    rcases hP.2.2.2.1 a ha with q | q
    · omega
    · exact q
  have hl : k < fs.length := by rw [p2, hN]; exact hkN
  have hC : au_C G ad Lv M' a H1 := by
    rw [← hM]
    exact au_C.putf hk (by rw [hN]; exact hkN) p2 p3 hs hv ⟨_, hc, t_OB.to (V := updV (vp_V fs) k cv) ⟨_, e1, q2, q3, t_set q4 hap hkN cv⟩ (fun j _ => vp_updV_set hl cv j)⟩
  exact kk p e s m args below meth c ad0 ad Lv0 Lv H1 ls _ _ X hm (hP.upd ha (by omega) e2 e3 (by rw [← hM]; exact au_wv_nx _ _ _ _ _) (fun b hb q i => by rw [← hM]; exact au_val_wv hs _ _ _ _ _ (fun z => hb z.1) q) hC) hLn hL hS1 (hV.put e2 e3 hnewA) hE
end AUM
