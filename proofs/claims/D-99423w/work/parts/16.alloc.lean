/-! NEW CELLS -/
set_option maxRecDepth 100000
/-- memory with a cell more: a0, all its places at their default; the rest as it was -/
def au_fr (k : Nat) (M : au_M) (a0 : au_A) (M' : au_M) : Prop := M'.2.2.2.2.2 = M.2.2.2.2.2 + 1 ∧ (∀ b, b ≠ a0 → ∀ (q : Nat) (i : Int), au_val q M' b i = au_val q M b i) ∧ k = k
/-- a place's default -/
def au_df (k : Nat) : au_V := match k with
  | 0 => au_i 0 | 1 => au_l 0 | _ => au_n
theorem au_df_rel (ty : FieldType) (h : ty ≠ .float ∧ ty ≠ .double) (ad : au_A → Nat) (Lv : au_A → Prop) : au_rel ad Lv (au_df (au_tv ty)) (defaultValue ty) := by
  cases ty with
  | float => exact absurd rfl h.1
  | double => exact absurd rfl h.2
  | long => exact ⟨0, rfl, rfl⟩
  | object _ => rfl
  | array _ => rfl
  | _ => exact ⟨0, rfl, rfl⟩
theorem au_P.add {G : au_G} {ad : au_A → Nat} {Lv : au_A → Prop} {M M' : au_M} {H H1 : Heap} {a0 : au_A} (hP : au_P G ad Lv M H) (h0 : a0.1 = M.2.2.2.2.2) (h1 : 1000 ≤ a0.1) (hb : G.2.2.2.2 ≤ H.size) (hz : H1.size = H.size + 1) (ho : ∀ q : Nat, q < H.size → H1[q]? = H[q]?) (hn : M'.2.2.2.2.2 = M.2.2.2.2.2 + 1)
    (hM : ∀ b, b ≠ a0 → ∀ (q : Nat) (i : Int), au_val q M' b i = au_val q M b i) (hC : ∀ (ad' : au_A → Nat) (Lv' : au_A → Prop), ad' a0 = H.size → au_C G ad' Lv' M' a0 H1) :
    ∃ (ad' : au_A → Nat) (Lv' : au_A → Prop), au_ext ad Lv ad' Lv' ∧ au_P G ad' Lv' M' H1 ∧ Lv' a0 ∧ ad' a0 = H.size := by
  obtain ⟨p1, p2, p3, p4, p5, p6⟩ := hP
  have hne : ∀ b, Lv b → b ≠ a0 := fun b hb e => by
    have := p3 b hb
    rw [e, h0] at this
    exact Nat.lt_irrefl _ this
  let ad' : au_A → Nat := fun b => if b = a0 then H.size else ad b
  let Lv' : au_A → Prop := fun b => Lv b ∨ b = a0
  have ea : ad' a0 = H.size := if_pos rfl
  have eo : ∀ b, Lv b → ad' b = ad b := fun b hb => if_neg (hne b hb)
  have hext : au_ext ad Lv ad' Lv' := fun b hb => ⟨Or.inl hb, eo b hb⟩
  refine ⟨ad', Lv', hext, ⟨?_, ?_, ?_, ?_, ?_, ?_⟩, Or.inr rfl, ea⟩
  · rintro b (hb | hb)
    · exact (p1 b hb).kept hext hb (ho _ (p6 b hb)) (hM b (hne b hb))
    · rw [hb]; exact hC ad' Lv' ea
  · rintro a b (ha | ha) (hb | hb) ka kb e
    · rw [eo a ha, eo b hb] at e; exact p2 a b ha hb ka kb e
    · rw [eo a ha, hb, ea] at e
      have := p6 a ha
      omega
    · rw [ha, ea, eo b hb] at e
      have := p6 b hb
      omega
    · rw [ha, hb]
  · rintro b (hb | hb)
    · rw [hn]; have := p3 b hb; omega
    · rw [hn, hb]; omega
  · rintro b (hc | hc)
    · rw [eo b hc]; exact p4 b hc
    · rw [hc, ea]; exact Or.inr hb
  · intro b hb hb2
    obtain ⟨q1, q2⟩ := p5 b hb hb2
    exact ⟨Or.inl q1, by rw [eo b q1]; exact q2⟩
  · rintro b (hb | hb)
    · rw [eo b hb, hz]; have := p6 b hb; omega
    · rw [hb, ea, hz]; omega
section AUN
variable {G : au_G} {K : au_K} {Qf : au_Qf} {pc : Nat} {L : List (Option au_V)} {st : List au_V} {M : au_M} {ck cs : Nat}
/-- a new array of numbers -/
theorem au_newa {atype : ArrayType} {n : Int} {kd : Nat} {M' : au_M} (hq : (Cond.arrayClass (newarray.typeOf atype)) ∈ lw_all) (hkd : 40 ≤ kd ∧ kd < 60) (hty : newarray.typeOf atype = au_et kd) (htk : (au_tys G)[kd - 40]? = some (G.2.2.1 kd, au_et kd)) (hra : ∀ U : State, va_RA U (G.2.2.1 kd) (au_et kd) → U.vm.findClass ("[" ++ (au_et kd).toString) = some (G.2.2.1 kd)) (hfl : au_et kd ≠ .float ∧ au_et kd ≠ .double) (hd : decode K.2.1 pc = .ok (.newarray atype, 2)) (h0 : 0 ≤ n) (h1 : n < 100000) (hnx : 1000 ≤ M.2.2.2.2.2) (hc : ck + 1 ≤ K.2.2.2.2.1.cells) (hs : cs + n.toNat ≤ K.2.2.2.2.1.slots) (hbs : componentBytes (au_et kd) ≤ 8)
    (hn : M'.2.2.2.2.2 = M.2.2.2.2.2 + 1) (hM : ∀ b, b ≠ ((M.2.2.2.2.2, n.toNat, kd) : au_A) → ∀ (q : Nat) (i : Int), au_val q M' b i = au_val q M b i) (hM0 : ∀ i : Nat, i < n.toNat → au_val (au_tv (au_et kd)) M' (M.2.2.2.2.2, n.toNat, kd) (i : Int) = au_df (au_tv (au_et kd)))
    (kk : au_Go G K Qf (pc + 2) L (au_r (M.2.2.2.2.2, n.toNat, kd) :: st) M' (ck + 1) (cs + n.toNat)) : au_Go G K Qf pc L (au_i n :: st) M ck cs := by
  intro p e s m args below meth c ad0 ad Lv0 Lv H ls cst locs X hm hP hLn hL hS hV hE
  obtain ⟨i, ct, rfl, ei, hS1⟩ := au_S_i hS
  have hU := X.2.2.2.2.2.2.2
  have hts := X.2.2.2.2.2.2.1
  have hcl : i.toNatClampNeg = n.toNat := by rw [← ei]; rfl
  refine va_newaK X.1 X.2.1 (hts _ hq) rfl hd rfl (fun q => by have := (au_l0 _).mp q; omega) hcl (by rw [hty]; have : n.toNat * componentBytes (au_et kd) ≤ 100000 * 8 := Nat.mul_le_mul (by omega) hbs; omega) hc hs rfl fun H1 cA e1 z1 o1 hAr hNm => ?_
  have hK := hU.1.2 _ _ htk
  have hcA : cA = G.2.2.1 kd := by
    have h2 := hra s hK.2
    rw [hty] at hNm
    exact Option.some.inj (hNm.symm.trans h2)
  have hbH : G.2.2.2.2 ≤ H.size := Nat.le_trans hU.2.2.1 hV.1
  obtain ⟨ad', Lv', x1, x2, x3, x4⟩ := hP.add (M' := M') (H1 := H1) (a0 := (M.2.2.2.2.2, n.toNat, kd)) rfl hnx hbH z1 o1 hn hM (fun ad' Lv' ea => by
    refine ⟨fun q => absurd q (by show ¬ kd < 40; omega), fun _ _ => ⟨fun _ => defaultValue (au_et kd), ?_, fun j hj => ?_⟩⟩
    · rw [ea]
      show H1[H.size]? = some (arrV (G.2.2.1 kd) n.toNat _)
      rw [e1, hcA, hty]
    · rw [hM0 j hj]
      exact au_df_rel _ hfl _ _)
  have hx := kk p e s m args below meth c ad0 ad' Lv0 Lv' H1 ls (.ref H.size :: ct) locs X hm x2 hLn (hL.ext x1) ⟨⟨by rw [x4], x3⟩, hS1.ext x1⟩ ⟨by rw [z1]; have := hV.1; omega, fun q h1 h2 => (o1 q (Nat.lt_of_lt_of_le h1 hV.1)).trans (hV.2.1 q h1 h2), hV.2.2⟩ (hE.tr x1)
  exact hx
/-- a new object -/
theorem au_newo {own C : String} {T : u_T} {N index kd : Nat} {M' : au_M} (hin : ∀ w ∈ u_ws C T N, w ∈ lw_all) (hty : ∀ k, k < N → parseFieldDescriptor (T k).2.2.1 = some (au_ty kd k)) (hkd : kd < 40) (hc0 : au_cl[kd]? = some (C, T, N)) (hN : au_N kd = N) (ho : K.1 = own) (hcl : (Cond.classLink own index C) ∈ lw_all) (hinst : (Cond.instantiable C N) ∈ lw_all) (hini : (Cond.initialized C) ∈ lw_all) (hfl : ∀ k, k < N → au_ty kd k ≠ .float ∧ au_ty kd k ≠ .double) (hd : decode K.2.1 pc = .ok (.new index, 3)) (hnx : 1000 ≤ M.2.2.2.2.2) (hc : ck + 1 ≤ K.2.2.2.2.1.cells) (hs : cs + N ≤ K.2.2.2.2.1.slots)
    (hn : M'.2.2.2.2.2 = M.2.2.2.2.2 + 1) (hM : ∀ b, b ≠ ((M.2.2.2.2.2, 0, kd) : au_A) → ∀ (q : Nat) (i : Int), au_val q M' b i = au_val q M b i) (hM0 : ∀ i : Nat, i < N → au_val (au_tv (au_ty kd i)) M' (M.2.2.2.2.2, 0, kd) (i : Int) = au_df (au_tv (au_ty kd i)))
    (kk : au_Go G K Qf (pc + 3) L (au_r (M.2.2.2.2.2, 0, kd) :: st) M' (ck + 1) (cs + N)) : au_Go G K Qf pc L st M ck cs := by
  intro p e s m args below meth c ad0 ad Lv0 Lv H ls cst locs X hm hP hLn hL hS hV hE
  have hU := X.2.2.2.2.2.2.2
  have hts := X.2.2.2.2.2.2.1
  subst ho
  have hKn := hU.1.1 kd _ hc0
  refine W.newcK X.1 X.2.1 X.2.2.2.2.2.1 (hts _ hcl) (hts _ hinst) (hts _ hini) rfl hd hc hs hKn.2.1 rfl fun H1 kC hkC e1 z1 o1 => ?_
  have hbH : G.2.2.2.2 ≤ H.size := Nat.le_trans hU.2.2.1 hV.1
  obtain ⟨ad', Lv', x1, x2, x3, x4⟩ := hP.add (M' := M') (H1 := H1) (a0 := (M.2.2.2.2.2, 0, kd)) rfl hnx hbH z1 o1 hn hM (fun ad' Lv' ea => by
    refine ⟨fun _ => ⟨(List.range N).map (fun k => defaultValue (au_ty kd k)), ?_, by simp [hN], fun j hj => ?_⟩, fun q => absurd hkd (by show ¬ kd < 40; have : 40 ≤ kd := q; omega)⟩
    · rw [ea]
      refine ⟨_, hc0, (u_born (au_ty kd) hts hin hKn hkC e1 hty).to fun j hj => ?_⟩
      simp [vp_V, hj]
    · have hj : j < N := by rw [← hN]; exact hj
      refine ⟨defaultValue (au_ty kd j), by simp [hj], ?_⟩
      rw [hM0 j hj]
      exact au_df_rel _ (hfl j hj) _ _)
  exact kk p e s m args below meth c ad0 ad' Lv0 Lv' H1 ls (.ref H.size :: cst) locs X hm x2 hLn (hL.ext x1) ⟨⟨by rw [x4], x3⟩, hS.ext x1⟩ ⟨by rw [z1]; have := hV.1; omega, fun q h1 h2 => (o1 q (Nat.lt_of_lt_of_le h1 hV.1)).trans (hV.2.1 q h1 h2), hV.2.2⟩ (hE.tr x1)
theorem au_zr_ne {α : Type} (f : au_A → Int → α) {a b : au_A} {j : Int} (z : α) (h : b ≠ a) : au_zr f a z b j = f b j := if_neg h
theorem au_zr_self {α : Type} (f : au_A → Int → α) (a : au_A) (j : Int) (z : α) : au_zr f a z a j = z := if_pos rfl
theorem au_gi_zs {mi si hi sl : au_A → Int → Int} {r : au_A → Int → Option au_A} {nx nx' : Nat} {a b : au_A} (h : b ≠ a) (i : Int) : au_gi (mi, au_zr si a 0, hi, sl, r, nx') b i = au_gi (mi, si, hi, sl, r, nx) b i := by
  unfold au_gi
  match au_reg b i with
  | 0 => rfl
  | 1 => exact au_zr_ne si 0 h
  | n + 2 => rfl
theorem au_reg_dyn {n len : Nat} (h : 1126 ≤ n) (j : Int) : au_reg (n, len, 40) j = 1 := by
  unfold au_reg
  rw [if_neg (by simp; omega)]
  rfl
/-- a new array of ints that is scratch -/
theorem au_newi {mi si hi sl : au_A → Int → Int} {r : au_A → Int → Option au_A} {nx : Nat} {n : Int} (hd : decode K.2.1 pc = .ok (.newarray .int, 2)) (h0 : 0 ≤ n) (h1 : n < 100000) (hnx : 1126 ≤ nx) (hc : ck + 1 ≤ K.2.2.2.2.1.cells) (hs : cs + n.toNat ≤ K.2.2.2.2.1.slots)
    (kk : au_Go G K Qf (pc + 2) L (au_r (nx, n.toNat, 40) :: st) (mi, au_zr si (nx, n.toNat, 40) 0, hi, sl, r, nx + 1) (ck + 1) (cs + n.toNat)) : au_Go G K Qf pc L (au_i n :: st) (mi, si, hi, sl, r, nx) ck cs := by
  refine au_newa (atype := .int) (kd := 40) q231 (by decide) rfl rfl (fun U h => h) ⟨by decide, by decide⟩ hd h0 h1 (by show 1000 ≤ nx; omega) hc hs (by decide) rfl (fun b hb q i => ?_) (fun i hi_ => ?_) kk
  · unfold au_val
    match q with
    | 0 => exact congrArg au_i (au_gi_zs hb i)
    | 1 => rfl
    | n + 2 => rfl
  · show au_i (au_gi _ _ _) = au_i 0
    unfold au_gi
    rw [au_reg_dyn (by exact hnx)]
    exact congrArg au_i (au_zr_self _ _ _ _)
end AUN
