/-! System.arraycopy of ints -/
set_option maxRecDepth 100000
theorem au_nnI {z : Int32} (hz : ¬ z < 0) : z.toInt = (z.toNatClampNeg : Int) := by
  have hz0 : (0 : Int) ≤ z.toInt := by
    have := Int32.not_lt.mp hz
    simpa using Int32.le_iff_toInt_le.mp this
  show z.toInt = ((z.toInt.toNat : Nat) : Int)
  omega
theorem au_pos {i : Int32} {x : Int} (e : i.toInt = x) (h : 0 ≤ x) : ¬ i < 0 ∧ i.toNatClampNeg = x.toNat := by
  refine ⟨fun q => ?_, by rw [← e]; rfl⟩
  have := (au_l0 _).mp q
  omega
section AUCP
variable {G : au_G} {K : au_K} {Qf : au_Qf} {pc : Nat} {L : List (Option au_V)} {st : List au_V} {M : au_M} {ck cs : Nat}
set_option maxHeartbeats 1000000 in
theorem au_copyI {own : String} {index : Nat} {a b : au_A} {sp dp n : Int} {M' : au_M} (hq : (Cond.methodLink own index arraycopyName) ∈ lw_all) (hqn : (Cond.native arraycopyName) ∈ lw_all) (hqs : (Cond.static arraycopyName) ∈ lw_all) (hqi : (Cond.initialized "java/lang/System") ∈ lw_all) (ho : K.1 = own) (ha : a.2.2 = 40) (hb : b.2.2 = 40) (hnew : 1000 ≤ b.1) (h1 : 0 ≤ sp) (h2 : 0 ≤ dp) (h3 : 0 ≤ n) (h4 : sp + n ≤ (a.2.1 : Int)) (h5 : dp + n ≤ (b.2.1 : Int)) (hsum : (st.map au_cat).sum ≤ 8) (hR1 : 1 ≤ K.2.2.2.2.1.frames) (hR2 : 8 + (nativeFrameWords "java/lang/System" "arraycopy" 5 + 11) ≤ K.2.2.2.2.1.locals) (hd : decode K.2.1 pc = .ok (.invokestatic index, 3))
    (hn : M'.2.2.2.2.2 = M.2.2.2.2.2) (hM : ∀ c, c ≠ b → ∀ (q : Nat) (i : Int), au_val q M' c i = au_val q M c i) (hv : ∀ i : Nat, i < b.2.1 → au_gi M' b (i : Int) = if dp ≤ (i : Int) ∧ (i : Int) < dp + n then au_gi M a (sp + ((i : Int) - dp)) else au_gi M b (i : Int))
    (kk : au_Go G K Qf (pc + 3) L st M' ck cs) : au_Go G K Qf pc L (au_i n :: au_i dp :: au_r b :: au_i sp :: au_r a :: st) M ck cs := by
  intro p e s m args below meth c ad0 ad Lv0 Lv H ls cst locs X hm hP hLn hL hS hV hE
  obtain ⟨nI_, ct, rfl, en, hS1⟩ := au_S_i hS
  obtain ⟨dI, ct, rfl, ed, hS2⟩ := au_S_i hS1
  obtain ⟨ct, rfl, lb, hS3⟩ := au_S_r hS2
  obtain ⟨sI, ct, rfl, es, hS4⟩ := au_S_i hS3
  obtain ⟨ct, rfl, la, hS5⟩ := au_S_r hS4
  have hU := X.2.2.2.2.2.2.2
  have hts := X.2.2.2.2.2.2.1
  subst ho
  obtain ⟨f, pf, rf⟩ := (hP.1 a la).2 (by omega) (by omega)
  obtain ⟨g, pg, rg⟩ := (hP.1 b lb).2 (by omega) (by omega)
  rw [ha] at pf
  rw [hb] at pg
  obtain ⟨s1, s2⟩ := au_pos es h1
  obtain ⟨d1, d2⟩ := au_pos ed h2
  obtain ⟨n1, n2⟩ := au_pos en h3
  obtain ⟨-, k0, hk0, cm0, hkk0⟩ := au_arrOf hU 0 rfl a.2.1 f
  obtain ⟨-, k1, hk1, cm1, hkk1⟩ := au_arrOf hU 0 rfl b.2.1 g
  have hc := au_S_cat hS5
  intro T hT X0
  obtain ⟨vm', X', step⟩ := X0.arraycopy X.1 X.2.2.2.2.2.1 (hts _ hq) (hts _ hqn) (hts _ hqs) (hts _ hqi) (src := ad a) (dst := ad b) (cs := arrV (G.2.2.1 40) a.2.1 f) (cd := arrV (G.2.2.1 40) b.2.1 g) (srcPos := sI) (destPos := dI) (n := nI_) (by rw [hT]; exact pf) (by rw [hT]; exact pg)
    (fun _ h => by cases h) (fun _ h => by cases h) (fun h => by cases h) (fun h => by cases h) hk0 hk1 hkk0 hkk1 rfl s1 d1 n1
    (by rw [arrV_size, es, en]; omega) (by rw [arrV_size, ed, en]; omega)
    (fun vm₁ _ i hi => by
      have hi2 : sI.toNatClampNeg + i < a.2.1 := by rw [s2]; rw [n2] at hi; omega
      have e1 : (arrV (G.2.2.1 40) a.2.1 f).slots.getD (sI.toNatClampNeg + i) .null = f (sI.toNatClampNeg + i) := by
        rw [Array.getD_eq_getD_getElem?, arrV_read _ _ hi2]
        rfl
      have e2 := rf _ hi2
      rw [ha] at e2
      obtain ⟨z, e3, -⟩ := e2
      rw [e1, e3]
      exact ⟨rfl, trivial⟩)
    (g := F0 m pc ls (.int nI_ :: .int dI :: .ref (ad b) :: .int sI :: .ref (ad a) :: ct)) rfl (by
      obtain ⟨lv, h1, -⟩ := hL
      show ls.size = _
      rw [h1.1, hLn, X.2.2.1]) (rest := ct) rfl (by rw [X.2.1]; exact hd) hR1 (by show 2 * 0 + _ + _ ≤ _; omega)
  have e1 : copied (arrV (G.2.2.1 40) a.2.1 f) (arrV (G.2.2.1 40) b.2.1 g) sI dI nI_ = arrV (G.2.2.1 40) b.2.1 (va_cpy f g sI.toNatClampNeg dI.toNatClampNeg nI_.toNatClampNeg) := va_copied (fun z => z) _ _ f g (by rw [s2, n2]; omega)
  rw [e1] at X' step
  have hl : ad b < H.size := hP.2.2.2.2.2 b lb
  have hheap : ((T.setVm vm').setCell (ad b) (arrV (G.2.2.1 40) b.2.1 (va_cpy f g sI.toNatClampNeg dI.toNatClampNeg nI_.toNatClampNeg))).heap = H.setIfInBounds (ad b) (arrV (G.2.2.1 40) b.2.1 (va_cpy f g sI.toNatClampNeg dI.toNatClampNeg nI_.toNatClampNeg)) := by rw [← hT]; rfl
  have oq : ∀ q : Nat, q ≠ ad b → (H.setIfInBounds (ad b) (arrV (G.2.2.1 40) b.2.1 (va_cpy f g sI.toNatClampNeg dI.toNatClampNeg nI_.toNatClampNeg)))[q]? = H[q]? := fun q hq => by simp [Array.getElem?_setIfInBounds, Ne.symm hq]
  have hCb : au_C G ad Lv M' b (H.setIfInBounds (ad b) (arrV (G.2.2.1 40) b.2.1 (va_cpy f g sI.toNatClampNeg dI.toNatClampNeg nI_.toNatClampNeg))) := by
    refine ⟨fun q => absurd q (by omega), fun _ _ => ⟨va_cpy f g sI.toNatClampNeg dI.toNatClampNeg nI_.toNatClampNeg, by rw [hb]; simp [Array.getElem?_setIfInBounds, hl], fun i hi => ?_⟩⟩
    have hvi := hv i hi
    rw [hb]
    show au_rel ad Lv (au_i (au_gi M' b (i : Int))) _
    rw [hvi]
    unfold va_cpy
    rw [s2, d2, n2]
    by_cases q : dp ≤ (i : Int) ∧ (i : Int) < dp + n
    · rw [if_pos q, if_pos (by omega)]
      have := rf (sp.toNat + (i - dp.toNat)) (by omega)
      rw [ha] at this
      have e5 : ((sp.toNat + (i - dp.toNat) : Nat) : Int) = sp + ((i : Int) - dp) := by omega
      rw [e5] at this
      exact this
    · rw [if_neg q, if_neg (by omega)]
      have := rg i hi
      rw [hb] at this
      exact this
  have hP' := hP.upd (M' := M') lb (by omega) (H1 := H.setIfInBounds (ad b) (arrV (G.2.2.1 40) b.2.1 (va_cpy f g sI.toNatClampNeg dI.toNatClampNeg nI_.toNatClampNeg))) (by simp) oq hn hM hCb
  have hnw := au_nw hP lb hnew
  obtain ⟨t, a1, b1⟩ := kk p e s m args below meth c ad0 ad Lv0 Lv _ ls ct _ X hm hP' hLn hL hS5 ⟨by simp; exact hV.1, fun q g1 g2 => by
      rw [oq q (fun e => g2 (by rw [e]; exact hnw))]
      exact hV.2.1 q g1 g2, fun q hq => by
      rcases List.mem_append.mp hq with h | h
      · exact hV.2.2 q h
      · obtain ⟨z, -, hz⟩ := List.mem_map.mp h
        rw [← hz]
        exact hnw⟩ hE _ hheap X'
  exact ⟨t, step t a1, b1⟩
end AUCP
/-- a stretch of one array laid over another one's -/
def au_cp (f g : au_A → Int → Int) (a : au_A) (sp : Int) (b : au_A) (dp n : Int) : au_A → Int → Int := fun c k => if c = b ∧ dp ≤ k ∧ k < dp + n then f a (sp + (k - dp)) else g c k
