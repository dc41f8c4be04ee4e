/-! ARRAY ROWS, RETURNS (printed by tools/gen_arr.py) -/
set_option maxRecDepth 100000
theorem au_ix {i : Int32} {j : Int} {n : Nat} (e : i.toInt = j) (h0 : 0 ≤ j) (h1 : j < (n : Int)) : ¬ (i < 0 ∨ n ≤ i.toNatClampNeg) ∧ i.toNatClampNeg < n ∧ ((i.toNatClampNeg : Nat) : Int) = j := by
  have h2 : i.toNatClampNeg = j.toNat := by rw [← e]; rfl
  rw [h2]
  refine ⟨fun q => ?_, by omega, by omega⟩
  rcases q with q | q
  · have := (au_l0 _).mp q
    omega
  · omega
theorem au_arrOf {G : au_G} {s : State} {H : Heap} (h : au_U G s H) (k : Nat) (hk : (au_tys G)[k]? = some (G.2.2.1 (k + 40), au_et (k + 40))) (n : Nat) (f : Nat → Value) : s.isArrayOf (arrV (G.2.2.1 (k + 40)) n f) (au_et (k + 40)) := (h.1.2 k _ hk).1 n f
/-- an array's cell with one place written -/
theorem au_C.putA {G : au_G} {ad : au_A → Nat} {Lv : au_A → Prop} {M : au_M} {a : au_A} {H1 : Heap} {v : au_V} {cv : Value} {k : Nat} {f : Nat → Value} (h1 : 40 ≤ a.2.2) (hf : ∀ i : Nat, i < a.2.1 → au_rel ad Lv (au_val (au_tv (au_et a.2.2)) M a (i : Int)) (f i)) (hs : au_srt (au_tv (au_et a.2.2)) v) (hv : au_rel ad Lv v cv) (p1 : H1[ad a]? = some (arrV (G.2.2.1 a.2.2) a.2.1 (updV f k cv))) : au_C G ad Lv (au_wv (au_tv (au_et a.2.2)) M a k v) a H1 := by
  refine ⟨fun q => absurd q (by omega), fun _ _ => ⟨_, p1, fun i hi => ?_⟩⟩
  by_cases hik : i = k
  · subst hik
    rw [au_val_self hs]
    simp only [updV, if_true]
    exact hv
  · rw [au_val_wv hs _ _ _ _ _ (fun q => hik (Int.ofNat_inj.mp q.2))]
    simp only [updV, if_neg hik]
    exact hf i hi
section AUA
variable {G : au_G} {K : au_K} {Qf : au_Qf} {pc : Nat} {L : List (Option au_V)} {st : List au_V} {M : au_M} {ck cs : Nat}
theorem au_iald {a : au_A} {j : Int} {v : au_V} (hd : decode K.2.1 pc = .ok (.iaload, 1)) (hk : a.2.2 = 40) (h0 : 0 ≤ j) (h1 : j < (a.2.1 : Int)) (hv : au_i (au_gi M a j) = v) (kk : au_Go G K Qf (pc + 1) L (v :: st) M ck cs) : au_Go G K Qf pc L (au_i j :: au_r a :: st) M ck cs := by
  intro p e s m args below meth c ad0 ad Lv0 Lv H ls cst locs X hm hP hLn hL hS hV hE
  obtain ⟨i, ct, rfl, ei, hS1⟩ := au_S_i hS
  obtain ⟨ct, rfl, ha, hS2⟩ := au_S_r hS1
  obtain ⟨f, p1, p2⟩ := (hP.1 a ha).2 (by omega) (by omega)
  obtain ⟨x1, x2, x3⟩ := au_ix ei h0 h1
  have hr := p2 _ x2
  rw [x3, hk] at hr
  rw [hk] at p1
  have hU := X.2.2.2.2.2.2.2
  exact W.iald X.1 X.2.1 p1 (au_arrOf hU 0 rfl _ _) (fun h => by cases h) (by rw [arrV_size]; exact x1) (arrV_read _ _ x2) rfl rfl hd (kk p e s m args below meth c ad0 ad Lv0 Lv H ls _ locs X hm hP hLn hL ⟨by rw [← hv]; exact hr, hS2⟩ hV hE)
theorem au_bald {a : au_A} {j : Int} {v : au_V} (hd : decode K.2.1 pc = .ok (.baload, 1)) (hk : a.2.2 = 41) (h0 : 0 ≤ j) (h1 : j < (a.2.1 : Int)) (hv : au_i (au_gi M a j) = v) (kk : au_Go G K Qf (pc + 1) L (v :: st) M ck cs) : au_Go G K Qf pc L (au_i j :: au_r a :: st) M ck cs := by
  intro p e s m args below meth c ad0 ad Lv0 Lv H ls cst locs X hm hP hLn hL hS hV hE
  obtain ⟨i, ct, rfl, ei, hS1⟩ := au_S_i hS
  obtain ⟨ct, rfl, ha, hS2⟩ := au_S_r hS1
  obtain ⟨f, p1, p2⟩ := (hP.1 a ha).2 (by omega) (by omega)
  obtain ⟨x1, x2, x3⟩ := au_ix ei h0 h1
  have hr := p2 _ x2
  rw [x3, hk] at hr
  rw [hk] at p1
  have hU := X.2.2.2.2.2.2.2
  exact W.bald X.1 X.2.1 p1 (au_arrOf hU 1 rfl _ _) (fun h => by cases h) (by rw [arrV_size]; exact x1) (arrV_read _ _ x2) rfl rfl hd (kk p e s m args below meth c ad0 ad Lv0 Lv H ls _ locs X hm hP hLn hL ⟨by rw [← hv]; exact hr, hS2⟩ hV hE)
theorem au_lald {a : au_A} {j : Int} {v : au_V} (hd : decode K.2.1 pc = .ok (.laload, 1)) (hk : a.2.2 = 42) (h0 : 0 ≤ j) (h1 : j < (a.2.1 : Int)) (hv : au_l (M.2.2.2.1 a j) = v) (kk : au_Go G K Qf (pc + 1) L (v :: st) M ck cs) : au_Go G K Qf pc L (au_i j :: au_r a :: st) M ck cs := by
  intro p e s m args below meth c ad0 ad Lv0 Lv H ls cst locs X hm hP hLn hL hS hV hE
  obtain ⟨i, ct, rfl, ei, hS1⟩ := au_S_i hS
  obtain ⟨ct, rfl, ha, hS2⟩ := au_S_r hS1
  obtain ⟨f, p1, p2⟩ := (hP.1 a ha).2 (by omega) (by omega)
  obtain ⟨x1, x2, x3⟩ := au_ix ei h0 h1
  have hr := p2 _ x2
  rw [x3, hk] at hr
  rw [hk] at p1
  have hU := X.2.2.2.2.2.2.2
  exact W.lald X.1 X.2.1 p1 (au_arrOf hU 2 rfl _ _) (fun h => by cases h) (by rw [arrV_size]; exact x1) (arrV_read _ _ x2) rfl rfl hd (kk p e s m args below meth c ad0 ad Lv0 Lv H ls _ locs X hm hP hLn hL ⟨by rw [← hv]; exact hr, hS2⟩ hV hE)
theorem au_zald {a : au_A} {j : Int} {v : au_V} (hd : decode K.2.1 pc = .ok (.baload, 1)) (hk : a.2.2 = 43) (h0 : 0 ≤ j) (h1 : j < (a.2.1 : Int)) (hv : au_i (au_gi M a j) = v) (kk : au_Go G K Qf (pc + 1) L (v :: st) M ck cs) : au_Go G K Qf pc L (au_i j :: au_r a :: st) M ck cs := by
  intro p e s m args below meth c ad0 ad Lv0 Lv H ls cst locs X hm hP hLn hL hS hV hE
  obtain ⟨i, ct, rfl, ei, hS1⟩ := au_S_i hS
  obtain ⟨ct, rfl, ha, hS2⟩ := au_S_r hS1
  obtain ⟨f, p1, p2⟩ := (hP.1 a ha).2 (by omega) (by omega)
  obtain ⟨x1, x2, x3⟩ := au_ix ei h0 h1
  have hr := p2 _ x2
  rw [x3, hk] at hr
  rw [hk] at p1
  have hU := X.2.2.2.2.2.2.2
  exact W.zald X.1 X.2.1 p1 (au_arrOf hU 3 rfl _ _) (fun h => by cases h) (by rw [arrV_size]; exact x1) (arrV_read _ _ x2) rfl rfl hd (kk p e s m args below meth c ad0 ad Lv0 Lv H ls _ locs X hm hP hLn hL ⟨by rw [← hv]; exact hr, hS2⟩ hV hE)
theorem au_aald {a : au_A} {j : Int} {v : au_V} (hd : decode K.2.1 pc = .ok (.aaload, 1)) (hk : 44 ≤ a.2.2) (hk2 : a.2.2 ≤ 48) (h0 : 0 ≤ j) (h1 : j < (a.2.1 : Int)) (hv : au_q (M.2.2.2.2.1 a j) = v) (kk : au_Go G K Qf (pc + 1) L (v :: st) M ck cs) : au_Go G K Qf pc L (au_i j :: au_r a :: st) M ck cs := by
  intro p e s m args below meth c ad0 ad Lv0 Lv H ls cst locs X hm hP hLn hL hS hV hE
  obtain ⟨i, ct, rfl, ei, hS1⟩ := au_S_i hS
  obtain ⟨ct, rfl, ha, hS2⟩ := au_S_r hS1
  obtain ⟨f, p1, p2⟩ := (hP.1 a ha).2 (by omega) (by omega)
  obtain ⟨x1, x2, x3⟩ := au_ix ei h0 h1
  have hr := p2 _ x2
  rw [x3] at hr
  have hU := X.2.2.2.2.2.2.2
  have hx : ∃ k : Nat, a.2.2 = k + 40 ∧ (au_tys G)[k]? = some (G.2.2.1 (k + 40), au_et (k + 40)) ∧ (au_et (k + 40)).isReference = true ∧ au_tv (au_et (k + 40)) = 2 := by
    have h5 : a.2.2 = 44 ∨ a.2.2 = 45 ∨ a.2.2 = 46 ∨ a.2.2 = 47 ∨ a.2.2 = 48 := by omega
    rcases h5 with h | h | h | h | h
    · exact ⟨4, h, rfl, rfl, rfl⟩
    · exact ⟨5, h, rfl, rfl, rfl⟩
    · exact ⟨6, h, rfl, rfl, rfl⟩
    · exact ⟨7, h, rfl, rfl, rfl⟩
    · exact ⟨8, h, rfl, rfl, rfl⟩
  obtain ⟨k, ek, h6, h7, h8⟩ := hx
  rw [ek] at p1 hr
  rw [h8] at hr
  exact W.aald X.1 X.2.1 p1 (au_arrOf hU k h6 _ _) h7 (fun h => by cases h) (by rw [arrV_size]; exact x1) (arrV_read _ _ x2) rfl rfl hd (kk p e s m args below meth c ad0 ad Lv0 Lv H ls _ locs X hm hP hLn hL ⟨by rw [← hv]; exact hr, hS2⟩ hV hE)
theorem au_nw {G : au_G} {ad : au_A → Nat} {Lv : au_A → Prop} {M : au_M} {H : Heap} (hP : au_P G ad Lv M H) {a : au_A} (ha : Lv a) (hnew : 1000 ≤ a.1) : au_new G (ad a) := by
  rcases hP.2.2.2.1 a ha with q | q
  · omega
  · exact q
def au_byte (x : Int) : Int := (Int32.ofInt x).toInt8.toInt32.toInt
theorem au_iast {a : au_A} {j x : Int} {M' : au_M} (hd : decode K.2.1 pc = .ok (.iastore, 1)) (hk : a.2.2 = 40) (hnew : 1000 ≤ a.1) (h0 : 0 ≤ j) (h1 : j < (a.2.1 : Int)) (hM : au_wv 0 M a j (au_i x) = M') (kk : au_Go G K Qf (pc + 1) L st M' ck cs) : au_Go G K Qf pc L (au_i x :: au_i j :: au_r a :: st) M ck cs := by
  intro p e s m args below meth c ad0 ad Lv0 Lv H ls cst locs X hm hP hLn hL hS hV hE
  obtain ⟨i, ct, rfl, ex, hS0⟩ := au_S_i hS
  obtain ⟨ij, ct, rfl, ei, hS1⟩ := au_S_i hS0
  obtain ⟨ct, rfl, ha, hS2⟩ := au_S_r hS1
  obtain ⟨f, p1, p2⟩ := (hP.1 a ha).2 (by omega) (by omega)
  obtain ⟨x1, x2, x3⟩ := au_ix ei h0 h1
  rw [hk] at p1
  have hU := X.2.2.2.2.2.2.2
  subst ex
  have hrel : au_rel ad Lv (au_i i.toInt) (.int i) := au_ri rfl
  have hs : au_srt (au_tv (au_et a.2.2)) (au_i i.toInt) := by rw [hk]; exact trivial
  have hM : au_wv (au_tv (au_et a.2.2)) M a j (au_i i.toInt) = M' := by rw [hk]; exact hM
  refine W.iast X.1 X.2.1 p1 (au_arrOf hU 0 rfl _ _) (fun h => by cases h) (by rw [arrV_size]; exact x1) rfl rfl hd fun H1 e1 e2 e3 => ?_
  rw [arrV_store] at e1
  exact kk p e s m args below meth c ad0 ad Lv0 Lv H1 ls _ _ X hm (hP.upd ha (by omega) e2 e3 (by rw [← hM]; exact au_wv_nx _ _ _ _ _) (fun b hb q i => by rw [← hM]; exact au_val_wv hs _ _ _ _ _ (fun z => hb z.1) q) (by rw [← hM, ← x3]; exact au_C.putA (by omega) p2 hs hrel (by rw [hk]; exact e1))) hLn hL hS2 (hV.put e2 e3 (au_nw hP ha hnew)) hE
theorem au_bast {a : au_A} {j x : Int} {M' : au_M} (hd : decode K.2.1 pc = .ok (.bastore, 1)) (hk : a.2.2 = 41) (hnew : 1000 ≤ a.1) (h0 : 0 ≤ j) (h1 : j < (a.2.1 : Int)) (hM : au_wv 0 M a j (au_i (au_byte x)) = M') (kk : au_Go G K Qf (pc + 1) L st M' ck cs) : au_Go G K Qf pc L (au_i x :: au_i j :: au_r a :: st) M ck cs := by
  intro p e s m args below meth c ad0 ad Lv0 Lv H ls cst locs X hm hP hLn hL hS hV hE
  obtain ⟨i, ct, rfl, ex, hS0⟩ := au_S_i hS
  obtain ⟨ij, ct, rfl, ei, hS1⟩ := au_S_i hS0
  obtain ⟨ct, rfl, ha, hS2⟩ := au_S_r hS1
  obtain ⟨f, p1, p2⟩ := (hP.1 a ha).2 (by omega) (by omega)
  obtain ⟨x1, x2, x3⟩ := au_ix ei h0 h1
  rw [hk] at p1
  have hU := X.2.2.2.2.2.2.2
  subst ex
  have hrel : au_rel ad Lv (au_i (au_byte i.toInt)) (narrow .byte (.int i)) := by
    refine ⟨i.toInt8.toInt32, rfl, ?_⟩
    simp only [au_byte, au_of32]
  have hs : au_srt (au_tv (au_et a.2.2)) (au_i (au_byte i.toInt)) := by rw [hk]; exact trivial
  have hM : au_wv (au_tv (au_et a.2.2)) M a j (au_i (au_byte i.toInt)) = M' := by rw [hk]; exact hM
  refine W.bast X.1 X.2.1 p1 (au_arrOf hU 1 rfl _ _) (fun h => by cases h) (by rw [arrV_size]; exact x1) rfl rfl hd fun H1 e1 e2 e3 => ?_
  rw [arrV_store] at e1
  exact kk p e s m args below meth c ad0 ad Lv0 Lv H1 ls _ _ X hm (hP.upd ha (by omega) e2 e3 (by rw [← hM]; exact au_wv_nx _ _ _ _ _) (fun b hb q i => by rw [← hM]; exact au_val_wv hs _ _ _ _ _ (fun z => hb z.1) q) (by rw [← hM, ← x3]; exact au_C.putA (by omega) p2 hs hrel (by rw [hk]; exact e1))) hLn hL hS2 (hV.put e2 e3 (au_nw hP ha hnew)) hE
theorem au_last {a : au_A} {j x : Int} {M' : au_M} (hd : decode K.2.1 pc = .ok (.lastore, 1)) (hk : a.2.2 = 42) (hnew : 1000 ≤ a.1) (h0 : 0 ≤ j) (h1 : j < (a.2.1 : Int)) (hM : au_wv 1 M a j (au_l x) = M') (kk : au_Go G K Qf (pc + 1) L st M' ck cs) : au_Go G K Qf pc L (au_l x :: au_i j :: au_r a :: st) M ck cs := by
  intro p e s m args below meth c ad0 ad Lv0 Lv H ls cst locs X hm hP hLn hL hS hV hE
  obtain ⟨i, ct, rfl, ex, hS0⟩ := au_S_l hS
  obtain ⟨ij, ct, rfl, ei, hS1⟩ := au_S_i hS0
  obtain ⟨ct, rfl, ha, hS2⟩ := au_S_r hS1
  obtain ⟨f, p1, p2⟩ := (hP.1 a ha).2 (by omega) (by omega)
  obtain ⟨x1, x2, x3⟩ := au_ix ei h0 h1
  rw [hk] at p1
  have hU := X.2.2.2.2.2.2.2
  subst ex
  have hrel : au_rel ad Lv (au_l i.toInt) (.long i) := au_rl rfl
  have hs : au_srt (au_tv (au_et a.2.2)) (au_l i.toInt) := by rw [hk]; exact trivial
  have hM : au_wv (au_tv (au_et a.2.2)) M a j (au_l i.toInt) = M' := by rw [hk]; exact hM
  refine W.last X.1 X.2.1 p1 (au_arrOf hU 2 rfl _ _) (fun h => by cases h) (by rw [arrV_size]; exact x1) rfl rfl hd fun H1 e1 e2 e3 => ?_
  rw [arrV_store] at e1
  exact kk p e s m args below meth c ad0 ad Lv0 Lv H1 ls _ _ X hm (hP.upd ha (by omega) e2 e3 (by rw [← hM]; exact au_wv_nx _ _ _ _ _) (fun b hb q i => by rw [← hM]; exact au_val_wv hs _ _ _ _ _ (fun z => hb z.1) q) (by rw [← hM, ← x3]; exact au_C.putA (by omega) p2 hs hrel (by rw [hk]; exact e1))) hLn hL hS2 (hV.put e2 e3 (au_nw hP ha hnew)) hE
theorem au_zast {a : au_A} {j x : Int} {M' : au_M} (hd : decode K.2.1 pc = .ok (.bastore, 1)) (hk : a.2.2 = 43) (hnew : 1000 ≤ a.1) (h0 : 0 ≤ j) (h1 : j < (a.2.1 : Int)) (hz : x = 0 ∨ x = 1) (hM : au_wv 0 M a j (au_i x) = M') (kk : au_Go G K Qf (pc + 1) L st M' ck cs) : au_Go G K Qf pc L (au_i x :: au_i j :: au_r a :: st) M ck cs := by
  intro p e s m args below meth c ad0 ad Lv0 Lv H ls cst locs X hm hP hLn hL hS hV hE
  obtain ⟨i, ct, rfl, ex, hS0⟩ := au_S_i hS
  obtain ⟨ij, ct, rfl, ei, hS1⟩ := au_S_i hS0
  obtain ⟨ct, rfl, ha, hS2⟩ := au_S_r hS1
  obtain ⟨f, p1, p2⟩ := (hP.1 a ha).2 (by omega) (by omega)
  obtain ⟨x1, x2, x3⟩ := au_ix ei h0 h1
  rw [hk] at p1
  have hU := X.2.2.2.2.2.2.2
  subst ex
  have hrel : au_rel ad Lv (au_i i.toInt) (narrow .boolean (.int i)) := by
    rw [(au_nf_z hz (au_ri (ad := ad) (Lv := Lv) rfl)).1]
    exact au_ri rfl
  have hs : au_srt (au_tv (au_et a.2.2)) (au_i i.toInt) := by rw [hk]; exact trivial
  have hM : au_wv (au_tv (au_et a.2.2)) M a j (au_i i.toInt) = M' := by rw [hk]; exact hM
  refine W.zast X.1 X.2.1 p1 (au_arrOf hU 3 rfl _ _) (fun h => by cases h) (by rw [arrV_size]; exact x1) rfl rfl hd fun H1 e1 e2 e3 => ?_
  rw [arrV_store] at e1
  exact kk p e s m args below meth c ad0 ad Lv0 Lv H1 ls _ _ X hm (hP.upd ha (by omega) e2 e3 (by rw [← hM]; exact au_wv_nx _ _ _ _ _) (fun b hb q i => by rw [← hM]; exact au_val_wv hs _ _ _ _ _ (fun z => hb z.1) q) (by rw [← hM, ← x3]; exact au_C.putA (by omega) p2 hs hrel (by rw [hk]; exact e1))) hLn hL hS2 (hV.put e2 e3 (au_nw hP ha hnew)) hE
theorem au_alen {a : au_A} (hd : decode K.2.1 pc = .ok (.arraylength, 1)) (hk : 40 ≤ a.2.2) (hk2 : a.2.2 ≤ 48) (hn : a.2.1 < 2147483648) (kk : au_Go G K Qf (pc + 1) L (au_i (a.2.1 : Int) :: st) M ck cs) : au_Go G K Qf pc L (au_r a :: st) M ck cs := by
  intro p e s m args below meth c ad0 ad Lv0 Lv H ls cst locs X hm hP hLn hL hS hV hE
  obtain ⟨ct, rfl, ha, hS1⟩ := au_S_r hS
  obtain ⟨f, p1, p2⟩ := (hP.1 a ha).2 (by omega) (by omega)
  have hU := X.2.2.2.2.2.2.2
  have hx : ∃ k : Nat, a.2.2 = k + 40 ∧ (au_tys G)[k]? = some (G.2.2.1 (k + 40), au_et (k + 40)) := by
    have h5 : a.2.2 = 40 ∨ a.2.2 = 41 ∨ a.2.2 = 42 ∨ a.2.2 = 43 ∨ a.2.2 = 44 ∨ a.2.2 = 45 ∨ a.2.2 = 46 ∨ a.2.2 = 47 ∨ a.2.2 = 48 := by omega
    rcases h5 with h | h | h | h | h | h | h | h | h
    · exact ⟨0, h, rfl⟩
    · exact ⟨1, h, rfl⟩
    · exact ⟨2, h, rfl⟩
    · exact ⟨3, h, rfl⟩
    · exact ⟨4, h, rfl⟩
    · exact ⟨5, h, rfl⟩
    · exact ⟨6, h, rfl⟩
    · exact ⟨7, h, rfl⟩
    · exact ⟨8, h, rfl⟩
  obtain ⟨k, ek, h6⟩ := hx
  rw [ek] at p1
  exact W.alen (n := nI a.2.1) X.1 X.2.1 p1 (au_arrOf hU k h6 _ _) (by rw [arrV_size]; rfl) rfl rfl hd (kk p e s m args below meth c ad0 ad Lv0 Lv H ls _ locs X hm hP hLn hL ⟨au_ri (nI_toInt hn), hS1⟩ hV hE)
end AUA
section AUE
variable {G : au_G} {K : au_K} {rm : Room} {Post : Option au_V → au_M → Prop} {pc : Nat} {L : List (Option au_V)} {M : au_M} {ck cs : Nat}
theorem au_iret {x : Int} (hd : decode K.2.1 pc = .ok (.ireturn, 1)) (hr : K.2.2.2.1 = some .int) (hR : K.2.2.2.2.1 = rm) (h1 : ck ≤ rm.cells) (h2 : cs ≤ rm.slots) (hp : Post (some (au_i x)) M) : au_Go G K (au_QM G rm Post) pc L [au_i x] M ck cs := by
  intro p e s m args below meth c ad0 ad Lv0 Lv H ls cst locs X hm hP hLn hL hS hV hE
  obtain ⟨i, ct, rfl, ei, hS1⟩ := au_S_i hS
  cases au_S_nil hS1
  refine W.widen h1 h2 ?_
  rw [hR]
  exact W.iret X.1 X.2.1 (X.2.2.2.1.trans hr) (fun t ht hW => ⟨some (au_i x), M, ad, Lv, _, rfl, (show au_rel ad Lv _ _ from au_ri ei), hp, hE, by rw [ht]; exact hP, hV.F ht⟩) hV.2.2 hd X.2.2.2.2.1.1
theorem au_zret {x : Int} (hd : decode K.2.1 pc = .ok (.ireturn, 1)) (hr : K.2.2.2.1 = some .boolean) (hx : x = 0 ∨ x = 1) (hR : K.2.2.2.2.1 = rm) (h1 : ck ≤ rm.cells) (h2 : cs ≤ rm.slots) (hp : Post (some (au_i x)) M) : au_Go G K (au_QM G rm Post) pc L [au_i x] M ck cs := by
  intro p e s m args below meth c ad0 ad Lv0 Lv H ls cst locs X hm hP hLn hL hS hV hE
  obtain ⟨i, ct, rfl, ei, hS1⟩ := au_S_i hS
  cases au_S_nil hS1
  refine W.widen h1 h2 ?_
  rw [hR]
  exact W.zret X.1 X.2.1 (X.2.2.2.1.trans hr) (au_nf_z (ad := ad) (Lv := Lv) hx (au_ri ei)).1 (fun t ht hW => ⟨some (au_i x), M, ad, Lv, _, rfl, (show au_rel ad Lv _ _ from au_ri ei), hp, hE, by rw [ht]; exact hP, hV.F ht⟩) hV.2.2 hd X.2.2.2.2.1.1
theorem au_lret {x : Int} (hd : decode K.2.1 pc = .ok (.lreturn, 1)) (hr : K.2.2.2.1 = some .long) (hR : K.2.2.2.2.1 = rm) (h1 : ck ≤ rm.cells) (h2 : cs ≤ rm.slots) (hp : Post (some (au_l x)) M) : au_Go G K (au_QM G rm Post) pc L [au_l x] M ck cs := by
  intro p e s m args below meth c ad0 ad Lv0 Lv H ls cst locs X hm hP hLn hL hS hV hE
  obtain ⟨i, ct, rfl, ei, hS1⟩ := au_S_l hS
  cases au_S_nil hS1
  refine W.widen h1 h2 ?_
  rw [hR]
  exact W.lret X.1 X.2.1 (X.2.2.2.1.trans hr) (fun t ht hW => ⟨some (au_l x), M, ad, Lv, _, rfl, (show au_rel ad Lv _ _ from au_rl ei), hp, hE, by rw [ht]; exact hP, hV.F ht⟩) hV.2.2 hd X.2.2.2.2.1.1
theorem au_aret {a : au_A} {rt : FieldType} (hd : decode K.2.1 pc = .ok (.areturn, 1)) (hr : K.2.2.2.1 = some rt) (hrt : (∃ n, rt = .object n) ∨ ∃ t, rt = .array t) (hR : K.2.2.2.2.1 = rm) (h1 : ck ≤ rm.cells) (h2 : cs ≤ rm.slots) (hp : Post (some (au_r a)) M) : au_Go G K (au_QM G rm Post) pc L [au_r a] M ck cs := by
  intro p e s m args below meth c ad0 ad Lv0 Lv H ls cst locs X hm hP hLn hL hS hV hE
  obtain ⟨ct, rfl, ha, hS1⟩ := au_S_r hS
  cases au_S_nil hS1
  refine W.widen h1 h2 ?_
  rw [hR]
  exact W.aret X.1 X.2.1 (X.2.2.2.1.trans hr) hrt (Or.inr ⟨_, rfl⟩) (fun t ht hW => ⟨some (au_r a), M, ad, Lv, _, rfl, (show au_rel ad Lv _ _ from au_rr ha), hp, hE, by rw [ht]; exact hP, hV.F ht⟩) hV.2.2 hd X.2.2.2.2.1.1
theorem au_vret (hd : decode K.2.1 pc = .ok (.return_, 1)) (hr : K.2.2.2.1 = none) (hR : K.2.2.2.2.1 = rm) (h1 : ck ≤ rm.cells) (h2 : cs ≤ rm.slots) (hp : Post none M) : au_Go G K (au_QM G rm Post) pc L [] M ck cs := by
  intro p e s m args below meth c ad0 ad Lv0 Lv H ls cst locs X hm hP hLn hL hS hV hE
  cases au_S_nil hS
  refine W.widen h1 h2 ?_
  rw [hR]
  exact W.vret X.1 X.2.1 (X.2.2.2.1.trans hr) (fun t ht hW => ⟨none, M, ad, Lv, none, rfl, trivial, hp, hE, by rw [ht]; exact hP, hV.F ht⟩) hV.2.2 hd X.2.2.2.2.1.1
end AUE
