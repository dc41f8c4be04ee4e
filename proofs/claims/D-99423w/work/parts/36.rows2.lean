/-! ROWS 2: null locals, a call through an interface, checkcast, lookupswitch -/
set_option maxRecDepth 100000
section AUR2
variable {G : au_G} {K : au_K} {Qf : au_Qf} {pc : Nat} {L : List (Option au_V)} {st : List au_V} {M : au_M} {ck cs : Nat}
theorem au_null (hd : decode K.2.1 pc = .ok (.aconst_null, 1)) (kk : au_Go G K Qf (pc + 1) L (au_n :: st) M ck cs) : au_Go G K Qf pc L st M ck cs := by
  intro p e s m args below meth c ad0 ad Lv0 Lv H ls cst locs X hm hP hLn hL hS hV hE
  exact lv_null X.1 X.2.1 hd (kk p e s m args below meth c ad0 ad Lv0 Lv H ls _ locs X hm hP hLn hL ⟨rfl, hS⟩ hV hE)
theorem au_aloadN_n {k : Fin 4} (hd : decode K.2.1 pc = .ok (.aload_n k, 1)) (hl : au_get L k = some au_n) (kk : au_Go G K Qf (pc + 1) L (au_n :: st) M ck cs) : au_Go G K Qf pc L st M ck cs := by
  intro p e s m args below meth c ad0 ad Lv0 Lv H ls cst locs X hm hP hLn hL hS hV hE
  obtain ⟨c1, h1, e1⟩ := hL.at hl
  cases e1
  exact lv_aload_nN X.1 X.2.1 hd rfl h1 (kk p e s m args below meth c ad0 ad Lv0 Lv H ls _ locs X hm hP hLn hL ⟨rfl, hS⟩ hV hE)
theorem au_aloadN {k : Nat} (hd : decode K.2.1 pc = .ok (.aload k, 2)) (hl : au_get L k = some au_n) (kk : au_Go G K Qf (pc + 2) L (au_n :: st) M ck cs) : au_Go G K Qf pc L st M ck cs := by
  intro p e s m args below meth c ad0 ad Lv0 Lv H ls cst locs X hm hP hLn hL hS hV hE
  obtain ⟨c1, h1, e1⟩ := hL.at hl
  cases e1
  exact lv_aloadN X.1 X.2.1 hd h1 (kk p e s m args below meth c ad0 ad Lv0 Lv H ls _ locs X hm hP hLn hL ⟨rfl, hS⟩ hV hE)
theorem au_recv {ad : au_A → Nat} {Lv : au_A → Prop} {s : State} {H : Heap} {a : au_A} {C : String} {T : u_T} {N : Nat} (hU : au_U G s s.heap) (hP : au_P G ad Lv M H) (ha : Lv a) (hk : a.2.2 < 40) (hc : au_cl[a.2.2]? = some (C, T, N)) : ∃ cell : Cell, H[ad a]? = some cell ∧ cell.vm.isStatics = false ∧ s.vm.findClass C = some cell.cls := by
  obtain ⟨fs, p1, -, -⟩ := (hP.1 a ha).1 hk
  have hP1 : va_P G.2.1 au_cl [(ad a, .inr (a.2.2, fs))] H := by
    intro j q hj
    match j, hj with
    | 0, hj => cases hj; exact p1
    | j + 1, hj => simp at hj
  exact va_recv hU.1 hP1 hc (q0 := 0) rfl
/-- a cast to an interface whose method the class has -/
theorem au_castY {own C nm : String} {T : u_T} {N index : Nat} {a : au_A} {x y : MethodName} (hfw : au_fw C x y) (hx : x.cls = nm) (hk : a.2.2 < 40) (hc : au_cl[a.2.2]? = some (C, T, N)) (ho : K.1 = own) (hq : Cond.classLink own index nm ∈ lw_all) (hd : decode K.2.1 pc = .ok (.checkcast index, 3)) (kk : au_Go G K Qf (pc + 3) L (au_r a :: st) M ck cs) : au_Go G K Qf pc L (au_r a :: st) M ck cs := by
  intro p e s m args below meth c ad0 ad Lv0 Lv H ls cst locs X hm hP hLn hL hS hV hE
  obtain ⟨ct, rfl, ha, hS1⟩ := au_S_r hS
  subst ho
  have hU := X.2.2.2.2.2.2.2
  have h1 := (hU.2.2.2.2.2 C x y hfw).2.2.2.2
  rw [hx] at h1
  exact va_castY X.1 X.2.1 X.2.2.2.2.2.1 (X.2.2.2.2.2.2.1 _ hq) h1 (au_recv hU hP ha hk hc) hd (kk p e s m args below meth c ad0 ad Lv0 Lv H ls _ locs X hm hP hLn hL ⟨au_rr ha, hS1⟩ hV hE)
/-- a cast to the very class -/
theorem au_castS {own nm : String} {T : u_T} {N index : Nat} {a : au_A} (hk : a.2.2 < 40) (hc : au_cl[a.2.2]? = some (nm, T, N)) (ho : K.1 = own) (hq : Cond.classLink own index nm ∈ lw_all) (hd : decode K.2.1 pc = .ok (.checkcast index, 3)) (kk : au_Go G K Qf (pc + 3) L (au_r a :: st) M ck cs) : au_Go G K Qf pc L (au_r a :: st) M ck cs := by
  intro p e s m args below meth c ad0 ad Lv0 Lv H ls cst locs X hm hP hLn hL hS hV hE
  obtain ⟨ct, rfl, ha, hS1⟩ := au_S_r hS
  subst ho
  have hU := X.2.2.2.2.2.2.2
  exact va_castS X.1 X.2.1 X.2.2.2.2.2.1 (X.2.2.2.2.2.2.1 _ hq) (hU.1.1 _ _ hc).2 (au_recv hU hP ha hk hc) hd (kk p e s m args below meth c ad0 ad Lv0 Lv H ls _ locs X hm hP hLn hL ⟨au_rr ha, hS1⟩ hV hE)
end AUR2
theorem lw_F' {own : String} {idx : Nat} {C : String} {x y : MethodName} {b : ByteArray} {L : Nat} {r : Option FieldType} (h1 : Cond.methodLink own idx x ∈ lw_all) (h2 : Cond.selects C x y ∈ lw_all) (h3 : Cond.instanceMethod y ∈ lw_all) (h4 : Cond.initialized y.cls ∈ lw_all) (h5 : Cond.code y b L r ∈ lw_all) : GoodIn lw_all (va_wsF own idx C x y (ws_ y b L r)) := by
  refine lw_app ?_ (lw_meth h5)
  intro w hw
  simp only [List.mem_cons, List.not_mem_nil, or_false] at hw
  rcases hw with e | e | e | e
  · rw [e]; exact h1
  · rw [e]; exact h2
  · rw [e]; exact h3
  · rw [e]; exact h4
section AUC5
variable {p : Program} {l : Launch} {e : Env} {R : Room} {s : State} {m : MethodId} {args : Array Value} {below : List Frame} {meth : Method} {c : Code} {H : Heap} {locs : List Loc} {cells slots : Nat} {Q : State → Prop}
theorem au_after5 {G : au_G} {Post : Option au_V → au_M → Prop} {ad : au_A → Nat} {Lv : au_A → Prop} {a : Array Value} {mc ms pc : Nat} {ls : Array Slot} {cst rest : List Value} (hr : va_Run5 p l e R s m args below meth c H locs cells slots mc ms (F0 m pc ls cst) rest (au_Q G Post ad Lv a) (au_new G)) (hS : va_S (au_new G) s.heap H locs)
    (kk : ∀ (rv : Option au_V) (M' : au_M) (ad' : au_A → Nat) (Lv' : au_A → Prop) (H1 : Heap) (locs1 : List Loc) (cv : Option Value), au_relO ad' Lv' rv cv → Post rv M' → au_ext ad Lv ad' Lv' → au_P G ad' Lv' M' H1 → va_S (au_new G) s.heap H1 locs1 → W p l e R s m args below meth c H1 locs1 (cells + mc) (slots + ms) Q (F0 m (pc + 5) ls (cv.toList ++ rest))) : W p l e R s m args below meth c H locs cells slots Q (F0 m pc ls cst) := by
  intro T hT X
  obtain ⟨v, st₀, t, T', L, h0, X', hL, e1, e2, ⟨rv, M', ad', Lv', cv, hv, q1, q2, q3, q4, hz, hk⟩, st⟩ := hr T hT X
  cases hv
  rw [h0] at hz hk
  obtain ⟨t2, a1, b1⟩ := kk rv M' ad' Lv' T'.heap (locs ++ L) _ q1 q2 q3 (by rw [e1]; exact q4)
    ⟨Nat.le_trans hS.1 (by rw [e1]; exact hz), fun q h1 h2 => by rw [e1, hk q (Nat.lt_of_lt_of_le h1 hS.1) h2]; exact hS.2.1 q h1 h2, fun q hq => by
      rcases List.mem_append.mp hq with h | h
      · exact hS.2.2 q h
      · exact hL q h⟩ T' rfl X'
  exact ⟨t2, st t2 a1, b1⟩
end AUC5
section AUD5
variable {G : au_G} {K : au_K} {Qf : au_Qf} {pc : Nat} {L : List (Option au_V)} {st stk : List au_V} {M : au_M} {ck cs : Nat}
set_option maxHeartbeats 1000000 in
/-- a call through an interface -/
theorem au_callF {own C : String} {T : u_T} {N : Nat} {x y : MethodName} {bytes : ByteArray} {maxL index count n dep mc ms : Nat} {ret : Option FieldType} {as : List au_V} {b : au_A} {Post : Option au_V → au_M → Prop}
    (hC : au_Ctr G y bytes maxL ret dep mc ms (au_r b :: as) M Post) (hT : GoodIn lw_all (va_wsF own index C x y (ws_ y bytes maxL ret))) (hfw : au_fw C x y) (hdd : au_d x n) (hk : b.2.2 < 40) (hc : au_cl[b.2.2]? = some (C, T, N)) (ho : K.1 = own) (hn : as.length = n) (hst : stk = as.reverse ++ au_r b :: st) (hsum : (st.map au_cat).sum ≤ 8)
    (hR1 : dep + 1 ≤ K.2.2.2.2.1.frames) (hR2 : 8 + (maxL + 11) + 80 * dep ≤ K.2.2.2.2.1.locals) (hm1 : ck + mc ≤ K.2.2.2.2.1.cells) (hm2 : cs + ms ≤ K.2.2.2.2.1.slots) (hd : decode K.2.1 pc = .ok (.invokeinterface index count, 5))
    (kk : ∀ (rv : Option au_V) (M' : au_M), Post rv M' → au_Go G K Qf (pc + 5) L (rv.toList ++ st) M' (ck + mc) (cs + ms)) : au_Go G K Qf pc L stk M ck cs := by
  intro p e s m args below meth c ad0 ad Lv0 Lv H ls cst locs X hm hP hLn hL hS hV hE
  subst hst; subst ho
  obtain ⟨ca, cr, rfl, s1, s2⟩ := au_S_app hS
  obtain ⟨ct, rfl, hb, s3⟩ := au_S_r s2
  have s1' := au_S_rev s1
  rw [List.reverse_reverse] at s1'
  have hU := X.2.2.2.2.2.2.2
  have hts := X.2.2.2.2.2.2.1
  have hM := hC ad Lv (.ref (ad b) :: ca.reverse) ⟨⟨rfl, hb⟩, s1'⟩
  refine au_after5 (va_runF (As := ca.reverse) (rest := ct) (hU.1.1 _ _ hc).2 ⟨X.1, X.2.1, X.2.2.1, X.2.2.2.2.2.1, hts⟩ hM (va_cwF n hts hT rfl rfl rfl (hU.2.2.2.2.2 C x y hfw) hdd ⟨hR1, hR2⟩) ⟨au_blind _ _ _ _ _, au_recv hU hP hb hk hc, fun U hU' hW => au_pre hU hP hV hU' hW⟩ rfl (by rw [List.length_reverse, au_S_len s1, List.length_reverse]; exact hn) ?_ (by rw [List.reverse_reverse]) (lv_room (by rw [au_S_cat s3]; exact hsum)) hd ⟨hm1, hm2⟩) hV ?_
  · obtain ⟨lv, h1, -⟩ := hL
    show ls.size = K.2.2.1
    rw [h1.1, hLn]
  · intro rv M' ad' Lv' H1 locs1 cv q1 q2 q3 q4 q5
    refine kk rv M' q2 p e s m args below meth c ad0 ad' Lv0 Lv' H1 ls _ locs1 X hm q4 hLn (hL.ext q3) ?_ q5 (hE.tr q3)
    match rv, cv, q1 with
    | none, none, _ => exact s3.ext q3
    | some v, some w, q1 => exact ⟨q1, s3.ext q3⟩
theorem au_callFp {own C : String} {T : u_T} {N : Nat} {x y : MethodName} {bytes : ByteArray} {maxL index count n dep : Nat} {ret : Option FieldType} {as : List au_V} {b : au_A} {v : au_V}
    (hC : au_Ctr G y bytes maxL ret dep 0 0 (au_r b :: as) M (au_pure v M)) (hT : GoodIn lw_all (va_wsF own index C x y (ws_ y bytes maxL ret))) (hfw : au_fw C x y) (hdd : au_d x n) (hk : b.2.2 < 40) (hc : au_cl[b.2.2]? = some (C, T, N)) (ho : K.1 = own) (hn : as.length = n) (hst : stk = as.reverse ++ au_r b :: st) (hsum : (st.map au_cat).sum ≤ 8)
    (hR1 : dep + 1 ≤ K.2.2.2.2.1.frames) (hR2 : 8 + (maxL + 11) + 80 * dep ≤ K.2.2.2.2.1.locals) (hm1 : ck ≤ K.2.2.2.2.1.cells) (hm2 : cs ≤ K.2.2.2.2.1.slots) (hd : decode K.2.1 pc = .ok (.invokeinterface index count, 5))
    (kk : au_Go G K Qf (pc + 5) L (v :: st) M ck cs) : au_Go G K Qf pc L stk M ck cs :=
  au_callF hC hT hfw hdd hk hc ho hn hst hsum hR1 hR2 hm1 hm2 hd (fun rv M' hp => by obtain ⟨rfl, rfl⟩ := hp; exact kk)
end AUD5
