/-! CALLS -/
set_option maxRecDepth 100000
section AUC
variable {p : Program} {l : Launch} {e : Env} {R : Room} {s : State} {m : MethodId} {args : Array Value} {below : List Frame} {meth : Method} {c : Code} {H : Heap} {locs : List Loc} {cells slots : Nat} {Q : State → Prop}
theorem au_after {G : au_G} {Post : Option au_V → au_M → Prop} {ad : au_A → Nat} {Lv : au_A → Prop} {a : Array Value} {mc ms pc : Nat} {ls : Array Slot} {cst rest : List Value} (hr : va_Run p l e R s m args below meth c H locs cells slots mc ms (F0 m pc ls cst) rest (au_Q G Post ad Lv a) (au_new G)) (hS : va_S (au_new G) s.heap H locs)
    (kk : ∀ (rv : Option au_V) (M' : au_M) (ad' : au_A → Nat) (Lv' : au_A → Prop) (H1 : Heap) (locs1 : List Loc) (cv : Option Value), au_relO ad' Lv' rv cv → Post rv M' → au_ext ad Lv ad' Lv' → au_P G ad' Lv' M' H1 → va_S (au_new G) s.heap H1 locs1 → W p l e R s m args below meth c H1 locs1 (cells + mc) (slots + ms) Q (F0 m (pc + 3) ls (cv.toList ++ rest))) : W p l e R s m args below meth c H locs cells slots Q (F0 m pc ls cst) := by
  intro T hT X
  obtain ⟨v, st₀, t, T', L, h0, X', hL, e1, e2, ⟨rv, M', ad', Lv', cv, hv, q1, q2, q3, q4, hz, hk⟩, st⟩ := hr T hT X
  cases hv
  rw [h0] at hz hk
  obtain ⟨t2, a1, b1⟩ := kk rv M' ad' Lv' T'.heap (locs ++ L) _ q1 q2 q3 (by rw [e1]; exact q4)
    ⟨Nat.le_trans hS.1 (by rw [e1]; exact hz), fun q h1 h2 => by rw [e1, hk q (Nat.lt_of_lt_of_le h1 hS.1) h2]; exact hS.2.1 q h1 h2, fun q hq => by
      rcases List.mem_append.mp hq with h | h
      · exact hS.2.2 q h
      · exact hL q h⟩ T' rfl X'
  exact ⟨t2, st t2 a1, b1⟩
end AUC
theorem au_blind (G : au_G) (cs : List Value) (ad : au_A → Nat) (Lv : au_A → Prop) (M : au_M) : FrameBlind (fun v U => v = cs.toArray ∧ au_P G ad Lv M U.heap ∧ au_U G U U.heap) := fun a U g mk q =>
  ⟨q.1, q.2.1, au_U.go (s := U) (U := U.calling g mk a) (H := U.heap) (H1 := U.heap) (Vm.Alike.refl U.vm) q.2.2 (q.2.2.2.2.2.1.same (s := U) (U := U.calling g mk a) rfl) (fun _ _ _ => rfl) (Nat.le_refl _)⟩
theorem au_pre {G : au_G} {s U : State} {H : Heap} {locs : List Loc} {cs : List Value} {ad : au_A → Nat} {Lv : au_A → Prop} {M : au_M} (hU : au_U G s s.heap) (hP : au_P G ad Lv M H) (hV : va_S (au_new G) s.heap H locs) (hH : U.heap = H) (hW : s.WarmedH U.vm) : (fun v U => v = cs.toArray ∧ au_P G ad Lv M U.heap ∧ au_U G U U.heap) cs.toArray U :=
  ⟨rfl, by rw [hH]; exact hP, by rw [hH]; exact au_U.go hW.alike hU (hU.2.2.2.1.warm hW) (fun a h1 h2 => hV.2.1 a h1 h2) hV.1⟩
abbrev au_d (y : MethodName) (n : Nat) : Prop := y.cls ≠ "java/lang/invoke/MethodHandle" ∧ y.cls ≠ "java/lang/invoke/VarHandle" ∧ (parseMethodDescriptor y.desc).map (fun d => d.parameters.length) = some n
section AUD
variable {G : au_G} {K : au_K} {Qf : au_Qf} {pc : Nat} {L : List (Option au_V)} {st stk : List au_V} {M : au_M} {ck cs : Nat}
set_option maxHeartbeats 1000000 in
/-- a call through an object -/
theorem au_callV {own C : String} {T : u_T} {N : Nat} {y : MethodName} {bytes : ByteArray} {maxL index n dep mc ms : Nat} {ret : Option FieldType} {as : List au_V} {b : au_A} {Post : Option au_V → au_M → Prop}
    (hC : au_Ctr G y bytes maxL ret dep mc ms (au_r b :: as) M Post) (hT : GoodIn lw_all (wsV own index C y (ws_ y bytes maxL ret))) (hyC : y.cls = C) (hdd : au_d y n) (hk : b.2.2 < 40) (hc : au_cl[b.2.2]? = some (C, T, N)) (ho : K.1 = own) (hn : as.length = n) (hst : stk = as.reverse ++ au_r b :: st) (hsum : (st.map au_cat).sum ≤ 8)
    (hR1 : dep + 1 ≤ K.2.2.2.2.1.frames) (hR2 : 8 + (maxL + 11) + 80 * dep ≤ K.2.2.2.2.1.locals) (hm1 : ck + mc ≤ K.2.2.2.2.1.cells) (hm2 : cs + ms ≤ K.2.2.2.2.1.slots) (hd : decode K.2.1 pc = .ok (.invokevirtual index, 3))
    (kk : ∀ (rv : Option au_V) (M' : au_M), Post rv M' → au_Go G K Qf (pc + 3) L (rv.toList ++ st) M' (ck + mc) (cs + ms)) : au_Go G K Qf pc L stk M ck cs := by
  intro p e s m args below meth c ad0 ad Lv0 Lv H ls cst locs X hm hP hLn hL hS hV hE
  subst hst; subst ho
  obtain ⟨ca, cr, rfl, s1, s2⟩ := au_S_app hS
  obtain ⟨ct, rfl, hb, s3⟩ := au_S_r s2
  have s1' := au_S_rev s1
  rw [List.reverse_reverse] at s1'
  have hU := X.2.2.2.2.2.2.2
  have hts := X.2.2.2.2.2.2.1
  obtain ⟨fs, p1, -, -⟩ := (hP.1 b hb).1 hk
  have hM := hC ad Lv (.ref (ad b) :: ca.reverse) ⟨⟨rfl, hb⟩, s1'⟩
  have hP1 : va_P G.2.1 au_cl [(ad b, .inr (b.2.2, fs))] H := by
    intro j q hj
    match j, hj with
    | 0, hj => cases hj; exact p1
    | j + 1, hj => simp at hj
  refine au_after (va_runV (As := ca.reverse) (rest := ct) ⟨X.1, X.2.1, X.2.2.1, X.2.2.2.2.2.1, hts⟩ hM (cwV n hts hT rfl rfl rfl ⟨hyC, hdd⟩ ⟨hR1, hR2⟩) ⟨au_blind _ _ _ _ _, va_recv hU.1 hP1 hc (q0 := 0) rfl, fun U hU' hW => au_pre hU hP hV hU' hW⟩ rfl (by rw [List.length_reverse, au_S_len s1, List.length_reverse]; exact hn) ?_ (by rw [List.reverse_reverse]) (lv_room (by rw [au_S_cat s3]; exact hsum)) hd ⟨hm1, hm2⟩) hV ?_
  · obtain ⟨lv, h1, -⟩ := hL
    show ls.size = K.2.2.1
    rw [h1.1, hLn]
  · intro rv M' ad' Lv' H1 locs1 cv q1 q2 q3 q4 q5
    refine kk rv M' q2 p e s m args below meth c ad0 ad' Lv0 Lv' H1 ls _ locs1 X hm q4 hLn (hL.ext q3) ?_ q5 (hE.tr q3)
    match rv, cv, q1 with
    | none, none, _ => exact s3.ext q3
    | some v, some w, q1 => exact ⟨q1, s3.ext q3⟩
set_option maxHeartbeats 1000000 in
/-- a static call -/
theorem au_callS {own : String} {y : MethodName} {bytes : ByteArray} {maxL index n dep mc ms : Nat} {ret : Option FieldType} {as : List au_V} {Post : Option au_V → au_M → Prop}
    (hC : au_Ctr G y bytes maxL ret dep mc ms as M Post) (hT : GoodIn lw_all (va_wsS own index y (ws_ y bytes maxL ret))) (hdd : au_d y n) (ho : K.1 = own) (hn : as.length = n) (hst : stk = as.reverse ++ st) (hsum : (st.map au_cat).sum ≤ 8)
    (hR1 : dep + 1 ≤ K.2.2.2.2.1.frames) (hR2 : 8 + (maxL + 11) + 80 * dep ≤ K.2.2.2.2.1.locals) (hm1 : ck + mc ≤ K.2.2.2.2.1.cells) (hm2 : cs + ms ≤ K.2.2.2.2.1.slots) (hd : decode K.2.1 pc = .ok (.invokestatic index, 3))
    (kk : ∀ (rv : Option au_V) (M' : au_M), Post rv M' → au_Go G K Qf (pc + 3) L (rv.toList ++ st) M' (ck + mc) (cs + ms)) : au_Go G K Qf pc L stk M ck cs := by
  intro p e s m args below meth c ad0 ad Lv0 Lv H ls cst locs X hm hP hLn hL hS hV hE
  subst hst; subst ho
  obtain ⟨ca, ct, rfl, s1, s3⟩ := au_S_app hS
  have s1' := au_S_rev s1
  rw [List.reverse_reverse] at s1'
  have hU := X.2.2.2.2.2.2.2
  have hts := X.2.2.2.2.2.2.1
  have hM := hC ad Lv ca.reverse s1'
  refine au_after (va_runS (As := ca.reverse) (rest := ct) ⟨X.1, X.2.1, X.2.2.1, X.2.2.2.2.2.1, hts⟩ hM (va_cwS n hts hT rfl rfl rfl hdd ⟨hR1, hR2⟩) ⟨au_blind _ _ _ _ _, fun U hU' hW => au_pre hU hP hV hU' hW⟩ rfl (by rw [List.length_reverse, au_S_len s1, List.length_reverse]; exact hn) ?_ (by rw [List.reverse_reverse]) (lv_room (by rw [au_S_cat s3]; exact hsum)) hd ⟨hm1, hm2⟩) hV ?_
  · obtain ⟨lv, h1, -⟩ := hL
    show ls.size = K.2.2.1
    rw [h1.1, hLn]
  · intro rv M' ad' Lv' H1 locs1 cv q1 q2 q3 q4 q5
    refine kk rv M' q2 p e s m args below meth c ad0 ad' Lv0 Lv' H1 ls _ locs1 X hm q4 hLn (hL.ext q3) ?_ q5 (hE.tr q3)
    match rv, cv, q1 with
    | none, none, _ => exact s3.ext q3
    | some v, some w, q1 => exact ⟨q1, s3.ext q3⟩
set_option maxHeartbeats 1000000 in
/-- a constructor's call -/
theorem au_callI {own : String} {y : MethodName} {bytes : ByteArray} {maxL index n dep mc ms : Nat} {as : List au_V} {b : au_A} {Post : Option au_V → au_M → Prop}
    (hC : au_Ctr G y bytes maxL none dep mc ms (au_r b :: as) M Post) (hcode : Cond.code y bytes maxL none ∈ lw_all) (hini : Cond.initialized y.cls ∈ lw_all) (hlink : Cond.methodLink own index y ∈ lw_all) (hinst : Cond.instanceMethod y ∈ lw_all) (hy : y.name = "<init>") (hdd : au_d y n) (ho : K.1 = own) (hn : as.length = n) (hst : stk = as.reverse ++ au_r b :: st) (hsum : (st.map au_cat).sum ≤ 8)
    (hR1 : dep + 1 ≤ K.2.2.2.2.1.frames) (hR2 : 8 + (maxL + 11) + 80 * dep ≤ K.2.2.2.2.1.locals) (hm1 : ck + mc ≤ K.2.2.2.2.1.cells) (hm2 : cs + ms ≤ K.2.2.2.2.1.slots) (hd : decode K.2.1 pc = .ok (.invokespecial index, 3))
    (kk : ∀ (M' : au_M), Post none M' → au_Go G K Qf (pc + 3) L st M' (ck + mc) (cs + ms)) (hnone : ∀ v M', ¬ Post (some v) M') : au_Go G K Qf pc L stk M ck cs := by
  intro p e s m args below meth c ad0 ad Lv0 Lv H ls cst locs X hm hP hLn hL hS hV hE
  subst hst; subst ho
  obtain ⟨ca, cr, rfl, s1, s2⟩ := au_S_app hS
  obtain ⟨ct, rfl, hb, s3⟩ := au_S_r s2
  have s1' := au_S_rev s1
  rw [List.reverse_reverse] at s1'
  have hU := X.2.2.2.2.2.2.2
  have hts := X.2.2.2.2.2.2.1
  have hM := hC ad Lv (.ref (ad b) :: ca.reverse) ⟨⟨rfl, hb⟩, s1'⟩
  refine au_after (va_runI (As := ca.reverse) (rest := ct) ⟨X.1, X.2.1, X.2.2.1, X.2.2.2.2.2.1, hts⟩ hM (cwI n hts (lw_meth hcode) rfl rfl rfl (hts _ hini) (hts _ hlink) (hts _ hinst) hy hdd ⟨hR1, hR2⟩) ⟨au_blind _ _ _ _ _, fun U hU' hW => au_pre hU hP hV hU' hW⟩ rfl (by rw [List.length_reverse, au_S_len s1, List.length_reverse]; exact hn) ?_ (by rw [List.reverse_reverse]) (lv_room (by rw [au_S_cat s3]; exact hsum)) hd ⟨hm1, hm2⟩) hV ?_
  · obtain ⟨lv, h1, -⟩ := hL
    show ls.size = K.2.2.1
    rw [h1.1, hLn]
  · intro rv M' ad' Lv' H1 locs1 cv q1 q2 q3 q4 q5
    match rv, cv, q1 with
    | none, none, _ => exact kk M' q2 p e s m args below meth c ad0 ad' Lv0 Lv' H1 ls _ locs1 X hm q4 hLn (hL.ext q3) (s3.ext q3) q5 (hE.tr q3)
    | some v, some w, q1 => exact absurd q2 (hnone v M')
/-- a method that only answers -/
def au_pure (v : au_V) (M : au_M) : Option au_V → au_M → Prop := fun rv M' => rv = some v ∧ M' = M
theorem au_callVp {own C : String} {T : u_T} {N : Nat} {y : MethodName} {bytes : ByteArray} {maxL index n dep : Nat} {ret : Option FieldType} {as : List au_V} {b : au_A} {v : au_V}
    (hC : au_Ctr G y bytes maxL ret dep 0 0 (au_r b :: as) M (au_pure v M)) (hT : GoodIn lw_all (wsV own index C y (ws_ y bytes maxL ret))) (hyC : y.cls = C) (hdd : au_d y n) (hk : b.2.2 < 40) (hc : au_cl[b.2.2]? = some (C, T, N)) (ho : K.1 = own) (hn : as.length = n) (hst : stk = as.reverse ++ au_r b :: st) (hsum : (st.map au_cat).sum ≤ 8)
    (hR1 : dep + 1 ≤ K.2.2.2.2.1.frames) (hR2 : 8 + (maxL + 11) + 80 * dep ≤ K.2.2.2.2.1.locals) (hm1 : ck ≤ K.2.2.2.2.1.cells) (hm2 : cs ≤ K.2.2.2.2.1.slots) (hd : decode K.2.1 pc = .ok (.invokevirtual index, 3))
    (kk : au_Go G K Qf (pc + 3) L (v :: st) M ck cs) : au_Go G K Qf pc L stk M ck cs :=
  au_callV hC hT hyC hdd hk hc ho hn hst hsum hR1 hR2 hm1 hm2 hd (fun rv M' hp => by obtain ⟨rfl, rfl⟩ := hp; exact kk)
theorem au_callSp {own : String} {y : MethodName} {bytes : ByteArray} {maxL index n dep : Nat} {ret : Option FieldType} {as : List au_V} {v : au_V}
    (hC : au_Ctr G y bytes maxL ret dep 0 0 as M (au_pure v M)) (hT : GoodIn lw_all (va_wsS own index y (ws_ y bytes maxL ret))) (hdd : au_d y n) (ho : K.1 = own) (hn : as.length = n) (hst : stk = as.reverse ++ st) (hsum : (st.map au_cat).sum ≤ 8)
    (hR1 : dep + 1 ≤ K.2.2.2.2.1.frames) (hR2 : 8 + (maxL + 11) + 80 * dep ≤ K.2.2.2.2.1.locals) (hm1 : ck ≤ K.2.2.2.2.1.cells) (hm2 : cs ≤ K.2.2.2.2.1.slots) (hd : decode K.2.1 pc = .ok (.invokestatic index, 3))
    (kk : au_Go G K Qf (pc + 3) L (v :: st) M ck cs) : au_Go G K Qf pc L stk M ck cs :=
  au_callS hC hT hdd ho hn hst hsum hR1 hR2 hm1 hm2 hd (fun rv M' hp => by obtain ⟨rfl, rfl⟩ := hp; exact kk)
end AUD
