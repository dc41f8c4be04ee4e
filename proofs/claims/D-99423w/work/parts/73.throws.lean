/-! CONTRACTS of methods that return or throw a Wrong -/
set_option maxRecDepth 100000
/-- what is known where a Wrong is thrown: the object, the memory -/
def au_QX (G : au_G) (PX : au_A → au_M → Prop) (ad0 : au_A → Nat) (Lv0 : au_A → Prop) : String → Addr → State → State → Prop := fun E q st t =>
  E = "ApologyUp$Wrong" ∧ ∃ (a : au_A) (M : au_M) (ad : au_A → Nat) (Lv : au_A → Prop), q = ad a ∧ Lv a ∧ a.2.2 = 5 ∧ PX a M ∧ au_ext ad0 Lv0 ad Lv ∧ au_P G ad Lv M t.heap ∧ va_F (au_new G) st t
def au_QMX (G : au_G) (rm : Room) (Post : Option au_V → au_M → Prop) (PX : au_A → au_M → Prop) : au_Qf := fun ad0 Lv0 below args s => ex_MQ below (au_Q G Post ad0 Lv0) (au_QX G PX ad0 Lv0) args s rm.cells rm.slots (au_new G)
/-- a method's contract: it returns and Post says what, or throws and PX says what -/
def au_CtrX (G : au_G) (y : MethodName) (cc : ByteArray) (nL : Nat) (rt : Option FieldType) (dep mc ms : Nat) (as : List au_V) (M : au_M) (Post : Option au_V → au_M → Prop) (PX : au_A → au_M → Prop) : Prop :=
  ∀ (ad : au_A → Nat) (Lv : au_A → Prop) (cs : List Value), au_S ad Lv as cs →
    ex_Met G.1 y (ws_ y cc nL rt) (au_rm dep mc ms) (fun v U => v = cs.toArray ∧ au_P G ad Lv M U.heap ∧ au_U G U U.heap) (au_Q G Post ad Lv) (au_QX G PX ad Lv) mc ms (au_new G)
set_option maxHeartbeats 1000000 in
theorem au_ofX {G : au_G} {y : MethodName} {cc : ByteArray} {nL : Nat} {rt : Option FieldType} {dep mc ms : Nat} {as : List au_V} {M : au_M} {Post : Option au_V → au_M → Prop} {PX : au_A → au_M → Prop} (hy : plainName y.cls = true) (hn : (au_sl as).length ≤ nL)
    (h : au_Go G (y.cls, cc, nL, rt, au_rm dep mc ms, y.name) (au_QMX G (au_rm dep mc ms) Post PX) 0 (au_L0 nL as) [] M 0 0) (hnt : y.cls ≠ "ApologyUp" ∨ y.name ≠ "text" := by first | exact Or.inr (by decide) | exact Or.inl (by decide)) : au_CtrX G y cc nL rt dep mc ms as M Post PX := by
  intro ad Lv cs hs
  refine ex_ofW (cc := cc) (maxL := nL) (ret := rt) hy rfl ?_
  intro p e s m args below meth c s₁ B hml hT hv
  obtain ⟨rfl, hP, hU⟩ := hv
  have hts := atoms_spec (ws := ws_ y cc nL rt) B.pre
  have hts : ∀ w ∈ lw_all, w.before _ s = true := fun w h => hts w (List.mem_cons_of_mem _ h)
  have hown : s.vm.findClass y.cls = some m.cls := findClass_of_methodNamed B.named
  have hin : meth.name = y.name := (name_of_methodNamed B.named B.method).1
  have ht : c.exceptionTable.toList = [] := List.eq_nil_iff_forall_not_mem.mpr fun x hx => hT x hx
  rw [lg_entry_eq]
  refine h p e s m _ below meth c ad ad Lv Lv s.heap _ [] [] ⟨B.exec, B.bytes, hml, B.returns, ⟨B.notSynchronized, Or.inl ⟨ht, by rw [hin]; exact hnt⟩⟩, hown, hts, hU⟩ hin hP ?_ (au_L0_ok hs hn) trivial va_S.rf au_ext.rf
  show (au_L0 nL as).length = nL
  simp [au_L0]
  omega
section AUX
variable {p : Program} {l : Launch} {e : Env} {R : Room} {s : State} {m : MethodId} {args : Array Value} {below : List Frame} {meth : Method} {c : Code} {H : Heap} {locs : List Loc} {cells slots : Nat} {Q : State → Prop}
theorem au_afterX {G : au_G} {Post : Option au_V → au_M → Prop} {PX : au_A → au_M → Prop} {ad : au_A → Nat} {Lv : au_A → Prop} {a : Array Value} {mc ms pc : Nat} {ls : Array Slot} {cst rest : List Value} (hr : ex_Run p l e R s m args below meth c H locs cells slots mc ms (F0 m pc ls cst) rest (au_Q G Post ad Lv a) (au_QX G PX ad Lv) (au_new G)) (hS : va_S (au_new G) s.heap H locs)
    (kk : ∀ (rv : Option au_V) (M' : au_M) (ad' : au_A → Nat) (Lv' : au_A → Prop) (H1 : Heap) (locs1 : List Loc) (cv : Option Value), au_relO ad' Lv' rv cv → Post rv M' → au_ext ad Lv ad' Lv' → au_P G ad' Lv' M' H1 → va_S (au_new G) s.heap H1 locs1 → W p l e R s m args below meth c H1 locs1 (cells + mc) (slots + ms) Q (F0 m (pc + 3) ls (cv.toList ++ rest)))
    (kx : ∀ (ce : Cell) (b : au_A) (M' : au_M) (ad' : au_A → Nat) (Lv' : au_A → Prop) (H1 : Heap) (locs1 : List Loc), Lv' b → b.2.2 = 5 → PX b M' → au_ext ad Lv ad' Lv' → au_P G ad' Lv' M' H1 → va_S (au_new G) s.heap H1 locs1 → H1[ad' b]? = some ce → ce.vm = .none → s.vm.findClass "ApologyUp$Wrong" = some ce.cls → vx_W p l e R s m args below meth c H1 locs1 (cells + mc) (slots + ms) Q (F0 m pc ls rest) (ad' b)) : W p l e R s m args below meth c H locs cells slots Q (F0 m pc ls cst) := by
  intro T hT X
  rcases hr T hT X with ⟨v, st₀, t, T', L, h0, X', hL, e1, e2, ⟨rv, M', ad', Lv', cv, hv, q1, q2, q3, q4, hz, hk⟩, st⟩ | ⟨q, st₀, t, T', L, E, ce, h0, X', hL, e1, e2, ⟨rfl, b, M', ad', Lv', rfl, hl, h5, hx, q3, q4, hz, hk⟩, hce, hcv, hcl, st⟩
  · cases hv
    rw [h0] at hz hk
    obtain ⟨t2, a1, b1⟩ := kk rv M' ad' Lv' T'.heap (locs ++ L) _ q1 q2 q3 (by rw [e1]; exact q4)
      ⟨Nat.le_trans hS.1 (by rw [e1]; exact hz), fun q h1 h2 => by rw [e1, hk q (Nat.lt_of_lt_of_le h1 hS.1) h2]; exact hS.2.1 q h1 h2, fun q hq => by
        rcases List.mem_append.mp hq with h | h
        · exact hS.2.2 q h
        · exact hL q h⟩ T' rfl X'
    exact ⟨t2, st t2 a1, b1⟩
  · rw [h0] at hz hk
    obtain ⟨t2, a1, b1⟩ := kx ce b M' ad' Lv' T'.heap (locs ++ L) hl h5 hx q3 (by rw [e1]; exact q4)
      ⟨Nat.le_trans hS.1 (by rw [e1]; exact hz), fun q h1 h2 => by rw [e1, hk q (Nat.lt_of_lt_of_le h1 hS.1) h2]; exact hS.2.1 q h1 h2, fun q hq => by
        rcases List.mem_append.mp hq with h | h
        · exact hS.2.2 q h
        · exact hL q h⟩ (by rw [e1]; exact hce) hcv hcl T' rfl X'
    exact ⟨t2, st.trans a1, b1⟩
end AUX
section AUY
variable {G : au_G} {K : au_K} {Qf : au_Qf} {pc : Nat} {L : List (Option au_V)} {st stk : List au_V} {M : au_M} {ck cs : Nat} {rm : Room} {P2 : Option au_V → au_M → Prop} {PX2 : au_A → au_M → Prop}
/-- a return of a method that may throw -/
theorem au_retX (h : au_Go G K (au_QM G rm P2) pc L st M ck cs) : au_Go G K (au_QMX G rm P2 PX2) pc L st M ck cs := by
  intro p e s m args below meth c ad0 ad Lv0 Lv H ls cst locs X hm hP hLn hL hS hV hE
  exact ex_ret (h p e s m args below meth c ad0 ad Lv0 Lv H ls cst locs X hm hP hLn hL hS hV hE)
theorem au_wrong {ad : au_A → Nat} {Lv : au_A → Prop} {H : Heap} (hP : au_P G ad Lv M H) {b : au_A} (hl : Lv b) (h5 : b.2.2 = 5) : ∃ ce : Cell, H[ad b]? = some ce ∧ ce.vm = .none ∧ ce.cls = G.2.1.1 5 := by
  obtain ⟨fs, ⟨r, hr, cell, h1, h2, h3, -⟩, -, -⟩ := (hP.1 b hl).1 (by rw [h5]; decide)
  refine ⟨cell, h1, h3, ?_⟩
  rw [h2, h5]
/-- throw x -/
theorem au_throw {a : au_A} (h5 : a.2.2 = 5) (hx : PX2 a M) (hd : decode K.2.1 pc = .ok (.athrow, 1)) (hnt : K.1 ≠ "ApologyUp" ∨ K.2.2.2.2.2 ≠ "text") (h1 : ck ≤ rm.cells) (h2 : cs ≤ rm.slots) (hsum : (st.map au_cat).sum ≤ 8) : au_Go G K (au_QMX G rm P2 PX2) pc L (au_r a :: st) M ck cs := by
  intro p e s m args below meth c ad0 ad Lv0 Lv H ls cst locs X hm hP hLn hL hS hV hE
  obtain ⟨ct, rfl, ha, hS1⟩ := au_S_r hS
  obtain ⟨ce, c1, c2, c3⟩ := au_wrong hP ha h5
  have ht : ∀ x ∈ c.exceptionTable.toList, covers x pc = false := by
    rcases X.2.2.2.2.1.2 with ⟨q, -⟩ | ⟨q1, q2, -⟩
    · rw [q]; exact fun x hx => nomatch hx
    · rw [hm] at q2
      rcases hnt with z | z
      · exact absurd q1 z
      · exact absurd q2 z
  refine vx_athrow X.1 X.2.1 hd (ex_out (E := "ApologyUp$Wrong") ht X.2.2.2.2.1.1 c1 c2 ?_ (fun t ht hW => ⟨rfl, a, M, ad, Lv, rfl, ha, h5, hx, hE, by rw [ht]; exact hP, hV.F ht⟩) hV.2.2 h1 h2)
  rw [c3]
  exact (X.2.2.2.2.2.2.2.1.1 5 _ rfl).2.1
set_option maxHeartbeats 1000000 in
/-- a call through an object of a method that may throw; what it throws goes on to the caller's caller -/
theorem au_callVX {own C : String} {T : u_T} {N : Nat} {y : MethodName} {bytes : ByteArray} {maxL index n dep mc ms : Nat} {ret : Option FieldType} {as : List au_V} {b : au_A} {Post : Option au_V → au_M → Prop} {PX : au_A → au_M → Prop}
    (hC : au_CtrX G y bytes maxL ret dep mc ms (au_r b :: as) M Post PX) (hT : GoodIn lw_all (wsV own index C y (ws_ y bytes maxL ret))) (hyC : y.cls = C) (hdd : au_d y n) (hk : b.2.2 < 40) (hc : au_cl[b.2.2]? = some (C, T, N)) (ho : K.1 = own) (hn : as.length = n) (hst : stk = as.reverse ++ au_r b :: st) (hsum : (st.map au_cat).sum ≤ 8)
    (hR1 : dep + 1 ≤ K.2.2.2.2.1.frames) (hR2 : 8 + (maxL + 11) + 80 * dep ≤ K.2.2.2.2.1.locals) (hR : K.2.2.2.2.1 = rm) (hm1 : ck + mc ≤ rm.cells) (hm2 : cs + ms ≤ rm.slots) (hd : decode K.2.1 pc = .ok (.invokevirtual index, 3)) (hnt : K.1 ≠ "ApologyUp" ∨ K.2.2.2.2.2 ≠ "text")
    (kx : ∀ (a : au_A) (M' : au_M), a.2.2 = 5 → PX a M' → PX2 a M')
    (kk : ∀ (rv : Option au_V) (M' : au_M), Post rv M' → au_Go G K (au_QMX G rm P2 PX2) (pc + 3) L (rv.toList ++ st) M' (ck + mc) (cs + ms)) : au_Go G K (au_QMX G rm P2 PX2) pc L stk M ck cs := by
  intro p e s m args below meth c ad0 ad Lv0 Lv H ls cst locs X hm hP hLn hL hS hV hE
  subst hst; subst ho
  obtain ⟨ca, cr, rfl, s1, s2⟩ := au_S_app hS
  obtain ⟨ct, rfl, hb, s3⟩ := au_S_r s2
  have s1' := au_S_rev s1
  rw [List.reverse_reverse] at s1'
  have hU := X.2.2.2.2.2.2.2
  have hts := X.2.2.2.2.2.2.1
  obtain ⟨fs, p1, -, -⟩ := (hP.1 b hb).1 hk
  have hM := hC ad Lv (.ref (ad b) :: ca.reverse) ⟨⟨rfl, hb⟩, s1'⟩
  have hP1 : va_P G.2.1 au_cl [(ad b, .inr (b.2.2, fs))] H := by
    intro j q hj
    match j, hj with
    | 0, hj => cases hj; exact p1
    | j + 1, hj => simp at hj
  have ht : ∀ x ∈ c.exceptionTable.toList, covers x pc = false := by
    rcases X.2.2.2.2.1.2 with ⟨q, -⟩ | ⟨q1, q2, -⟩
    · rw [q]; exact fun x hx => nomatch hx
    · rw [hm] at q2
      rcases hnt with z | z
      · exact absurd q1 z
      · exact absurd q2 z
  refine au_afterX (ex_runV (As := ca.reverse) (rest := ct) ⟨X.1, X.2.1, X.2.2.1, X.2.2.2.2.2.1, hts⟩ hM (cwV n hts hT rfl rfl rfl ⟨hyC, hdd⟩ ⟨hR1, hR2⟩) ⟨au_blind _ _ _ _ _, va_recv hU.1 hP1 hc (q0 := 0) rfl, fun U hU' hW => au_pre hU hP hV hU' hW⟩ rfl (by rw [List.length_reverse, au_S_len s1, List.length_reverse]; exact hn) ?_ (by rw [List.reverse_reverse]) (lv_room (by rw [au_S_cat s3]; exact hsum)) hd ⟨by rw [hR]; exact hm1, by rw [hR]; exact hm2⟩) hV ?_ ?_
  · obtain ⟨lv, h1, -⟩ := hL
    show ls.size = K.2.2.1
    rw [h1.1, hLn]
  · intro rv M' ad' Lv' H1 locs1 cv q1 q2 q3 q4 q5
    refine kk rv M' q2 p e s m args below meth c ad0 ad' Lv0 Lv' H1 ls _ locs1 X hm q4 hLn (hL.ext q3) ?_ q5 (hE.tr q3)
    match rv, cv, q1 with
    | none, none, _ => exact s3.ext q3
    | some v, some w, q1 => exact ⟨q1, s3.ext q3⟩
  · intro ce a M' ad' Lv' H1 locs1 hl h5 hx q3 q4 q5 c1 c2 c3
    exact ex_out (E := "ApologyUp$Wrong") ht X.2.2.2.2.1.1 c1 c2 c3 (fun t ht hW => ⟨rfl, a, M', ad', Lv', rfl, hl, h5, kx a M' h5 hx, hE.tr q3, by rw [ht]; exact q4, q5.F ht⟩) q5.2.2 hm1 hm2
set_option maxHeartbeats 1000000 in
/-- such a call in the one method with handlers: what is thrown is caught -/
theorem au_callVC {C : String} {T : u_T} {N : Nat} {y : MethodName} {bytes : ByteArray} {maxL index n dep mc ms : Nat} {ret : Option FieldType} {as : List au_V} {b : au_A} {Post : Option au_V → au_M → Prop} {PX : au_A → au_M → Prop}
    (hC : au_CtrX G y bytes maxL ret dep mc ms (au_r b :: as) M Post PX) (hT : GoodIn lw_all (wsV "ApologyUp" index C y (ws_ y bytes maxL ret))) (hyC : y.cls = C) (hdd : au_d y n) (hk : b.2.2 < 40) (hc : au_cl[b.2.2]? = some (C, T, N)) (ho : K.1 = "ApologyUp") (hn : as.length = n) (hst : stk = as.reverse ++ au_r b :: st) (hsum : (st.map au_cat).sum ≤ 8)
    (hR1 : dep + 1 ≤ K.2.2.2.2.1.frames) (hR2 : 8 + (maxL + 11) + 80 * dep ≤ K.2.2.2.2.1.locals) (hm1 : ck + mc ≤ K.2.2.2.2.1.cells) (hm2 : cs + ms ≤ K.2.2.2.2.1.slots) (hd : decode K.2.1 pc = .ok (.invokevirtual index, 3)) (hnt : K.2.2.2.2.2 = "text") (hpc : 30 ≤ pc ∧ pc < 62)
    (kx : ∀ (a : au_A) (M' : au_M), a.2.2 = 5 → PX a M' → au_Go G K Qf 70 L [au_r a] M' (ck + mc) (cs + ms))
    (kk : ∀ (rv : Option au_V) (M' : au_M), Post rv M' → au_Go G K Qf (pc + 3) L (rv.toList ++ st) M' (ck + mc) (cs + ms)) : au_Go G K Qf pc L stk M ck cs := by
  intro p e s m args below meth c ad0 ad Lv0 Lv H ls cst locs X hm hP hLn hL hS hV hE
  subst hst
  obtain ⟨ca, cr, rfl, s1, s2⟩ := au_S_app hS
  obtain ⟨ct, rfl, hb, s3⟩ := au_S_r s2
  have s1' := au_S_rev s1
  rw [List.reverse_reverse] at s1'
  have hU := X.2.2.2.2.2.2.2
  have hts := X.2.2.2.2.2.2.1
  obtain ⟨fs, p1, -, -⟩ := (hP.1 b hb).1 hk
  have hM := hC ad Lv (.ref (ad b) :: ca.reverse) ⟨⟨rfl, hb⟩, s1'⟩
  have hP1 : va_P G.2.1 au_cl [(ad b, .inr (b.2.2, fs))] H := by
    intro j q hj
    match j, hj with
    | 0, hj => cases hj; exact p1
    | j + 1, hj => simp at hj
  have hown : s.vm.findClass "ApologyUp" = some m.cls := by rw [← ho]; exact X.2.2.2.2.2.1
  have ht : c.exceptionTable.toList = tableOf au_hh := by
    rcases X.2.2.2.2.1.2 with ⟨-, q⟩ | ⟨-, -, q⟩
    · rw [hm] at q
      rcases q with z | z
      · exact absurd ho z
      · exact absurd hnt z
    · exact q
  have hcov : covers ⟨30, 62, 70, 109⟩ pc = true := by
    simp only [covers, Bool.and_eq_true, decide_eq_true_eq]
    exact ⟨hpc.1, hpc.2⟩
  refine au_afterX (ex_runV (own := "ApologyUp") (As := ca.reverse) (rest := ct) ⟨X.1, X.2.1, X.2.2.1, hown, hts⟩ hM (cwV n hts hT rfl rfl rfl ⟨hyC, hdd⟩ ⟨hR1, hR2⟩) ⟨au_blind _ _ _ _ _, va_recv hU.1 hP1 hc (q0 := 0) rfl, fun U hU' hW => au_pre hU hP hV hU' hW⟩ rfl (by rw [List.length_reverse, au_S_len s1, List.length_reverse]; exact hn) ?_ (by rw [List.reverse_reverse]) (lv_room (by rw [au_S_cat s3]; exact hsum)) hd ⟨hm1, hm2⟩) hV ?_ ?_
  · obtain ⟨lv, h1, -⟩ := hL
    show ls.size = K.2.2.1
    rw [h1.1, hLn]
  · intro rv M' ad' Lv' H1 locs1 cv q1 q2 q3 q4 q5
    refine kk rv M' q2 p e s m args below meth c ad0 ad' Lv0 Lv' H1 ls _ locs1 X hm q4 hLn (hL.ext q3) ?_ q5 (hE.tr q3)
    match rv, cv, q1 with
    | none, none, _ => exact s3.ext q3
    | some v, some w, q1 => exact ⟨q1, s3.ext q3⟩
  · intro ce a M' ad' Lv' H1 locs1 hl h5 hx q3 q4 q5 c1 c2 c3
    refine vx_catch (own := "ApologyUp") (name := "ApologyUp$Wrong") hown [] ⟨30, 62, 70, 109⟩ _ (by rw [ht]; rfl) (fun z hz => nomatch hz) hcov (by decide) (hts _ q326) (va_Nw.use rfl (hU.2.2.2.1.1 _ q485 rfl)) c1 c2 c3 ?_
    exact kx a M' h5 hx p e s m args below meth c ad0 ad' Lv0 Lv' H1 ls [.ref (ad' a)] locs1 X hm q4 hLn (hL.ext q3) ⟨⟨rfl, hl⟩, trivial⟩ q5 (hE.tr q3)
end AUY
