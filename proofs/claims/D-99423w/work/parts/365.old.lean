/-! OLD THINGS: statics, objects and arrays that nobody writes (names of kind 60) -/
set_option maxRecDepth 100000
/-- a value that is known by the old addresses -/
def au_kv (v : au_V) : Prop := match v with
  | .inl x => -2147483648 ≤ x ∧ x ≤ 2147483647
  | .inr (.inl _) => False
  | .inr (.inr none) => True
  | .inr (.inr (some a)) => a.1 < 1000 ∧ a.2.2 = 60
theorem au_kv_rel {G : au_G} {ad : au_A → Nat} {Lv : au_A → Prop} {M : au_M} {H : Heap} (hP : au_P G ad Lv M H) {v : au_V} (hv : au_kv v) : au_rel ad Lv v (au_cv G v) := by
  match v, hv with
  | .inl x, hv => exact ⟨Int32.ofInt x, rfl, Int32.toInt_ofInt_of_le (by show -2147483648 ≤ x; exact hv.1) (by show x < 2147483648; have := hv.2; omega)⟩
  | .inr (.inr none), _ => exact rfl
  | .inr (.inr (some a)), hv =>
    obtain ⟨h1, h2⟩ := hP.2.2.2.2.1 a hv.1 hv.2
    exact ⟨by rw [h2]; rfl, h1⟩
section AUO
variable {G : au_G} {K : au_K} {Qf : au_Qf} {pc : Nat} {L : List (Option au_V)} {st : List au_V} {M : au_M} {ck cs : Nat}
/-- a static read -/
theorem au_gets {own C n d : String} {index : Nat} {v : au_V} (hz : (C, n, d, v) ∈ au_sta) (hv : au_kv v) (ho : K.1 = own) (hq : Cond.fieldLink own index C n d ∈ lw_all) (hd : decode K.2.1 pc = .ok (.getstatic index, 3)) (kk : au_Go G K Qf (pc + 3) L (v :: st) M ck cs) : au_Go G K Qf pc L st M ck cs := by
  intro p e s m args below meth c ad0 ad Lv0 Lv H ls cst locs X hm hP hLn hL hS hV hE
  subst ho
  have hU := X.2.2.2.2.2.2.2
  exact va_gets X.1 X.2.1 (hU.2.1.1 _ hz) hV X.2.2.2.2.2.1 (X.2.2.2.2.2.2.1 _ hq) (fun x h => h) hd (kk p e s m args below meth c ad0 ad Lv0 Lv H ls _ locs X hm hP hLn hL ⟨au_kv_rel hP hv, hS⟩ hV hE)
/-- a static of which only a reference or null is known -/
theorem au_getsu {own C n d : String} {index : Nat} {a : au_A} (hz : (C, n, d, a) ∈ au_stu) (hv : a.1 < 1000 ∧ a.2.2 = 60) (ho : K.1 = own) (hq : Cond.fieldLink own index C n d ∈ lw_all) (hd : decode K.2.1 pc = .ok (.getstatic index, 3)) (kk : ∀ o : Option au_A, (o = none ∨ o = some a) → au_Go G K Qf (pc + 3) L (au_q o :: st) M ck cs) : au_Go G K Qf pc L st M ck cs := by
  intro p e s m args below meth c ad0 ad Lv0 Lv H ls cst locs X hm hP hLn hL hS hV hE
  subst ho
  have hU := X.2.2.2.2.2.2.2
  rcases (hU.2.1.2.1 _ hz).1 with h | h
  · exact va_gets X.1 X.2.1 h hV X.2.2.2.2.2.1 (X.2.2.2.2.2.2.1 _ hq) (fun x h => h) hd (kk none (Or.inl rfl) p e s m args below meth c ad0 ad Lv0 Lv H ls _ locs X hm hP hLn hL ⟨rfl, hS⟩ hV hE)
  · exact va_gets X.1 X.2.1 h hV X.2.2.2.2.2.1 (X.2.2.2.2.2.2.1 _ hq) (fun x h => h) hd (kk (some a) (Or.inr rfl) p e s m args below meth c ad0 ad Lv0 Lv H ls _ locs X hm hP hLn hL ⟨au_kv_rel (v := au_r a) hP hv, hS⟩ hV hE)
/-- an old object's field -/
theorem au_getK {own C n d : String} {index : Nat} {a : au_A} {v : au_V} (ha : a.1 < 1000 ∧ a.2.2 = 60) (hF : ∀ (s : State) (H : Heap), au_old G s H → va_OF C n d (au_cv G v) (G.2.2.2.1 a) (au_new G) s H) (hv : au_kv v) (ho : K.1 = own) (hq : Cond.fieldLink own index C n d ∈ lw_all) (hd : decode K.2.1 pc = .ok (.getfield index, 3)) (kk : au_Go G K Qf (pc + 3) L (v :: st) M ck cs) : au_Go G K Qf pc L (au_r a :: st) M ck cs := by
  intro p e s m args below meth c ad0 ad Lv0 Lv H ls cst locs X hm hP hLn hL hS hV hE
  obtain ⟨ct, rfl, hl, hS1⟩ := au_S_r hS
  subst ho
  have hU := X.2.2.2.2.2.2.2
  rw [(hP.2.2.2.2.1 a ha.1 ha.2).2]
  exact vk_getf X.1 X.2.1 (hF s s.heap hU.2.1) hV X.2.2.2.2.2.1 (X.2.2.2.2.2.2.1 _ hq) (fun x h => h) hd (kk p e s m args below meth c ad0 ad Lv0 Lv H ls _ locs X hm hP hLn hL ⟨au_kv_rel hP hv, hS1⟩ hV hE)
/-- a nest mate's old object's field -/
theorem au_getKN {own C n d host : String} {index : Nat} {a : au_A} {v : au_V} (ha : a.1 < 1000 ∧ a.2.2 = 60) (hF : ∀ (s : State) (H : Heap), au_old G s H → va_OF C n d (au_cv G v) (G.2.2.2.1 a) (au_new G) s H) (hv : au_kv v) (ho : K.1 = own) (hq : Cond.fieldLinkNest own index C n d host ∈ lw_tbl) (hd : decode K.2.1 pc = .ok (.getfield index, 3)) (kk : au_Go G K Qf (pc + 3) L (v :: st) M ck cs) : au_Go G K Qf pc L (au_r a :: st) M ck cs := by
  intro p e s m args below meth c ad0 ad Lv0 Lv H ls cst locs X hm hP hLn hL hS hV hE
  obtain ⟨ct, rfl, hl, hS1⟩ := au_S_r hS
  subst ho
  have hU := X.2.2.2.2.2.2.2
  rw [(hP.2.2.2.2.1 a ha.1 ha.2).2]
  obtain ⟨cf, k, fi, f, cell, h1, h2, h3, h4, h5, h6⟩ := (hF s s.heap hU.2.1).kept hV.2.1
  exact va_Wgetf (host := host) X.1 X.2.1 X.2.2.2.2.2.1 (va_Nw.use rfl (hU.2.2.2.1.1 _ hq rfl)) h1 h2 h3 h4 (v := au_cv G v) h5 rfl rfl hd (kk p e s m args below meth c ad0 ad Lv0 Lv H ls _ locs X hm hP hLn hL ⟨au_kv_rel hP hv, hS1⟩ hV hE)
theorem au_in32 {i : Int32} {j : Int} {N : Nat} (e : i.toInt = j) (h0 : 0 ≤ j) (h1 : j < (N : Int)) : vp_in i N ∧ i.toNatClampNeg = j.toNat := by
  have hcl : i.toNatClampNeg = j.toNat := by rw [← e]; rfl
  refine ⟨fun q => ?_, hcl⟩
  rcases q with q | q
  · have := (au_l0 _).mp q; omega
  · omega
/-- an element of an old array of references -/
theorem au_aldK {C : String} {a : au_A} {j : Int} {N : Nat} {f : Nat → Value} {v : au_V} (ha : a.1 < 1000 ∧ a.2.2 = 60) (hF : ∀ (s : State) (H : Heap), au_old G s H → va_T (.object C) (G.2.2.2.1 a) N f (au_new G) s H) (h0 : 0 ≤ j) (h1 : j < (N : Int)) (hf : f j.toNat = au_cv G v) (hv : au_kv v) (hd : decode K.2.1 pc = .ok (.aaload, 1)) (kk : au_Go G K Qf (pc + 1) L (v :: st) M ck cs) : au_Go G K Qf pc L (au_i j :: au_r a :: st) M ck cs := by
  intro p e s m args below meth c ad0 ad Lv0 Lv H ls cst locs X hm hP hLn hL hS hV hE
  obtain ⟨i, c1, rfl, ei, hS1⟩ := au_S_i hS
  obtain ⟨ct, rfl, hl, hS2⟩ := au_S_r hS1
  have hU := X.2.2.2.2.2.2.2
  rw [(hP.2.2.2.2.1 a ha.1 ha.2).2]
  obtain ⟨q1, q2⟩ := au_in32 ei h0 h1
  exact vb_tq X.1 X.2.1 (hF s s.heap hU.2.1) hV q1 (by rw [q2]; exact hf) hd (kk p e s m args below meth c ad0 ad Lv0 Lv H ls _ locs X hm hP hLn hL ⟨au_kv_rel hP hv, hS2⟩ hV hE)
theorem au_ildK {a : au_A} {j : Int} {N : Nat} {f : Nat → Value} {x : Int} (ha : a.1 < 1000 ∧ a.2.2 = 60) (hF : ∀ (s : State) (H : Heap), au_old G s H → va_T .int (G.2.2.2.1 a) N f (au_new G) s H) (h0 : 0 ≤ j) (h1 : j < (N : Int)) (hf : ∃ i : Int32, f j.toNat = .int i ∧ i.toInt = x) (hd : decode K.2.1 pc = .ok (.iaload, 1)) (kk : au_Go G K Qf (pc + 1) L (au_i x :: st) M ck cs) : au_Go G K Qf pc L (au_i j :: au_r a :: st) M ck cs := by
  intro p e s m args below meth c ad0 ad Lv0 Lv H ls cst locs X hm hP hLn hL hS hV hE
  obtain ⟨i, c1, rfl, ei, hS1⟩ := au_S_i hS
  obtain ⟨ct, rfl, hl, hS2⟩ := au_S_r hS1
  have hU := X.2.2.2.2.2.2.2
  rw [(hP.2.2.2.2.1 a ha.1 ha.2).2]
  obtain ⟨q1, q2⟩ := au_in32 ei h0 h1
  obtain ⟨iv, f1, f2⟩ := hf
  exact va_ti X.1 X.2.1 (hF s s.heap hU.2.1) hV q1 (by rw [q2]; exact f1) hd (kk p e s m args below meth c ad0 ad Lv0 Lv H ls _ locs X hm hP hLn hL ⟨⟨iv, rfl, f2⟩, hS2⟩ hV hE)
theorem au_bldK {a : au_A} {j : Int} {N : Nat} {f : Nat → Value} {x : Int} (ha : a.1 < 1000 ∧ a.2.2 = 60) (hF : ∀ (s : State) (H : Heap), au_old G s H → va_T .byte (G.2.2.2.1 a) N f (au_new G) s H) (h0 : 0 ≤ j) (h1 : j < (N : Int)) (hf : ∃ i : Int32, f j.toNat = .int i ∧ i.toInt = x) (hd : decode K.2.1 pc = .ok (.baload, 1)) (kk : au_Go G K Qf (pc + 1) L (au_i x :: st) M ck cs) : au_Go G K Qf pc L (au_i j :: au_r a :: st) M ck cs := by
  intro p e s m args below meth c ad0 ad Lv0 Lv H ls cst locs X hm hP hLn hL hS hV hE
  obtain ⟨i, c1, rfl, ei, hS1⟩ := au_S_i hS
  obtain ⟨ct, rfl, hl, hS2⟩ := au_S_r hS1
  have hU := X.2.2.2.2.2.2.2
  rw [(hP.2.2.2.2.1 a ha.1 ha.2).2]
  obtain ⟨q1, q2⟩ := au_in32 ei h0 h1
  obtain ⟨iv, f1, f2⟩ := hf
  exact va_tb X.1 X.2.1 (hF s s.heap hU.2.1) hV q1 (by rw [q2]; exact f1) hd (kk p e s m args below meth c ad0 ad Lv0 Lv H ls _ locs X hm hP hLn hL ⟨⟨iv, rfl, f2⟩, hS2⟩ hV hE)
theorem au_alenK {ty : FieldType} {a : au_A} {N : Nat} {f : Nat → Value} (ha : a.1 < 1000 ∧ a.2.2 = 60) (hF : ∀ (s : State) (H : Heap), au_old G s H → va_T ty (G.2.2.2.1 a) N f (au_new G) s H) (hN : N < 2147483648) (hd : decode K.2.1 pc = .ok (.arraylength, 1)) (kk : au_Go G K Qf (pc + 1) L (au_i (N : Int) :: st) M ck cs) : au_Go G K Qf pc L (au_r a :: st) M ck cs := by
  intro p e s m args below meth c ad0 ad Lv0 Lv H ls cst locs X hm hP hLn hL hS hV hE
  obtain ⟨ct, rfl, hl, hS2⟩ := au_S_r hS
  have hU := X.2.2.2.2.2.2.2
  rw [(hP.2.2.2.2.1 a ha.1 ha.2).2]
  exact va_tlen X.1 X.2.1 (hF s s.heap hU.2.1) hV rfl hd (kk p e s m args below meth c ad0 ad Lv0 Lv H ls _ locs X hm hP hLn hL ⟨⟨Int32.ofNat N, rfl, Int32.toInt_ofNat_of_lt hN⟩, hS2⟩ hV hE)
/-- an old object cast to its very class -/
theorem au_castK {own C : String} {index : Nat} {a : au_A} (ha : a.1 < 1000 ∧ a.2.2 = 60) (hF : ∀ (s : State) (H : Heap), au_old G s H → va_O C (G.2.2.2.1 a) (au_new G) s H) (ho : K.1 = own) (hq : Cond.classLink own index C ∈ lw_all) (hd : decode K.2.1 pc = .ok (.checkcast index, 3)) (kk : au_Go G K Qf (pc + 3) L (au_r a :: st) M ck cs) : au_Go G K Qf pc L (au_r a :: st) M ck cs := by
  intro p e s m args below meth c ad0 ad Lv0 Lv H ls cst locs X hm hP hLn hL hS hV hE
  obtain ⟨ct, rfl, hl, hS2⟩ := au_S_r hS
  subst ho
  have hU := X.2.2.2.2.2.2.2
  have e1 := (hP.2.2.2.2.1 a ha.1 ha.2).2
  rw [e1]
  exact va_castE X.1 X.2.1 X.2.2.2.2.2.1 (X.2.2.2.2.2.2.1 _ hq) (va_Orecv (hF s s.heap hU.2.1) hV) hd (kk p e s m args below meth c ad0 ad Lv0 Lv H ls _ locs X hm hP hLn hL ⟨⟨by rw [e1], hl⟩, hS2⟩ hV hE)
/-- the String constant of the signs -/
theorem au_ldcS {own : String} (ho : K.1 = own) (hown : own = "ApologyUp$Tokens") (hd : decode K.2.1 pc = .ok (.ldc 53, 2)) (kk : au_Go G K Qf (pc + 2) L (au_r (au_sn 28) :: st) M ck cs) : au_Go G K Qf pc L st M ck cs := by
  intro p e s m args below meth c ad0 ad Lv0 Lv H ls cst locs X hm hP hLn hL hS hV hE
  subst hown
  have hU := X.2.2.2.2.2.2.2
  have hc := X.2.2.2.2.2.1
  rw [ho] at hc
  exact va_ldcS X.1 X.2.1 hc hU.2.2.2.1.2 hd (kk p e s m args below meth c ad0 ad Lv0 Lv H ls _ locs X hm hP hLn hL ⟨au_kv_rel (v := au_r (au_sn 28)) hP ⟨by decide, rfl⟩, hS⟩ hV hE)
set_option maxHeartbeats 1000000 in
/-- a call through an old object -/
theorem au_callK {own C : String} {y : MethodName} {bytes : ByteArray} {maxL index n dep mc ms : Nat} {ret : Option FieldType} {as stk : List au_V} {b : au_A} {Post : Option au_V → au_M → Prop}
    (hC : au_Ctr G y bytes maxL ret dep mc ms (au_r b :: as) M Post) (hT : GoodIn lw_all (wsV own index C y (ws_ y bytes maxL ret))) (hyC : y.cls = C) (hdd : au_d y n) (ha : b.1 < 1000 ∧ b.2.2 = 60) (hF : ∀ (s : State) (H : Heap), au_old G s H → va_O C (G.2.2.2.1 b) (au_new G) s H) (ho : K.1 = own) (hn : as.length = n) (hst : stk = as.reverse ++ au_r b :: st) (hsum : (st.map au_cat).sum ≤ 8)
    (hR1 : dep + 1 ≤ K.2.2.2.2.1.frames) (hR2 : 8 + (maxL + 11) + 80 * dep ≤ K.2.2.2.2.1.locals) (hm1 : ck + mc ≤ K.2.2.2.2.1.cells) (hm2 : cs + ms ≤ K.2.2.2.2.1.slots) (hd : decode K.2.1 pc = .ok (.invokevirtual index, 3))
    (kk : ∀ (rv : Option au_V) (M' : au_M), Post rv M' → au_Go G K Qf (pc + 3) L (rv.toList ++ st) M' (ck + mc) (cs + ms)) : au_Go G K Qf pc L stk M ck cs := by
  intro p e s m args below meth c ad0 ad Lv0 Lv H ls cst locs X hm hP hLn hL hS hV hE
  subst hst; subst ho
  obtain ⟨ca, cr, rfl, s1, s2⟩ := au_S_app hS
  obtain ⟨ct, rfl, hb, s3⟩ := au_S_r s2
  have s1' := au_S_rev s1
  rw [List.reverse_reverse] at s1'
  have hU := X.2.2.2.2.2.2.2
  have hts := X.2.2.2.2.2.2.1
  have hM := hC ad Lv (.ref (ad b) :: ca.reverse) ⟨⟨rfl, hb⟩, s1'⟩
  have e1 := (hP.2.2.2.2.1 b ha.1 ha.2).2
  refine au_after (va_runV (As := ca.reverse) (rest := ct) ⟨X.1, X.2.1, X.2.2.1, X.2.2.2.2.2.1, hts⟩ hM (cwV n hts hT rfl rfl rfl ⟨hyC, hdd⟩ ⟨hR1, hR2⟩) ⟨au_blind _ _ _ _ _, by rw [e1]; exact va_Orecv (hF s s.heap hU.2.1) hV, fun U hU' hW => au_pre hU hP hV hU' hW⟩ rfl (by rw [List.length_reverse, au_S_len s1, List.length_reverse]; exact hn) ?_ (by rw [List.reverse_reverse]) (lv_room (by rw [au_S_cat s3]; exact hsum)) hd ⟨hm1, hm2⟩) hV ?_
  · obtain ⟨lv, h1, -⟩ := hL
    show ls.size = K.2.2.1
    rw [h1.1, hLn]
  · intro rv M' ad' Lv' H1 locs1 cv q1 q2 q3 q4 q5
    refine kk rv M' q2 p e s m args below meth c ad0 ad' Lv0 Lv' H1 ls _ locs1 X hm q4 hLn (hL.ext q3) ?_ q5 (hE.tr q3)
    match rv, cv, q1 with
    | none, none, _ => exact s3.ext q3
    | some v, some w, q1 => exact ⟨q1, s3.ext q3⟩
theorem au_callKp {own C : String} {y : MethodName} {bytes : ByteArray} {maxL index n dep : Nat} {ret : Option FieldType} {as stk : List au_V} {b : au_A} {v : au_V}
    (hC : au_Ctr G y bytes maxL ret dep 0 0 (au_r b :: as) M (au_pure v M)) (hT : GoodIn lw_all (wsV own index C y (ws_ y bytes maxL ret))) (hyC : y.cls = C) (hdd : au_d y n) (ha : b.1 < 1000 ∧ b.2.2 = 60) (hF : ∀ (s : State) (H : Heap), au_old G s H → va_O C (G.2.2.2.1 b) (au_new G) s H) (ho : K.1 = own) (hn : as.length = n) (hst : stk = as.reverse ++ au_r b :: st) (hsum : (st.map au_cat).sum ≤ 8)
    (hR1 : dep + 1 ≤ K.2.2.2.2.1.frames) (hR2 : 8 + (maxL + 11) + 80 * dep ≤ K.2.2.2.2.1.locals) (hm1 : ck ≤ K.2.2.2.2.1.cells) (hm2 : cs ≤ K.2.2.2.2.1.slots) (hd : decode K.2.1 pc = .ok (.invokevirtual index, 3))
    (kk : au_Go G K Qf (pc + 3) L (v :: st) M ck cs) : au_Go G K Qf pc L stk M ck cs :=
  au_callK hC hT hyC hdd ha hF ho hn hst hsum hR1 hR2 hm1 hm2 hd (fun rv M' hp => by obtain ⟨rfl, rfl⟩ := hp; exact kk)
end AUO
theorem ic_ok {s : Int} (h0 : -128 ≤ s) (h1 : s ≤ 127) : (ic s).1 < 1000 ∧ (ic s).2.2 = 60 := ⟨by show (s + 328).toNat < 1000; omega, rfl⟩
theorem au_old.oic {G : au_G} {v : Int} (h0 : -128 ≤ v) (h1 : v ≤ 127) (s : State) (H : Heap) (h : au_old G s H) : va_O "java/lang/Integer" (G.2.2.2.1 (ic v)) (au_new G) s H := (h.2.2.2.2.2.2.2.2.1 v h0 h1).1
theorem au_old.icv {G : au_G} {v : Int} (h0 : -128 ≤ v) (h1 : v ≤ 127) (s : State) (H : Heap) (h : au_old G s H) : va_OF "java/lang/Integer" "value" "I" (au_cv G (au_i v)) (G.2.2.2.1 (ic v)) (au_new G) s H := (h.2.2.2.2.2.2.2.2.1 v h0 h1).2
theorem au_old.nothing {G : au_G} (s : State) (H : Heap) (h : au_old G s H) : va_OF "ApologyUp$Text" "law" "[LApologyUp$Sum;" (au_cv G (au_r (191, 3, 60))) (G.2.2.2.1 (190, 0, 60)) (au_new G) s H := h.2.2.2.1
theorem au_old.nolaw {G : au_G} (s : State) (H : Heap) (h : au_old G s H) : va_T (.object "ApologyUp$Sum") (G.2.2.2.1 (191, 3, 60)) 3 (fun _ => .null) (au_new G) s H := h.2.2.2.2.1
theorem au_old.words {G : au_G} (s : State) (H : Heap) (h : au_old G s H) : va_T (.object "java/lang/String") (G.2.2.2.1 (192, 28, 60)) 28 (fun j => .ref (G.2.2.2.1 (au_sn j))) (au_new G) s H := h.2.2.2.2.2.1
theorem au_old.named {G : au_G} (s : State) (H : Heap) (h : au_old G s H) : va_T .int (G.2.2.2.1 (193, 9, 60)) 9 (fun j => .int (au_nmd.getD j 0)) (au_new G) s H := h.2.2.2.2.2.2.1
theorem au_old.cache {G : au_G} (s : State) (H : Heap) (h : au_old G s H) : va_T (.object "java/lang/Integer") (G.2.2.2.1 (194, 256, 60)) 256 (fun j => .ref (G.2.2.2.1 (ic ((j : Int) - 128)))) (au_new G) s H := h.2.2.2.2.2.2.2.1
theorem au_old.empty {G : au_G} (s : State) (H : Heap) (h : au_old G s H) : va_T (.object "java/lang/Object") (G.2.2.2.1 (195, 0, 60)) 0 (fun _ => .null) (au_new G) s H := h.2.2.2.2.2.2.2.2.2.1
theorem au_old.str {G : au_G} {i : Nat} (hi : i < 29) (s : State) (H : Heap) (h : au_old G s H) : va_O "java/lang/String" (G.2.2.2.1 (au_sn i)) (au_new G) s H := (h.2.2.2.2.2.2.2.2.2.2.1 i hi).1
theorem au_old.coder {G : au_G} {i : Nat} (hi : i < 29) (s : State) (H : Heap) (h : au_old G s H) : va_OF "java/lang/String" "coder" "B" (au_cv G (au_i 0)) (G.2.2.2.1 (au_sn i)) (au_new G) s H := (h.2.2.2.2.2.2.2.2.2.2.1 i hi).2.1
theorem au_old.sval {G : au_G} {i : Nat} (hi : i < 29) (s : State) (H : Heap) (h : au_old G s H) : va_OF "java/lang/String" "value" "[B" (au_cv G (au_r (au_bn i))) (G.2.2.2.1 (au_sn i)) (au_new G) s H := (h.2.2.2.2.2.2.2.2.2.2.1 i hi).2.2.1
theorem au_old.sbyt {G : au_G} {i : Nat} (hi : i < 29) (s : State) (H : Heap) (h : au_old G s H) : va_T .byte (G.2.2.2.1 (au_bn i)) (au_len.getD i 0) (fun j => .int ((au_byt.getD i []).getD j 0)) (au_new G) s H := (h.2.2.2.2.2.2.2.2.2.2.1 i hi).2.2.2
