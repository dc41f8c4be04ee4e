/-! CALLS OF NEST MATES' PRIVATE METHODS -/
set_option maxRecDepth 100000
section AUDN
variable {G : au_G} {K : au_K} {Qf : au_Qf} {pc : Nat} {L : List (Option au_V)} {st stk : List au_V} {M : au_M} {ck cs : Nat}
set_option maxHeartbeats 1000000 in
/-- a static call of a nest mate's -/
theorem au_callSN {own host : String} {y : MethodName} {bytes : ByteArray} {maxL index n dep mc ms : Nat} {ret : Option FieldType} {as : List au_V} {Post : Option au_V → au_M → Prop}
    (hC : au_Ctr G y bytes maxL ret dep mc ms as M Post) (hq : Cond.methodLinkNest own index y host ∈ lw_tbl) (hstt : Cond.static y ∈ lw_all) (hini : Cond.initialized y.cls ∈ lw_all) (hcode : Cond.code y bytes maxL ret ∈ lw_all) (hdd : au_d y n) (ho : K.1 = own) (hn : as.length = n) (hst : stk = as.reverse ++ st) (hsum : (st.map au_cat).sum ≤ 8)
    (hR1 : dep + 1 ≤ K.2.2.2.2.1.frames) (hR2 : 8 + (maxL + 11) + 80 * dep ≤ K.2.2.2.2.1.locals) (hm1 : ck + mc ≤ K.2.2.2.2.1.cells) (hm2 : cs + ms ≤ K.2.2.2.2.1.slots) (hd : decode K.2.1 pc = .ok (.invokestatic index, 3))
    (kk : ∀ (rv : Option au_V) (M' : au_M), Post rv M' → au_Go G K Qf (pc + 3) L (rv.toList ++ st) M' (ck + mc) (cs + ms)) : au_Go G K Qf pc L stk M ck cs := by
  intro p e s m args below meth c ad0 ad Lv0 Lv H ls cst locs X hm hP hLn hL hS hV hE
  subst hst; subst ho
  obtain ⟨ca, ct, rfl, s1, s3⟩ := au_S_app hS
  have s1' := au_S_rev s1
  rw [List.reverse_reverse] at s1'
  have hU := X.2.2.2.2.2.2.2
  have hts := X.2.2.2.2.2.2.1
  have hM := hC ad Lv ca.reverse s1'
  refine au_after (va_runSN (As := ca.reverse) (rest := ct) (host := host) ⟨X.1, X.2.1, X.2.2.1, X.2.2.2.2.2.1, hts⟩ hM ⟨va_cnB n hts (lw_meth hcode) rfl rfl rfl (hU.2.2.2.1.1 _ hq rfl) (hts _ hini) hdd ⟨hR1, hR2⟩, hts _ hstt, trivial⟩ ⟨au_blind _ _ _ _ _, fun U hU' hW => au_pre hU hP hV hU' hW⟩ rfl (by rw [List.length_reverse, au_S_len s1, List.length_reverse]; exact hn) ?_ (by rw [List.reverse_reverse]) (lv_room (by rw [au_S_cat s3]; exact hsum)) hd ⟨hm1, hm2⟩) hV ?_
  · obtain ⟨lv, h1, -⟩ := hL
    show ls.size = K.2.2.1
    rw [h1.1, hLn]
  · intro rv M' ad' Lv' H1 locs1 cv q1 q2 q3 q4 q5
    refine kk rv M' q2 p e s m args below meth c ad0 ad' Lv0 Lv' H1 ls _ locs1 X hm q4 hLn (hL.ext q3) ?_ q5 (hE.tr q3)
    match rv, cv, q1 with
    | none, none, _ => exact s3.ext q3
    | some v, some w, q1 => exact ⟨q1, s3.ext q3⟩
theorem au_callSNp {own host : String} {y : MethodName} {bytes : ByteArray} {maxL index n dep : Nat} {ret : Option FieldType} {as : List au_V} {v : au_V}
    (hC : au_Ctr G y bytes maxL ret dep 0 0 as M (au_pure v M)) (hq : Cond.methodLinkNest own index y host ∈ lw_tbl) (hstt : Cond.static y ∈ lw_all) (hini : Cond.initialized y.cls ∈ lw_all) (hcode : Cond.code y bytes maxL ret ∈ lw_all) (hdd : au_d y n) (ho : K.1 = own) (hn : as.length = n) (hst : stk = as.reverse ++ st) (hsum : (st.map au_cat).sum ≤ 8)
    (hR1 : dep + 1 ≤ K.2.2.2.2.1.frames) (hR2 : 8 + (maxL + 11) + 80 * dep ≤ K.2.2.2.2.1.locals) (hm1 : ck ≤ K.2.2.2.2.1.cells) (hm2 : cs ≤ K.2.2.2.2.1.slots) (hd : decode K.2.1 pc = .ok (.invokestatic index, 3))
    (kk : au_Go G K Qf (pc + 3) L (v :: st) M ck cs) : au_Go G K Qf pc L stk M ck cs :=
  au_callSN hC hq hstt hini hcode hdd ho hn hst hsum hR1 hR2 hm1 hm2 hd (fun rv M' hp => by obtain ⟨rfl, rfl⟩ := hp; exact kk)
set_option maxHeartbeats 1000000 in
/-- a nest mate's private constructor -/
theorem au_callIN {own host : String} {y : MethodName} {bytes : ByteArray} {maxL index n dep mc ms : Nat} {as : List au_V} {b : au_A} {Post : Option au_V → au_M → Prop}
    (hC : au_Ctr G y bytes maxL none dep mc ms (au_r b :: as) M Post) (hcode : Cond.code y bytes maxL none ∈ lw_all) (hini : Cond.initialized y.cls ∈ lw_all) (hq : Cond.methodLinkNest own index y host ∈ lw_tbl) (hinst : Cond.instanceMethod y ∈ lw_all) (hy : y.name = "<init>") (hdd : au_d y n) (ho : K.1 = own) (hn : as.length = n) (hst : stk = as.reverse ++ au_r b :: st) (hsum : (st.map au_cat).sum ≤ 8)
    (hR1 : dep + 1 ≤ K.2.2.2.2.1.frames) (hR2 : 8 + (maxL + 11) + 80 * dep ≤ K.2.2.2.2.1.locals) (hm1 : ck + mc ≤ K.2.2.2.2.1.cells) (hm2 : cs + ms ≤ K.2.2.2.2.1.slots) (hd : decode K.2.1 pc = .ok (.invokespecial index, 3))
    (kk : ∀ (M' : au_M), Post none M' → au_Go G K Qf (pc + 3) L st M' (ck + mc) (cs + ms)) (hnone : ∀ v M', ¬ Post (some v) M') : au_Go G K Qf pc L stk M ck cs := by
  intro p e s m args below meth c ad0 ad Lv0 Lv H ls cst locs X hm hP hLn hL hS hV hE
  subst hst; subst ho
  obtain ⟨ca, cr, rfl, s1, s2⟩ := au_S_app hS
  obtain ⟨ct, rfl, hb, s3⟩ := au_S_r s2
  have s1' := au_S_rev s1
  rw [List.reverse_reverse] at s1'
  have hU := X.2.2.2.2.2.2.2
  have hts := X.2.2.2.2.2.2.1
  have hM := hC ad Lv (.ref (ad b) :: ca.reverse) ⟨⟨rfl, hb⟩, s1'⟩
  refine au_after (va_runIN (As := ca.reverse) (rest := ct) (host := host) ⟨X.1, X.2.1, X.2.2.1, X.2.2.2.2.2.1, hts⟩ hM ⟨va_cnB n hts (lw_meth hcode) rfl rfl rfl (hU.2.2.2.1.1 _ hq rfl) (hts _ hini) hdd ⟨hR1, hR2⟩, hy, hts _ hinst⟩ ⟨au_blind _ _ _ _ _, fun U hU' hW => au_pre hU hP hV hU' hW⟩ rfl (by rw [List.length_reverse, au_S_len s1, List.length_reverse]; exact hn) ?_ (by rw [List.reverse_reverse]) (lv_room (by rw [au_S_cat s3]; exact hsum)) hd ⟨hm1, hm2⟩) hV ?_
  · obtain ⟨lv, h1, -⟩ := hL
    show ls.size = K.2.2.1
    rw [h1.1, hLn]
  · intro rv M' ad' Lv' H1 locs1 cv q1 q2 q3 q4 q5
    match rv, cv, q1 with
    | none, none, _ => exact kk M' q2 p e s m args below meth c ad0 ad' Lv0 Lv' H1 ls _ locs1 X hm q4 hLn (hL.ext q3) (s3.ext q3) q5 (hE.tr q3)
    | some v, some w, q1 => exact absurd q2 (hnone v M')
end AUDN
