/-! LISTS AND INTEGERS of the JDK; calls of sums and askings (printed by tools/m38.py) -/
set_option maxRecDepth 100000
set_option maxHeartbeats 4000000
theorem au_reg_o {n len k : Nat} (h : 1126 ≤ n) (hk : (k == 40) = false) (j : Int) : au_reg (n, len, k) j = 2 := by
  unfold au_reg
  rw [if_neg (by simp; omega)]
  simp only [hk]
  rfl
theorem kJ3_size (G : au_G) (p q c n : Nat) (mi si hi sl : au_A → Int → Int) (r : au_A → Int → Option au_A) (nx : Nat) (hl : LsAt r hi p q c n) : au_Ctr G yJ3_size cJ3_size 1 (some .int) 0 0 0 [au_r (p, 0, 17)] (mi, si, hi, sl, r, nx) (au_pure (au_i (n : Int)) (mi, si, hi, sl, r, nx)) := by
  refine au_of (by decide) (Nat.le_of_ble_eq_true rfl) ?_
  obtain ⟨hl1, hl2, hl3, hl4, hl5⟩ := hl
  show au_Go G _ _ 0 [some (au_r (p, 0, 17))] [] (mi, si, hi, sl, r, nx) 0 0
  refine au_aload_n dJ3_size_0 rfl ?_
  refine au_getf (C := RJ3) (T := TJ3) (N := 3) in_J3 (show 17 < 40 by decide) rfl 2 (by decide) rfl rfl q385 rfl dJ3_size_1 (v := au_i ((n : Int))) (congrArg au_i ((au_gi_h (au_reg_o hl1 (by decide) _)).trans hl3)) ?_
  exact au_iret dJ3_size_4 rfl rfl (Nat.le_of_ble_eq_true rfl) (Nat.le_of_ble_eq_true rfl) (⟨rfl, rfl⟩)
theorem kJ15_intValue (G : au_G) (s : Int) (mi si hi sl : au_A → Int → Int) (r : au_A → Int → Option au_A) (nx : Nat) (hIC : ICm mi) (h0 : -128 ≤ s) (h1 : s ≤ 127) : au_Ctr G yJ15_intValue cJ15_intValue 1 (some .int) 0 0 0 [au_r (ic s)] (mi, si, hi, sl, r, nx) (au_pure (au_i s) (mi, si, hi, sl, r, nx)) := by
  refine au_of (by decide) (Nat.le_of_ble_eq_true rfl) ?_
  show au_Go G _ _ 0 [some (au_r (ic s))] [] (mi, si, hi, sl, r, nx) 0 0
  refine au_aload_n dJ15_intValue_0 rfl ?_
  refine au_getK (a := ic s) (v := au_i s) (ic_ok h0 h1) (au_old.icv h0 h1) ⟨by omega, by omega⟩ rfl q831 dJ15_intValue_1 ?_
  exact au_iret dJ15_intValue_4 rfl rfl (Nat.le_of_ble_eq_true rfl) (Nat.le_of_ble_eq_true rfl) (⟨rfl, rfl⟩)
theorem kJ6_checkIndex (G : au_G) (j n : Int) (M : au_M) (h0 : 0 ≤ j) (h1 : j < n) : au_Ctr G yJ6_checkIndex cJ6_checkIndex 3 (some .int) 0 0 0 [au_i j, au_i n, au_n] M (au_pure (au_i j) M) := by
  refine au_of (by decide) (Nat.le_of_ble_eq_true rfl) ?_
  show au_Go G _ _ 0 [some (au_i j), some (au_i n), some (au_n)] [] M 0 0
  refine au_iload_n dJ6_checkIndex_0 rfl ?_
  refine au_if_lt (tgt := 9) dJ6_checkIndex_1 (by decide) (fun c1 => ?_) (fun c1 => ?_)
  · exfalso; omega
  · refine au_iload_n dJ6_checkIndex_4 rfl ?_
    refine au_iload_n dJ6_checkIndex_5 rfl ?_
    refine au_icmp_lt (tgt := 16) dJ6_checkIndex_6 (by decide) (fun c6 => ?_) (fun c6 => ?_)
    · refine au_iload_n dJ6_checkIndex_16 rfl ?_
      exact au_iret dJ6_checkIndex_17 rfl rfl (Nat.le_of_ble_eq_true rfl) (Nat.le_of_ble_eq_true rfl) (⟨rfl, rfl⟩)
    · exfalso; omega
theorem kJ13_checkIndex (G : au_G) (j n : Int) (M : au_M) (h0 : 0 ≤ j) (h1 : j < n) : au_Ctr G yJ13_checkIndex cJ13_checkIndex 2 (some .int) 1 0 0 [au_i j, au_i n] M (au_pure (au_i j) M) := by
  refine au_of (by decide) (Nat.le_of_ble_eq_true rfl) ?_
  show au_Go G _ _ 0 [some (au_i j), some (au_i n)] [] M 0 0
  refine au_iload_n dJ13_checkIndex_0 rfl ?_
  refine au_iload_n dJ13_checkIndex_1 rfl ?_
  refine au_null dJ13_checkIndex_2 ?_
  refine au_callSp (n := 3) (kJ6_checkIndex G j n _ h0 h1) (lw_S q699 q450 q142 q451) (by decide +kernel) rfl rfl rfl (Nat.le_of_ble_eq_true rfl) (Nat.le_of_ble_eq_true rfl) (Nat.le_of_ble_eq_true rfl) (Nat.le_of_ble_eq_true rfl) (Nat.le_of_ble_eq_true rfl) dJ13_checkIndex_3 ?_
  exact au_iret dJ13_checkIndex_6 rfl rfl (Nat.le_of_ble_eq_true rfl) (Nat.le_of_ble_eq_true rfl) (⟨rfl, rfl⟩)
theorem kJ3_elementData (G : au_G) (p q c n : Nat) (j : Int) (s : au_A) (mi si hi sl : au_A → Int → Int) (r : au_A → Int → Option au_A) (nx : Nat) (hl : LsAt r hi p q c n) (h0 : 0 ≤ j) (h1 : j < (n : Int)) (hs : r (q, c, 45) j = some s) : au_Ctr G yJ3_elementData cJ3_elementData 2 (some (.object "java/lang/Object")) 0 0 0 [au_r (p, 0, 17), au_i j] (mi, si, hi, sl, r, nx) (au_pure (au_r s) (mi, si, hi, sl, r, nx)) := by
  refine au_of (by decide) (Nat.le_of_ble_eq_true rfl) ?_
  have hl0 := hl
  obtain ⟨hl1, hl2, hl3, hl4, hl5⟩ := hl
  show au_Go G _ _ 0 [some (au_r (p, 0, 17)), some (au_i j)] [] (mi, si, hi, sl, r, nx) 0 0
  refine au_aload_n dJ3_elementData_0 rfl ?_
  refine au_getf (C := RJ3) (T := TJ3) (N := 3) in_J3 (show 17 < 40 by decide) rfl 1 (by decide) rfl rfl q384 rfl dJ3_elementData_1 (v := au_r (q, c, 45)) (congrArg au_q (hl2)) ?_
  refine au_iload_n dJ3_elementData_4 rfl ?_
  refine au_aald dJ3_elementData_5 (show 44 ≤ 45 by decide) (show 45 ≤ 48 by decide) (by omega) (by show _ < ((c : Nat) : Int); omega) (v := au_r s) (congrArg au_q (hs)) ?_
  exact au_aret dJ3_elementData_6 rfl (Or.inl ⟨_, rfl⟩) rfl (Nat.le_of_ble_eq_true rfl) (Nat.le_of_ble_eq_true rfl) (⟨rfl, rfl⟩)
theorem kJ3_get (G : au_G) (p q c n : Nat) (j : Int) (s : au_A) (mi si hi sl : au_A → Int → Int) (r : au_A → Int → Option au_A) (nx : Nat) (hl : LsAt r hi p q c n) (h0 : 0 ≤ j) (h1 : j < (n : Int)) (hs : r (q, c, 45) j = some s) : au_Ctr G yJ3_get cJ3_get 2 (some (.object "java/lang/Object")) 2 0 0 [au_r (p, 0, 17), au_i j] (mi, si, hi, sl, r, nx) (au_pure (au_r s) (mi, si, hi, sl, r, nx)) := by
  refine au_of (by decide) (Nat.le_of_ble_eq_true rfl) ?_
  obtain ⟨hl1, hl2, hl3, hl4, hl5⟩ := id hl
  show au_Go G _ _ 0 [some (au_r (p, 0, 17)), some (au_i j)] [] (mi, si, hi, sl, r, nx) 0 0
  refine au_iload_n dJ3_get_0 rfl ?_
  refine au_aload_n dJ3_get_1 rfl ?_
  refine au_getf (C := RJ3) (T := TJ3) (N := 3) in_J3 (show 17 < 40 by decide) rfl 2 (by decide) rfl rfl q385 rfl dJ3_get_2 (v := au_i ((n : Int))) (congrArg au_i ((au_gi_h (au_reg_o hl1 (by decide) _)).trans hl3)) ?_
  refine au_callSp (n := 2) (kJ13_checkIndex G j (n : Int) _ (by omega) (by omega)) (lw_S q696 q697 q154 q698) (by decide +kernel) rfl rfl rfl (Nat.le_of_ble_eq_true rfl) (Nat.le_of_ble_eq_true rfl) (Nat.le_of_ble_eq_true rfl) (Nat.le_of_ble_eq_true rfl) (Nat.le_of_ble_eq_true rfl) dJ3_get_5 ?_
  refine au_pop dJ3_get_8 rfl ?_
  refine au_aload_n dJ3_get_9 rfl ?_
  refine au_iload_n dJ3_get_10 rfl ?_
  refine au_callVp (n := 1) (kJ3_elementData G p q c n j s mi si hi sl r nx hl h0 h1 hs) (lw_V q700 q701 q702 q139 q703) rfl (by decide +kernel) (show 17 < 40 by decide) (T := TJ3) (N := 3) rfl rfl rfl rfl (Nat.le_of_ble_eq_true rfl) (Nat.le_of_ble_eq_true rfl) (Nat.le_of_ble_eq_true rfl) (Nat.le_of_ble_eq_true rfl) (Nat.le_of_ble_eq_true rfl) dJ3_get_11 ?_
  exact au_aret dJ3_get_14 rfl (Or.inl ⟨_, rfl⟩) rfl (Nat.le_of_ble_eq_true rfl) (Nat.le_of_ble_eq_true rfl) (⟨rfl, rfl⟩)
def yS_of : MethodName := ⟨"ApologyUp$Sum", "of", "([I)J"⟩
def yA_is : MethodName := ⟨"ApologyUp$Asked", "is", "([I)Z"⟩
theorem fw_X6 : au_fw RX6 yS_of yX6_of := ⟨⟨by decide, by decide⟩, q933, q932, q938, q936, q934⟩
theorem fw_X7 : au_fw RX7 yS_of yX7_of := ⟨⟨by decide, by decide⟩, q933, q932, q997, q995, q993⟩
theorem fw_X11 : au_fw RX11 yS_of yX11_of := ⟨⟨by decide, by decide⟩, q933, q932, q954, q952, q950⟩
theorem fw_X12 : au_fw RX12 yS_of yX12_of := ⟨⟨by decide, by decide⟩, q933, q932, q946, q944, q942⟩
theorem fw_X13 : au_fw RX13 yS_of yX13_of := ⟨⟨by decide, by decide⟩, q933, q932, q991, q989, q987⟩
theorem fw_X14 : au_fw RX14 yS_of yX14_of := ⟨⟨by decide, by decide⟩, q933, q932, q1003, q1001, q999⟩
theorem fw_X15 : au_fw RX15 yS_of yX15_of := ⟨⟨by decide, by decide⟩, q933, q932, q983, q981, q979⟩
theorem fw_X8 : au_fw RX8 yA_is yX8_is := ⟨⟨by decide, by decide⟩, q959, q958, q1012, q1010, q1008⟩
theorem fw_X9 : au_fw RX9 yA_is yX9_is := ⟨⟨by decide, by decide⟩, q959, q958, q975, q973, q971⟩
theorem fw_X10 : au_fw RX10 yA_is yX10_is := ⟨⟨by decide, by decide⟩, q959, q958, q964, q962, q960⟩
/-- an object answers, asked through its interface, to names -/
def au_SC (G : au_G) (a : au_A) (d : Nat) (M : au_M) (v : Int) : Prop := ∀ (K : au_K) (Qf : au_Qf) (pc : Nat) (L : List (Option au_V)) (st : List au_V) (ck cs index count : Nat), Cond.methodLink K.1 index yS_of ∈ lw_all → decode K.2.1 pc = .ok (.invokeinterface index count, 5) → (st.map au_cat).sum ≤ 8 → d + 1 ≤ K.2.2.2.2.1.frames → 29 + 80 * d ≤ K.2.2.2.2.1.locals → ck ≤ K.2.2.2.2.1.cells → cs ≤ K.2.2.2.2.1.slots → au_Go G K Qf (pc + 5) L (au_l v :: st) M ck cs → au_Go G K Qf pc L (au_r XNames :: au_r a :: st) M ck cs
theorem au_SC_of {G : au_G} {a : au_A} {d : Nat} {M : au_M} {v : Int} {C : String} {T : u_T} {N : Nat} {y : MethodName} {bytes : ByteArray} {maxL : Nat} (hC : au_Ctr G y bytes maxL (some .long) d 0 0 [au_r a, au_r XNames] M (au_pure (au_l v) M)) (hfw : au_fw C yS_of y) (h2 : Cond.selects C yS_of y ∈ lw_all) (h3 : Cond.instanceMethod y ∈ lw_all) (h4 : Cond.initialized y.cls ∈ lw_all) (h5 : Cond.code y bytes maxL (some .long) ∈ lw_all) (hk : a.2.2 < 40) (hc : au_cl[a.2.2]? = some (C, T, N)) (hm : maxL ≤ 10) : au_SC G a d M v := by
  intro K Qf pc L st ck cs index count hq hd hs h6 h7 h8 h9 kk
  exact au_callFp (n := 1) hC (lw_F' hq h2 h3 h4 h5) hfw (by decide +kernel) hk hc rfl rfl rfl hs h6 (by omega) h8 h9 hd kk
/-- an object answers, asked through its interface, to names -/
def au_AC (G : au_G) (a : au_A) (d : Nat) (M : au_M) (v : Int) : Prop := ∀ (K : au_K) (Qf : au_Qf) (pc : Nat) (L : List (Option au_V)) (st : List au_V) (ck cs index count : Nat), Cond.methodLink K.1 index yA_is ∈ lw_all → decode K.2.1 pc = .ok (.invokeinterface index count, 5) → (st.map au_cat).sum ≤ 8 → d + 1 ≤ K.2.2.2.2.1.frames → 29 + 80 * d ≤ K.2.2.2.2.1.locals → ck ≤ K.2.2.2.2.1.cells → cs ≤ K.2.2.2.2.1.slots → au_Go G K Qf (pc + 5) L (au_i v :: st) M ck cs → au_Go G K Qf pc L (au_r XNames :: au_r a :: st) M ck cs
theorem au_AC_of {G : au_G} {a : au_A} {d : Nat} {M : au_M} {v : Int} {C : String} {T : u_T} {N : Nat} {y : MethodName} {bytes : ByteArray} {maxL : Nat} (hC : au_Ctr G y bytes maxL (some .boolean) d 0 0 [au_r a, au_r XNames] M (au_pure (au_i v) M)) (hfw : au_fw C yA_is y) (h2 : Cond.selects C yA_is y ∈ lw_all) (h3 : Cond.instanceMethod y ∈ lw_all) (h4 : Cond.initialized y.cls ∈ lw_all) (h5 : Cond.code y bytes maxL (some .boolean) ∈ lw_all) (hk : a.2.2 < 40) (hc : au_cl[a.2.2]? = some (C, T, N)) (hm : maxL ≤ 10) : au_AC G a d M v := by
  intro K Qf pc L st ck cs index count hq hd hs h6 h7 h8 h9 kk
  exact au_callFp (n := 1) hC (lw_F' hq h2 h3 h4 h5) hfw (by decide +kernel) hk hc rfl rfl rfl hs h6 (by omega) h8 h9 hd kk
theorem au_castSum {G : au_G} {K : au_K} {Qf : au_Qf} {pc : Nat} {L : List (Option au_V)} {st : List au_V} {M : au_M} {ck cs index : Nat} {a : au_A} (hs : sk a) (hq : Cond.classLink K.1 index "ApologyUp$Sum" ∈ lw_all) (hd : decode K.2.1 pc = .ok (.checkcast index, 3)) (kk : au_Go G K Qf (pc + 3) L (au_r a :: st) M ck cs) : au_Go G K Qf pc L (au_r a :: st) M ck cs := by
  unfold sk at hs
  rcases hs with h | h | h | h | h | h | h
  · exact au_castY (T := TX6) (N := 3) fw_X6 rfl (by omega) (by rw [h]; rfl) rfl hq hd kk
  · exact au_castY (T := TX7) (N := 1) fw_X7 rfl (by omega) (by rw [h]; rfl) rfl hq hd kk
  · exact au_castY (T := TX11) (N := 3) fw_X11 rfl (by omega) (by rw [h]; rfl) rfl hq hd kk
  · exact au_castY (T := TX12) (N := 2) fw_X12 rfl (by omega) (by rw [h]; rfl) rfl hq hd kk
  · exact au_castY (T := TX13) (N := 1) fw_X13 rfl (by omega) (by rw [h]; rfl) rfl hq hd kk
  · exact au_castY (T := TX14) (N := 1) fw_X14 rfl (by omega) (by rw [h]; rfl) rfl hq hd kk
  · exact au_castY (T := TX15) (N := 1) fw_X15 rfl (by omega) (by rw [h]; rfl) rfl hq hd kk
theorem au_castAsk {G : au_G} {K : au_K} {Qf : au_Qf} {pc : Nat} {L : List (Option au_V)} {st : List au_V} {M : au_M} {ck cs index : Nat} {a : au_A} (hs : ak a) (hq : Cond.classLink K.1 index "ApologyUp$Asked" ∈ lw_all) (hd : decode K.2.1 pc = .ok (.checkcast index, 3)) (kk : au_Go G K Qf (pc + 3) L (au_r a :: st) M ck cs) : au_Go G K Qf pc L (au_r a :: st) M ck cs := by
  unfold ak at hs
  rcases hs with h | h | h
  · exact au_castY (T := TX8) (N := 1) fw_X8 rfl (by omega) (by rw [h]; rfl) rfl hq hd kk
  · exact au_castY (T := TX9) (N := 3) fw_X9 rfl (by omega) (by rw [h]; rfl) rfl hq hd kk
  · exact au_castY (T := TX10) (N := 2) fw_X10 rfl (by omega) (by rw [h]; rfl) rfl hq hd kk
