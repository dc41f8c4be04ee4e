/-! java.lang.Math (printed by tools/m20.py) -/
set_option maxRecDepth 100000
set_option maxHeartbeats 4000000
section AUX
variable {G : au_G} {K : au_K} {Qf : au_Qf} {pc : Nat} {L : List (Option au_V)} {st : List au_V} {M : au_M} {ck cs : Nat}
theorem au_mmax {own : String} {index : Nat} {x y : Int} {bytes : ByteArray} (hq : (Cond.methodLink own index Lib.Math.max.name) ∈ lw_all) (hst : (Cond.static Lib.Math.max.name) ∈ lw_all) (hini : (Cond.initialized "java/lang/Math") ∈ lw_all) (hcd : (Cond.code Lib.Math.max.name bytes 2 (some .int)) ∈ lw_all) (hby : bytes = Lib.Math.max.code) (ho : K.1 = own) (hsum : (st.map au_cat).sum ≤ 8) (hR1 : 1 ≤ K.2.2.2.2.1.frames) (hR2 : 80 ≤ K.2.2.2.2.1.locals) (hm1 : ck ≤ K.2.2.2.2.1.cells) (hm2 : cs ≤ K.2.2.2.2.1.slots) (hd : decode K.2.1 pc = .ok (.invokestatic index, 3)) (kk : au_Go G K Qf (pc + 3) L (au_i (max x y) :: st) M ck cs) : au_Go G K Qf pc L (au_i y :: au_i x :: st) M ck cs := by
  intro p e s m args below meth c ad0 ad Lv0 Lv H ls cst locs X hm hP hLn hL hS hV hE
  obtain ⟨j, ct, rfl, ej, hS1⟩ := au_S_i hS
  obtain ⟨i, ct, rfl, ei, hS2⟩ := au_S_i hS1
  subst ei; subst ej; subst ho; subst hby
  have hts := X.2.2.2.2.2.2.1
  have hc := au_S_cat hS2
  refine va_mmax X.1 X.2.1 ?_ X.2.2.2.2.2.1 (hts _ hq) (hts _ hst) (hts _ hini) (hts _ hcd) hR1 (by omega) hm1 hm2 hd (kk p e s m args below meth c ad0 ad Lv0 Lv H ls _ locs X hm hP hLn hL ⟨au_ri ?_, hS2⟩ hV hE)
  · obtain ⟨lv, h1, -⟩ := hL
    rw [X.2.2.1, h1.1, hLn]
  · split
    · rename_i h
      rw [Int32.lt_iff_toInt_lt] at h
      omega
    · rename_i h
      rw [Int32.lt_iff_toInt_lt] at h
      omega
theorem au_mmin {own : String} {index : Nat} {x y : Int} {bytes : ByteArray} (hq : (Cond.methodLink own index Lib.Math.min.name) ∈ lw_all) (hst : (Cond.static Lib.Math.min.name) ∈ lw_all) (hini : (Cond.initialized "java/lang/Math") ∈ lw_all) (hcd : (Cond.code Lib.Math.min.name bytes 2 (some .int)) ∈ lw_all) (hby : bytes = Lib.Math.min.code) (ho : K.1 = own) (hsum : (st.map au_cat).sum ≤ 8) (hR1 : 1 ≤ K.2.2.2.2.1.frames) (hR2 : 80 ≤ K.2.2.2.2.1.locals) (hm1 : ck ≤ K.2.2.2.2.1.cells) (hm2 : cs ≤ K.2.2.2.2.1.slots) (hd : decode K.2.1 pc = .ok (.invokestatic index, 3)) (kk : au_Go G K Qf (pc + 3) L (au_i (min x y) :: st) M ck cs) : au_Go G K Qf pc L (au_i y :: au_i x :: st) M ck cs := by
  intro p e s m args below meth c ad0 ad Lv0 Lv H ls cst locs X hm hP hLn hL hS hV hE
  obtain ⟨j, ct, rfl, ej, hS1⟩ := au_S_i hS
  obtain ⟨i, ct, rfl, ei, hS2⟩ := au_S_i hS1
  subst ei; subst ej; subst ho; subst hby
  have hts := X.2.2.2.2.2.2.1
  have hc := au_S_cat hS2
  refine va_mmin X.1 X.2.1 ?_ X.2.2.2.2.2.1 (hts _ hq) (hts _ hst) (hts _ hini) (hts _ hcd) hR1 (by omega) hm1 hm2 hd (kk p e s m args below meth c ad0 ad Lv0 Lv H ls _ locs X hm hP hLn hL ⟨au_ri ?_, hS2⟩ hV hE)
  · obtain ⟨lv, h1, -⟩ := hL
    rw [X.2.2.1, h1.1, hLn]
  · split
    · rename_i h
      rw [Int32.lt_iff_toInt_lt] at h
      omega
    · rename_i h
      rw [Int32.lt_iff_toInt_lt] at h
      omega
theorem au_lmax {own : String} {index : Nat} {x y : Int} {bytes : ByteArray} (hq : (Cond.methodLink own index Lib.MathLoose.max_long.x) ∈ lw_all) (hst : (Cond.static Lib.MathLoose.max_long.x) ∈ lw_all) (hini : (Cond.initialized "java/lang/Math") ∈ lw_all) (hcd : (Cond.code Lib.MathLoose.max_long.x bytes 4 (some .long)) ∈ lw_all) (hby : bytes = Lib.MathLoose.max_long.code) (ho : K.1 = own) (hsum : (st.map au_cat).sum ≤ 8) (hR1 : 1 ≤ K.2.2.2.2.1.frames) (hR2 : 80 ≤ K.2.2.2.2.1.locals) (hm1 : ck ≤ K.2.2.2.2.1.cells) (hm2 : cs ≤ K.2.2.2.2.1.slots) (hd : decode K.2.1 pc = .ok (.invokestatic index, 3)) (kk : au_Go G K Qf (pc + 3) L (au_l (max x y) :: st) M ck cs) : au_Go G K Qf pc L (au_l y :: au_l x :: st) M ck cs := by
  intro p e s m args below meth c ad0 ad Lv0 Lv H ls cst locs X hm hP hLn hL hS hV hE
  obtain ⟨j, ct, rfl, ej, hS1⟩ := au_S_l hS
  obtain ⟨i, ct, rfl, ei, hS2⟩ := au_S_l hS1
  subst ei; subst ej; subst ho; subst hby
  have hts := X.2.2.2.2.2.2.1
  have hc := au_S_cat hS2
  refine va_mmax_long X.1 X.2.1 ?_ X.2.2.2.2.2.1 (hts _ hq) (hts _ hst) (hts _ hini) (hts _ hcd) hR1 (by omega) hm1 hm2 hd (kk p e s m args below meth c ad0 ad Lv0 Lv H ls _ locs X hm hP hLn hL ⟨au_rl ?_, hS2⟩ hV hE)
  · obtain ⟨lv, h1, -⟩ := hL
    rw [X.2.2.1, h1.1, hLn]
  · split
    · rename_i h
      rw [Int64.lt_iff_toInt_lt] at h
      omega
    · rename_i h
      rw [Int64.lt_iff_toInt_lt] at h
      omega
theorem au_lmin {own : String} {index : Nat} {x y : Int} {bytes : ByteArray} (hq : (Cond.methodLink own index Lib.MathLoose.min_long.x) ∈ lw_all) (hst : (Cond.static Lib.MathLoose.min_long.x) ∈ lw_all) (hini : (Cond.initialized "java/lang/Math") ∈ lw_all) (hcd : (Cond.code Lib.MathLoose.min_long.x bytes 4 (some .long)) ∈ lw_all) (hby : bytes = Lib.MathLoose.min_long.code) (ho : K.1 = own) (hsum : (st.map au_cat).sum ≤ 8) (hR1 : 1 ≤ K.2.2.2.2.1.frames) (hR2 : 80 ≤ K.2.2.2.2.1.locals) (hm1 : ck ≤ K.2.2.2.2.1.cells) (hm2 : cs ≤ K.2.2.2.2.1.slots) (hd : decode K.2.1 pc = .ok (.invokestatic index, 3)) (kk : au_Go G K Qf (pc + 3) L (au_l (min x y) :: st) M ck cs) : au_Go G K Qf pc L (au_l y :: au_l x :: st) M ck cs := by
  intro p e s m args below meth c ad0 ad Lv0 Lv H ls cst locs X hm hP hLn hL hS hV hE
  obtain ⟨j, ct, rfl, ej, hS1⟩ := au_S_l hS
  obtain ⟨i, ct, rfl, ei, hS2⟩ := au_S_l hS1
  subst ei; subst ej; subst ho; subst hby
  have hts := X.2.2.2.2.2.2.1
  have hc := au_S_cat hS2
  refine va_mmin_long X.1 X.2.1 ?_ X.2.2.2.2.2.1 (hts _ hq) (hts _ hst) (hts _ hini) (hts _ hcd) hR1 (by omega) hm1 hm2 hd (kk p e s m args below meth c ad0 ad Lv0 Lv H ls _ locs X hm hP hLn hL ⟨au_rl ?_, hS2⟩ hV hE)
  · obtain ⟨lv, h1, -⟩ := hL
    rw [X.2.2.1, h1.1, hLn]
  · split
    · rename_i h
      rw [Int64.lt_iff_toInt_lt] at h
      omega
    · rename_i h
      rw [Int64.lt_iff_toInt_lt] at h
      omega
theorem au_mabs {own : String} {index : Nat} {x : Int} {bytes : ByteArray} (hq : (Cond.methodLink own index Lib.Math.abs.name) ∈ lw_all) (hst : (Cond.static Lib.Math.abs.name) ∈ lw_all) (hini : (Cond.initialized "java/lang/Math") ∈ lw_all) (hcd : (Cond.code Lib.Math.abs.name bytes 1 (some .int)) ∈ lw_all) (hby : bytes = Lib.Math.abs.code) (ho : K.1 = own) (hsum : (st.map au_cat).sum ≤ 8) (hR1 : 1 ≤ K.2.2.2.2.1.frames) (hR2 : 80 ≤ K.2.2.2.2.1.locals) (hm1 : ck ≤ K.2.2.2.2.1.cells) (hm2 : cs ≤ K.2.2.2.2.1.slots) (hd : decode K.2.1 pc = .ok (.invokestatic index, 3)) (hx : -2147483648 < x) (kk : au_Go G K Qf (pc + 3) L (au_i (max x (-x)) :: st) M ck cs) : au_Go G K Qf pc L (au_i x :: st) M ck cs := by
  intro p e s m args below meth c ad0 ad Lv0 Lv H ls cst locs X hm hP hLn hL hS hV hE
  obtain ⟨i, ct, rfl, ei, hS1⟩ := au_S_i hS
  subst ei; subst ho; subst hby
  have hts := X.2.2.2.2.2.2.1
  have hc := au_S_cat hS1
  refine va_mabs X.1 X.2.1 ?_ X.2.2.2.2.2.1 (hts _ hq) (hts _ hst) (hts _ hini) (hts _ hcd) hR1 (by omega) hm1 hm2 hd (kk p e s m args below meth c ad0 ad Lv0 Lv H ls _ locs X hm hP hLn hL ⟨au_ri ?_, hS1⟩ hV hE)
  · obtain ⟨lv, h1, -⟩ := hL
    rw [X.2.2.1, h1.1, hLn]
  · split
    · rename_i h
      rw [Int32.le_iff_toInt_le, Int32.toInt_zero] at h
      omega
    · rename_i h
      rw [Int32.le_iff_toInt_le, Int32.toInt_zero] at h
      rw [Int32.toInt_sub, Int32.toInt_zero, Int.zero_sub]
      have := Int32.toInt_lt i
      rw [show (-i.toInt).bmod (2 ^ 32) = -i.toInt from au_w_id (by omega) (by omega)]
      omega
end AUX
