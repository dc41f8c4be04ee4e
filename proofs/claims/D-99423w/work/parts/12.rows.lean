/-! ROWS: one lemma an instruction, over au_Go (printed by tools/gen_rows.py) -/
set_option maxRecDepth 100000
def au_and (x y : Int) : Int := (Int32.ofInt x &&& Int32.ofInt y).toInt
def au_or (x y : Int) : Int := (Int32.ofInt x ||| Int32.ofInt y).toInt
def au_shl (x y : Int) : Int := (Int32.ofInt x <<< (Int32.ofInt y &&& 31)).toInt
def au_shr (x y : Int) : Int := (Int32.ofInt x >>> (Int32.ofInt y &&& 31)).toInt
def au_ushr (x y : Int) : Int := (((Int32.ofInt x).toUInt32 >>> ((Int32.ofInt y).toUInt32 &&& Int32.toUInt32 31)).toInt32).toInt
def au_w (z : Int) : Int := z.bmod 4294967296
def au_wl (z : Int) : Int := z.bmod 18446744073709551616
def au_lshl (x y : Int) : Int := (Int64.ofInt x <<< ((Int32.ofInt y).toInt64 &&& 63)).toInt
def au_lshr (x y : Int) : Int := (Int64.ofInt x >>> ((Int32.ofInt y).toInt64 &&& 63)).toInt
def au_lor (x y : Int) : Int := (Int64.ofInt x ||| Int64.ofInt y).toInt
def au_i2b (x : Int) : Int := (Int32.ofInt x).toInt8.toInt32.toInt
def au_i2c (x : Int) : Int := ((Int32.ofInt x).toUInt32 % 65536).toInt32.toInt
def au_cmp (x y : Int) : Int := if y < x then 1 else if x = y then 0 else -1
theorem au_of32 (i : Int32) : Int32.ofInt i.toInt = i := Int32.ofInt_toInt i
theorem au_of64 (i : Int64) : Int64.ofInt i.toInt = i := Int64.ofInt_toInt i
theorem au_w_id {z : Int} (h1 : -2147483648 ≤ z) (h2 : z < 2147483648) : au_w z = z := by
  unfold au_w
  rw [Int.bmod_def]
  split <;> omega
theorem au_wl_id {z : Int} (h1 : -9223372036854775808 ≤ z) (h2 : z < 9223372036854775808) : au_wl z = z := by
  unfold au_wl
  rw [Int.bmod_def]
  split <;> omega
theorem au_toIntOf {z : Int} (h1 : -2147483648 ≤ z) (h2 : z < 2147483648) : (Int32.ofInt z).toInt = z := by
  rw [Int32.toInt_ofInt]
  exact au_w_id h1 h2
theorem au_toIntOf64 {z : Int} (h1 : -9223372036854775808 ≤ z) (h2 : z < 9223372036854775808) : (Int64.ofInt z).toInt = z := by
  rw [Int64.toInt_ofInt]
  exact au_wl_id h1 h2
theorem au_ri {ad : au_A → Nat} {Lv : au_A → Prop} {i : Int32} {x : Int} (e : i.toInt = x) : au_rel ad Lv (au_i x) (.int i) := ⟨i, rfl, e⟩
theorem au_rl {ad : au_A → Nat} {Lv : au_A → Prop} {i : Int64} {x : Int} (e : i.toInt = x) : au_rel ad Lv (au_l x) (.long i) := ⟨i, rfl, e⟩
theorem au_rr {ad : au_A → Nat} {Lv : au_A → Prop} {a : au_A} (e : Lv a) : au_rel ad Lv (au_r a) (.ref (ad a)) := ⟨rfl, e⟩
section AUR
variable {G : au_G} {K : au_K} {Qf : au_Qf} {pc : Nat} {L : List (Option au_V)} {st : List au_V} {M : au_M} {ck cs : Nat}
theorem au_iload_n {k : Fin 4} {x : Int} (hd : decode K.2.1 pc = .ok (.iload_n k, 1)) (hl : au_get L k = some (au_i x)) (kk : au_Go G K Qf (pc + 1) L (au_i x :: st) M ck cs) : au_Go G K Qf pc L st M ck cs := by
  intro p e s m args below meth c ad0 ad Lv0 Lv H ls cst locs X hm hP hLn hL hS hV hE
  obtain ⟨c1, h1, ⟨i, rfl, e1⟩⟩ := hL.at hl
  exact lv_iload_n X.1 X.2.1 hd rfl h1 (kk p e s m args below meth c ad0 ad Lv0 Lv H ls _ locs X hm hP hLn hL ⟨au_ri e1, hS⟩ hV hE)
theorem au_iload {k : Nat} {x : Int} (hd : decode K.2.1 pc = .ok (.iload k, 2)) (hl : au_get L k = some (au_i x)) (kk : au_Go G K Qf (pc + 2) L (au_i x :: st) M ck cs) : au_Go G K Qf pc L st M ck cs := by
  intro p e s m args below meth c ad0 ad Lv0 Lv H ls cst locs X hm hP hLn hL hS hV hE
  obtain ⟨c1, h1, ⟨i, rfl, e1⟩⟩ := hL.at hl
  exact lv_iload X.1 X.2.1 hd h1 (kk p e s m args below meth c ad0 ad Lv0 Lv H ls _ locs X hm hP hLn hL ⟨au_ri e1, hS⟩ hV hE)
theorem au_lload_n {k : Fin 4} {x : Int} (hd : decode K.2.1 pc = .ok (.lload_n k, 1)) (hl : au_get L k = some (au_l x)) (kk : au_Go G K Qf (pc + 1) L (au_l x :: st) M ck cs) : au_Go G K Qf pc L st M ck cs := by
  intro p e s m args below meth c ad0 ad Lv0 Lv H ls cst locs X hm hP hLn hL hS hV hE
  obtain ⟨c1, h1, ⟨i, rfl, e1⟩⟩ := hL.at hl
  exact lv_lload_n X.1 X.2.1 hd rfl h1 (kk p e s m args below meth c ad0 ad Lv0 Lv H ls _ locs X hm hP hLn hL ⟨au_rl e1, hS⟩ hV hE)
theorem au_lload {k : Nat} {x : Int} (hd : decode K.2.1 pc = .ok (.lload k, 2)) (hl : au_get L k = some (au_l x)) (kk : au_Go G K Qf (pc + 2) L (au_l x :: st) M ck cs) : au_Go G K Qf pc L st M ck cs := by
  intro p e s m args below meth c ad0 ad Lv0 Lv H ls cst locs X hm hP hLn hL hS hV hE
  obtain ⟨c1, h1, ⟨i, rfl, e1⟩⟩ := hL.at hl
  exact lv_lload X.1 X.2.1 hd h1 (kk p e s m args below meth c ad0 ad Lv0 Lv H ls _ locs X hm hP hLn hL ⟨au_rl e1, hS⟩ hV hE)
theorem au_aload_n {k : Fin 4} {x : au_A} (hd : decode K.2.1 pc = .ok (.aload_n k, 1)) (hl : au_get L k = some (au_r x)) (kk : au_Go G K Qf (pc + 1) L (au_r x :: st) M ck cs) : au_Go G K Qf pc L st M ck cs := by
  intro p e s m args below meth c ad0 ad Lv0 Lv H ls cst locs X hm hP hLn hL hS hV hE
  obtain ⟨c1, h1, ⟨rfl, e1⟩⟩ := hL.at hl
  exact lv_aload_n X.1 X.2.1 hd rfl h1 (kk p e s m args below meth c ad0 ad Lv0 Lv H ls _ locs X hm hP hLn hL ⟨au_rr e1, hS⟩ hV hE)
theorem au_aload {k : Nat} {x : au_A} (hd : decode K.2.1 pc = .ok (.aload k, 2)) (hl : au_get L k = some (au_r x)) (kk : au_Go G K Qf (pc + 2) L (au_r x :: st) M ck cs) : au_Go G K Qf pc L st M ck cs := by
  intro p e s m args below meth c ad0 ad Lv0 Lv H ls cst locs X hm hP hLn hL hS hV hE
  obtain ⟨c1, h1, ⟨rfl, e1⟩⟩ := hL.at hl
  exact lv_aload X.1 X.2.1 hd h1 (kk p e s m args below meth c ad0 ad Lv0 Lv H ls _ locs X hm hP hLn hL ⟨au_rr e1, hS⟩ hV hE)
theorem au_istore_n {k : Fin 4} {x : Int} (hd : decode K.2.1 pc = .ok (.istore_n k, 1)) (hk : (k : Nat) < K.2.2.1) (kk : au_Go G K Qf (pc + 1) (au_st1 L k (au_i x)) st M ck cs) : au_Go G K Qf pc L (au_i x :: st) M ck cs := by
  intro p e s m args below meth c ad0 ad Lv0 Lv H ls cst locs X hm hP hLn hL hS hV hE
  obtain ⟨i, ct, rfl, e1, hS1⟩ := au_S_i hS
  obtain ⟨lv, h1, h2⟩ := hL
  rw [hLn] at h1
  exact lv_istore_n X.1 X.2.1 hd rfl h1 hk rfl (fun ls' h' => kk p e s m args below meth c ad0 ad Lv0 Lv H ls' _ locs X hm hP (by rw [au_st1, au_put_len, au_kl_len]; exact hLn) (au_Lr.st1 hLn h2 (au_ri e1) h') hS1 hV hE)
theorem au_istore {k : Nat} {x : Int} (hd : decode K.2.1 pc = .ok (.istore k, 2)) (hk : (k : Nat) < K.2.2.1) (kk : au_Go G K Qf (pc + 2) (au_st1 L k (au_i x)) st M ck cs) : au_Go G K Qf pc L (au_i x :: st) M ck cs := by
  intro p e s m args below meth c ad0 ad Lv0 Lv H ls cst locs X hm hP hLn hL hS hV hE
  obtain ⟨i, ct, rfl, e1, hS1⟩ := au_S_i hS
  obtain ⟨lv, h1, h2⟩ := hL
  rw [hLn] at h1
  exact lv_istore X.1 X.2.1 hd h1 hk rfl (fun ls' h' => kk p e s m args below meth c ad0 ad Lv0 Lv H ls' _ locs X hm hP (by rw [au_st1, au_put_len, au_kl_len]; exact hLn) (au_Lr.st1 hLn h2 (au_ri e1) h') hS1 hV hE)
theorem au_astore_n {k : Fin 4} {x : au_A} (hd : decode K.2.1 pc = .ok (.astore_n k, 1)) (hk : (k : Nat) < K.2.2.1) (kk : au_Go G K Qf (pc + 1) (au_st1 L k (au_r x)) st M ck cs) : au_Go G K Qf pc L (au_r x :: st) M ck cs := by
  intro p e s m args below meth c ad0 ad Lv0 Lv H ls cst locs X hm hP hLn hL hS hV hE
  obtain ⟨ct, rfl, e1, hS1⟩ := au_S_r hS
  obtain ⟨lv, h1, h2⟩ := hL
  rw [hLn] at h1
  exact lv_astore_n X.1 X.2.1 hd rfl h1 hk rfl (fun ls' h' => kk p e s m args below meth c ad0 ad Lv0 Lv H ls' _ locs X hm hP (by rw [au_st1, au_put_len, au_kl_len]; exact hLn) (au_Lr.st1 hLn h2 (au_rr e1) h') hS1 hV hE)
theorem au_astore {k : Nat} {x : au_A} (hd : decode K.2.1 pc = .ok (.astore k, 2)) (hk : (k : Nat) < K.2.2.1) (kk : au_Go G K Qf (pc + 2) (au_st1 L k (au_r x)) st M ck cs) : au_Go G K Qf pc L (au_r x :: st) M ck cs := by
  intro p e s m args below meth c ad0 ad Lv0 Lv H ls cst locs X hm hP hLn hL hS hV hE
  obtain ⟨ct, rfl, e1, hS1⟩ := au_S_r hS
  obtain ⟨lv, h1, h2⟩ := hL
  rw [hLn] at h1
  exact lv_astore X.1 X.2.1 hd h1 hk rfl (fun ls' h' => kk p e s m args below meth c ad0 ad Lv0 Lv H ls' _ locs X hm hP (by rw [au_st1, au_put_len, au_kl_len]; exact hLn) (au_Lr.st1 hLn h2 (au_rr e1) h') hS1 hV hE)
theorem au_lstore_n {k : Fin 4} {x : Int} (hd : decode K.2.1 pc = .ok (.lstore_n k, 1)) (hk : (k : Nat) + 1 < K.2.2.1) (kk : au_Go G K Qf (pc + 1) (au_st2 L k (au_l x)) st M ck cs) : au_Go G K Qf pc L (au_l x :: st) M ck cs := by
  intro p e s m args below meth c ad0 ad Lv0 Lv H ls cst locs X hm hP hLn hL hS hV hE
  obtain ⟨i, ct, rfl, e1, hS1⟩ := au_S_l hS
  obtain ⟨lv, h1, h2⟩ := hL
  rw [hLn] at h1
  exact lv_lstore_n X.1 X.2.1 hd rfl h1 hk rfl (fun ls' h' => kk p e s m args below meth c ad0 ad Lv0 Lv H ls' _ locs X hm hP (by rw [au_st2, au_put_len, au_put_len, au_kl_len]; exact hLn) (au_Lr.st2 hLn h2 (au_rl e1) hk h') hS1 hV hE)
theorem au_lstore {k : Nat} {x : Int} (hd : decode K.2.1 pc = .ok (.lstore k, 2)) (hk : (k : Nat) + 1 < K.2.2.1) (kk : au_Go G K Qf (pc + 2) (au_st2 L k (au_l x)) st M ck cs) : au_Go G K Qf pc L (au_l x :: st) M ck cs := by
  intro p e s m args below meth c ad0 ad Lv0 Lv H ls cst locs X hm hP hLn hL hS hV hE
  obtain ⟨i, ct, rfl, e1, hS1⟩ := au_S_l hS
  obtain ⟨lv, h1, h2⟩ := hL
  rw [hLn] at h1
  exact lv_lstore X.1 X.2.1 hd h1 hk rfl (fun ls' h' => kk p e s m args below meth c ad0 ad Lv0 Lv H ls' _ locs X hm hP (by rw [au_st2, au_put_len, au_put_len, au_kl_len]; exact hLn) (au_Lr.st2 hLn h2 (au_rl e1) hk h') hS1 hV hE)
theorem au_iinc {k : Nat} {n x : Int} (hd : decode K.2.1 pc = .ok (.iinc k n, 3)) (hl : au_get L k = some (au_i x)) (hk : k < K.2.2.1) (h1 : -2147483648 ≤ x + n) (h2 : x + n < 2147483648) (hn1 : -2147483648 ≤ n) (hn2 : n < 2147483648) (kk : au_Go G K Qf (pc + 3) (au_st1 L k (au_i (x + n))) st M ck cs) : au_Go G K Qf pc L st M ck cs := by
  intro p e s m args below meth c ad0 ad Lv0 Lv H ls cst locs X hm hP hLn hL hS hV hE
  obtain ⟨lv, q1, q2⟩ := hL
  obtain ⟨c1, h3, i, rfl, e1⟩ := q2 _ _ hl
  rw [hLn] at q1
  obtain ⟨j, hj⟩ := List.getElem?_of_mem h3
  refine lv_iinc X.1 X.2.1 hd q1 (k := j) hj rfl hk rfl (fun ls' h' => kk p e s m args below meth c ad0 ad Lv0 Lv H ls' _ locs X hm hP (by rw [au_st1, au_put_len, au_kl_len]; exact hLn) (au_Lr.st1 hLn q2 (au_ri ?_) h') hS hV hE)
  rw [Int32.toInt_add, e1, au_toIntOf hn1 hn2]
  exact au_w_id h1 h2
theorem au_iconst {n : Int} (hd : decode K.2.1 pc = .ok (.iconst n, 1)) {v : Int32} (h0 : (Int32.ofInt n) = v) (hv : v.toInt = n) (kk : au_Go G K Qf (pc + 1) L (au_i n :: st) M ck cs) : au_Go G K Qf pc L st M ck cs := by
  intro p e s m args below meth c ad0 ad Lv0 Lv H ls cst locs X hm hP hLn hL hS hV hE
  exact lv_iconst X.1 X.2.1 hd h0 (kk p e s m args below meth c ad0 ad Lv0 Lv H ls _ locs X hm hP hLn hL ⟨au_ri hv, hS⟩ hV hE)
theorem au_bipush {n : Int} (hd : decode K.2.1 pc = .ok (.bipush n, 2)) {v : Int32} (h0 : (Int8.ofInt n).toInt32 = v) (hv : v.toInt = n) (kk : au_Go G K Qf (pc + 2) L (au_i n :: st) M ck cs) : au_Go G K Qf pc L st M ck cs := by
  intro p e s m args below meth c ad0 ad Lv0 Lv H ls cst locs X hm hP hLn hL hS hV hE
  exact lv_bipush X.1 X.2.1 hd h0 (kk p e s m args below meth c ad0 ad Lv0 Lv H ls _ locs X hm hP hLn hL ⟨au_ri hv, hS⟩ hV hE)
theorem au_sipush {n : Int} (hd : decode K.2.1 pc = .ok (.sipush n, 3)) {v : Int32} (h0 : (Int16.ofInt n).toInt32 = v) (hv : v.toInt = n) (kk : au_Go G K Qf (pc + 3) L (au_i n :: st) M ck cs) : au_Go G K Qf pc L st M ck cs := by
  intro p e s m args below meth c ad0 ad Lv0 Lv H ls cst locs X hm hP hLn hL hS hV hE
  exact lv_sipush X.1 X.2.1 hd h0 (kk p e s m args below meth c ad0 ad Lv0 Lv H ls _ locs X hm hP hLn hL ⟨au_ri hv, hS⟩ hV hE)
theorem au_lconst {n : Fin 2} (hd : decode K.2.1 pc = .ok (.lconst n, 1)) {z : Int} (h0 : ((n : Nat) : Int) = z) (kk : au_Go G K Qf (pc + 1) L (au_l z :: st) M ck cs) : au_Go G K Qf pc L st M ck cs := by
  intro p e s m args below meth c ad0 ad Lv0 Lv H ls cst locs X hm hP hLn hL hS hV hE
  refine lv_lconst X.1 X.2.1 hd rfl (kk p e s m args below meth c ad0 ad Lv0 Lv H ls _ locs X hm hP hLn hL ⟨au_rl ?_, hS⟩ hV hE)
  subst h0
  match n with
  | 0 => rfl
  | 1 => rfl
theorem au_ldc {own : String} {n : Nat} {v : Int32} (hq : (Jvm.Cond.constant own n v) ∈ lw_all) (ho : K.1 = own) (hd : decode K.2.1 pc = .ok (.ldc n, 2)) (kk : au_Go G K Qf (pc + 2) L (au_i v.toInt :: st) M ck cs) : au_Go G K Qf pc L st M ck cs := by
  intro p e s m args below meth c ad0 ad Lv0 Lv H ls cst locs X hm hP hLn hL hS hV hE
  subst ho
  exact lv_ldc X.1 X.2.1 X.2.2.2.2.2.1 (X.2.2.2.2.2.2.1 _ hq) hd (kk p e s m args below meth c ad0 ad Lv0 Lv H ls _ locs X hm hP hLn hL ⟨au_ri rfl, hS⟩ hV hE)
theorem au_ldcw {own : String} {n : Nat} {v : Int32} (hq : (Jvm.Cond.constant own n v) ∈ lw_all) (ho : K.1 = own) (hd : decode K.2.1 pc = .ok (.ldc_w n, 3)) (kk : au_Go G K Qf (pc + 3) L (au_i v.toInt :: st) M ck cs) : au_Go G K Qf pc L st M ck cs := by
  intro p e s m args below meth c ad0 ad Lv0 Lv H ls cst locs X hm hP hLn hL hS hV hE
  subst ho
  exact lv_ldcw X.1 X.2.1 X.2.2.2.2.2.1 (X.2.2.2.2.2.2.1 _ hq) hd (kk p e s m args below meth c ad0 ad Lv0 Lv H ls _ locs X hm hP hLn hL ⟨au_ri rfl, hS⟩ hV hE)
theorem au_ldc2 {own : String} {n : Nat} {v : Int64} (hq : (Jvm.Cond.constantLong own n v) ∈ lw_all) (ho : K.1 = own) (hd : decode K.2.1 pc = .ok (.ldc2_w n, 3)) (kk : au_Go G K Qf (pc + 3) L (au_l v.toInt :: st) M ck cs) : au_Go G K Qf pc L st M ck cs := by
  intro p e s m args below meth c ad0 ad Lv0 Lv H ls cst locs X hm hP hLn hL hS hV hE
  subst ho
  exact lv_ldc2 X.1 X.2.1 X.2.2.2.2.2.1 (X.2.2.2.2.2.2.1 _ hq) hd (kk p e s m args below meth c ad0 ad Lv0 Lv H ls _ locs X hm hP hLn hL ⟨au_rl rfl, hS⟩ hV hE)
theorem au_iadd {x y : Int} (hd : decode K.2.1 pc = .ok (.iadd, 1)) (h1 : -2147483648 ≤ x + y) (h2 : x + y < 2147483648) (kk : au_Go G K Qf (pc + 1) L (au_i (x + y) :: st) M ck cs) : au_Go G K Qf pc L (au_i y :: au_i x :: st) M ck cs := by
  intro p e s m args below meth c ad0 ad Lv0 Lv H ls cst locs X hm hP hLn hL hS hV hE
  obtain ⟨j, ct, rfl, ej, hS1⟩ := au_S_i hS
  obtain ⟨i, ct, rfl, ei, hS2⟩ := au_S_i hS1
  subst ei; subst ej
  refine lv_iadd X.1 X.2.1 hd (kk p e s m args below meth c ad0 ad Lv0 Lv H ls _ locs X hm hP hLn hL ⟨au_ri ?_, hS2⟩ hV hE)
  rw [Int32.toInt_add]; exact au_w_id h1 h2
theorem au_iaddW {x y : Int} (hd : decode K.2.1 pc = .ok (.iadd, 1)) (kk : au_Go G K Qf (pc + 1) L (au_i (au_w (x + y)) :: st) M ck cs) : au_Go G K Qf pc L (au_i y :: au_i x :: st) M ck cs := by
  intro p e s m args below meth c ad0 ad Lv0 Lv H ls cst locs X hm hP hLn hL hS hV hE
  obtain ⟨j, ct, rfl, ej, hS1⟩ := au_S_i hS
  obtain ⟨i, ct, rfl, ei, hS2⟩ := au_S_i hS1
  subst ei; subst ej
  refine lv_iadd X.1 X.2.1 hd (kk p e s m args below meth c ad0 ad Lv0 Lv H ls _ locs X hm hP hLn hL ⟨au_ri ?_, hS2⟩ hV hE)
  rw [Int32.toInt_add]; rfl
theorem au_isub {x y : Int} (hd : decode K.2.1 pc = .ok (.isub, 1)) (h1 : -2147483648 ≤ x - y) (h2 : x - y < 2147483648) (kk : au_Go G K Qf (pc + 1) L (au_i (x - y) :: st) M ck cs) : au_Go G K Qf pc L (au_i y :: au_i x :: st) M ck cs := by
  intro p e s m args below meth c ad0 ad Lv0 Lv H ls cst locs X hm hP hLn hL hS hV hE
  obtain ⟨j, ct, rfl, ej, hS1⟩ := au_S_i hS
  obtain ⟨i, ct, rfl, ei, hS2⟩ := au_S_i hS1
  subst ei; subst ej
  refine lv_isub X.1 X.2.1 hd (kk p e s m args below meth c ad0 ad Lv0 Lv H ls _ locs X hm hP hLn hL ⟨au_ri ?_, hS2⟩ hV hE)
  rw [Int32.toInt_sub]; exact au_w_id h1 h2
theorem au_isubW {x y : Int} (hd : decode K.2.1 pc = .ok (.isub, 1)) (kk : au_Go G K Qf (pc + 1) L (au_i (au_w (x - y)) :: st) M ck cs) : au_Go G K Qf pc L (au_i y :: au_i x :: st) M ck cs := by
  intro p e s m args below meth c ad0 ad Lv0 Lv H ls cst locs X hm hP hLn hL hS hV hE
  obtain ⟨j, ct, rfl, ej, hS1⟩ := au_S_i hS
  obtain ⟨i, ct, rfl, ei, hS2⟩ := au_S_i hS1
  subst ei; subst ej
  refine lv_isub X.1 X.2.1 hd (kk p e s m args below meth c ad0 ad Lv0 Lv H ls _ locs X hm hP hLn hL ⟨au_ri ?_, hS2⟩ hV hE)
  rw [Int32.toInt_sub]; rfl
theorem au_imul {x y : Int} (hd : decode K.2.1 pc = .ok (.imul, 1)) (h1 : -2147483648 ≤ x * y) (h2 : x * y < 2147483648) (kk : au_Go G K Qf (pc + 1) L (au_i (x * y) :: st) M ck cs) : au_Go G K Qf pc L (au_i y :: au_i x :: st) M ck cs := by
  intro p e s m args below meth c ad0 ad Lv0 Lv H ls cst locs X hm hP hLn hL hS hV hE
  obtain ⟨j, ct, rfl, ej, hS1⟩ := au_S_i hS
  obtain ⟨i, ct, rfl, ei, hS2⟩ := au_S_i hS1
  subst ei; subst ej
  refine lv_imul X.1 X.2.1 hd (kk p e s m args below meth c ad0 ad Lv0 Lv H ls _ locs X hm hP hLn hL ⟨au_ri ?_, hS2⟩ hV hE)
  rw [Int32.toInt_mul]; exact au_w_id h1 h2
theorem au_imulW {x y : Int} (hd : decode K.2.1 pc = .ok (.imul, 1)) (kk : au_Go G K Qf (pc + 1) L (au_i (au_w (x * y)) :: st) M ck cs) : au_Go G K Qf pc L (au_i y :: au_i x :: st) M ck cs := by
  intro p e s m args below meth c ad0 ad Lv0 Lv H ls cst locs X hm hP hLn hL hS hV hE
  obtain ⟨j, ct, rfl, ej, hS1⟩ := au_S_i hS
  obtain ⟨i, ct, rfl, ei, hS2⟩ := au_S_i hS1
  subst ei; subst ej
  refine lv_imul X.1 X.2.1 hd (kk p e s m args below meth c ad0 ad Lv0 Lv H ls _ locs X hm hP hLn hL ⟨au_ri ?_, hS2⟩ hV hE)
  rw [Int32.toInt_mul]; rfl
theorem au_iand {x y : Int} (hd : decode K.2.1 pc = .ok (.iand, 1)) (kk : au_Go G K Qf (pc + 1) L (au_i (au_and x y) :: st) M ck cs) : au_Go G K Qf pc L (au_i y :: au_i x :: st) M ck cs := by
  intro p e s m args below meth c ad0 ad Lv0 Lv H ls cst locs X hm hP hLn hL hS hV hE
  obtain ⟨j, ct, rfl, ej, hS1⟩ := au_S_i hS
  obtain ⟨i, ct, rfl, ei, hS2⟩ := au_S_i hS1
  subst ei; subst ej
  refine lv_iand X.1 X.2.1 hd (kk p e s m args below meth c ad0 ad Lv0 Lv H ls _ locs X hm hP hLn hL ⟨au_ri ?_, hS2⟩ hV hE)
  simp only [au_and, au_of32]
theorem au_ior {x y : Int} (hd : decode K.2.1 pc = .ok (.ior, 1)) (kk : au_Go G K Qf (pc + 1) L (au_i (au_or x y) :: st) M ck cs) : au_Go G K Qf pc L (au_i y :: au_i x :: st) M ck cs := by
  intro p e s m args below meth c ad0 ad Lv0 Lv H ls cst locs X hm hP hLn hL hS hV hE
  obtain ⟨j, ct, rfl, ej, hS1⟩ := au_S_i hS
  obtain ⟨i, ct, rfl, ei, hS2⟩ := au_S_i hS1
  subst ei; subst ej
  refine lv_ior X.1 X.2.1 hd (kk p e s m args below meth c ad0 ad Lv0 Lv H ls _ locs X hm hP hLn hL ⟨au_ri ?_, hS2⟩ hV hE)
  simp only [au_or, au_of32]
theorem au_ishl {x y : Int} (hd : decode K.2.1 pc = .ok (.ishl, 1)) (kk : au_Go G K Qf (pc + 1) L (au_i (au_shl x y) :: st) M ck cs) : au_Go G K Qf pc L (au_i y :: au_i x :: st) M ck cs := by
  intro p e s m args below meth c ad0 ad Lv0 Lv H ls cst locs X hm hP hLn hL hS hV hE
  obtain ⟨j, ct, rfl, ej, hS1⟩ := au_S_i hS
  obtain ⟨i, ct, rfl, ei, hS2⟩ := au_S_i hS1
  subst ei; subst ej
  refine lv_ishl X.1 X.2.1 hd (kk p e s m args below meth c ad0 ad Lv0 Lv H ls _ locs X hm hP hLn hL ⟨au_ri ?_, hS2⟩ hV hE)
  simp only [au_shl, au_of32]
theorem au_ishr {x y : Int} (hd : decode K.2.1 pc = .ok (.ishr, 1)) (kk : au_Go G K Qf (pc + 1) L (au_i (au_shr x y) :: st) M ck cs) : au_Go G K Qf pc L (au_i y :: au_i x :: st) M ck cs := by
  intro p e s m args below meth c ad0 ad Lv0 Lv H ls cst locs X hm hP hLn hL hS hV hE
  obtain ⟨j, ct, rfl, ej, hS1⟩ := au_S_i hS
  obtain ⟨i, ct, rfl, ei, hS2⟩ := au_S_i hS1
  subst ei; subst ej
  refine lv_ishr X.1 X.2.1 hd (kk p e s m args below meth c ad0 ad Lv0 Lv H ls _ locs X hm hP hLn hL ⟨au_ri ?_, hS2⟩ hV hE)
  simp only [au_shr, au_of32]
theorem au_iushr {x y : Int} (hd : decode K.2.1 pc = .ok (.iushr, 1)) (kk : au_Go G K Qf (pc + 1) L (au_i (au_ushr x y) :: st) M ck cs) : au_Go G K Qf pc L (au_i y :: au_i x :: st) M ck cs := by
  intro p e s m args below meth c ad0 ad Lv0 Lv H ls cst locs X hm hP hLn hL hS hV hE
  obtain ⟨j, ct, rfl, ej, hS1⟩ := au_S_i hS
  obtain ⟨i, ct, rfl, ei, hS2⟩ := au_S_i hS1
  subst ei; subst ej
  refine lv_iushr X.1 X.2.1 hd rfl (kk p e s m args below meth c ad0 ad Lv0 Lv H ls _ locs X hm hP hLn hL ⟨au_ri ?_, hS2⟩ hV hE)
  simp only [au_ushr, au_of32]
theorem au_ne0 {i : Int32} (h : 0 < i.toInt) : ¬ i = 0 := by
  intro q
  rw [q] at h
  exact absurd h (by decide)
theorem au_ne064 {i : Int64} (h : ¬ i.toInt = 0) : ¬ i = 0 := by
  intro q
  rw [q] at h
  exact h (by decide)
theorem au_idiv {x y : Int} (hd : decode K.2.1 pc = .ok (.idiv, 1)) (hx : 0 ≤ x) (hy : 0 < y) (kk : au_Go G K Qf (pc + 1) L (au_i (x / y) :: st) M ck cs) : au_Go G K Qf pc L (au_i y :: au_i x :: st) M ck cs := by
  intro p e s m args below meth c ad0 ad Lv0 Lv H ls cst locs X hm hP hLn hL hS hV hE
  obtain ⟨j, ct, rfl, ej, hS1⟩ := au_S_i hS
  obtain ⟨i, ct, rfl, ei, hS2⟩ := au_S_i hS1
  subst ei; subst ej
  refine lv_idiv X.1 X.2.1 hd (au_ne0 hy) (kk p e s m args below meth c ad0 ad Lv0 Lv H ls _ locs X hm hP hLn hL ⟨au_ri ?_, hS2⟩ hV hE)
  rw [Int32.toInt_div, Int.tdiv_eq_ediv_of_nonneg hx]
  have h1 : 0 ≤ i.toInt / j.toInt := Int.ediv_nonneg hx (Int.le_of_lt hy)
  have h2 : i.toInt / j.toInt ≤ i.toInt := Int.ediv_le_self _ hx
  have h3 := Int32.toInt_lt i
  exact au_w_id (by omega) (by omega)
theorem au_irem {x y : Int} (hd : decode K.2.1 pc = .ok (.irem, 1)) (hx : 0 ≤ x) (hy : 0 < y) (kk : au_Go G K Qf (pc + 1) L (au_i (x % y) :: st) M ck cs) : au_Go G K Qf pc L (au_i y :: au_i x :: st) M ck cs := by
  intro p e s m args below meth c ad0 ad Lv0 Lv H ls cst locs X hm hP hLn hL hS hV hE
  obtain ⟨j, ct, rfl, ej, hS1⟩ := au_S_i hS
  obtain ⟨i, ct, rfl, ei, hS2⟩ := au_S_i hS1
  subst ei; subst ej
  refine lv_irem X.1 X.2.1 hd (au_ne0 hy) (kk p e s m args below meth c ad0 ad Lv0 Lv H ls _ locs X hm hP hLn hL ⟨au_ri ?_, hS2⟩ hV hE)
  have h3 := Int32.toInt_lt i
  have e1 : (i / j).toInt = i.toInt / j.toInt := by
    rw [Int32.toInt_div, Int.tdiv_eq_ediv_of_nonneg hx]
    have h1 : 0 ≤ i.toInt / j.toInt := Int.ediv_nonneg hx (Int.le_of_lt hy)
    have h2 : i.toInt / j.toInt ≤ i.toInt := Int.ediv_le_self _ hx
    exact au_w_id (by omega) (by omega)
  have h4 := Int.emod_add_mul_ediv i.toInt j.toInt
  have h5 := Int.emod_nonneg i.toInt (by omega : j.toInt ≠ 0)
  have h6 := Int.emod_lt_of_pos i.toInt hy
  have e2 : (i / j * j).toInt = i.toInt / j.toInt * j.toInt := by
    rw [Int32.toInt_mul, e1]
    have h7 : i.toInt / j.toInt * j.toInt = i.toInt - i.toInt % j.toInt := by rw [Int.mul_comm]; omega
    rw [h7]
    exact au_w_id (by have : 0 ≤ j.toInt * (i.toInt / j.toInt) := Int.mul_nonneg (Int.le_of_lt hy) (Int.ediv_nonneg hx (Int.le_of_lt hy)); omega) (by omega)
  rw [Int32.toInt_sub, e2]
  have h7 : i.toInt - i.toInt / j.toInt * j.toInt = i.toInt % j.toInt := by rw [Int.mul_comm]; omega
  rw [h7]
  have := Int32.toInt_lt j
  exact au_w_id (by omega) (by omega)
theorem au_ineg {x : Int} (hd : decode K.2.1 pc = .ok (.ineg, 1)) (h1 : -2147483648 < x) (kk : au_Go G K Qf (pc + 1) L (au_i (-x) :: st) M ck cs) : au_Go G K Qf pc L (au_i x :: st) M ck cs := by
  intro p e s m args below meth c ad0 ad Lv0 Lv H ls cst locs X hm hP hLn hL hS hV hE
  obtain ⟨i, ct, rfl, ei, hS1⟩ := au_S_i hS
  subst ei
  refine lv_ineg X.1 X.2.1 hd (kk p e s m args below meth c ad0 ad Lv0 Lv H ls _ locs X hm hP hLn hL ⟨au_ri ?_, hS1⟩ hV hE)
  rw [Int32.toInt_neg]
  have := Int32.toInt_lt i
  exact au_w_id (by omega) (by omega)
theorem au_ladd {x y : Int} (hd : decode K.2.1 pc = .ok (.ladd, 1)) (h1 : -9223372036854775808 ≤ x + y) (h2 : x + y < 9223372036854775808) (kk : au_Go G K Qf (pc + 1) L (au_l (x + y) :: st) M ck cs) : au_Go G K Qf pc L (au_l y :: au_l x :: st) M ck cs := by
  intro p e s m args below meth c ad0 ad Lv0 Lv H ls cst locs X hm hP hLn hL hS hV hE
  obtain ⟨j, ct, rfl, ej, hS1⟩ := au_S_l hS
  obtain ⟨i, ct, rfl, ei, hS2⟩ := au_S_l hS1
  subst ei; subst ej
  refine lv_ladd X.1 X.2.1 hd (kk p e s m args below meth c ad0 ad Lv0 Lv H ls _ locs X hm hP hLn hL ⟨au_rl ?_, hS2⟩ hV hE)
  rw [Int64.toInt_add]; exact au_wl_id h1 h2
theorem au_laddW {x y : Int} (hd : decode K.2.1 pc = .ok (.ladd, 1)) (kk : au_Go G K Qf (pc + 1) L (au_l (au_wl (x + y)) :: st) M ck cs) : au_Go G K Qf pc L (au_l y :: au_l x :: st) M ck cs := by
  intro p e s m args below meth c ad0 ad Lv0 Lv H ls cst locs X hm hP hLn hL hS hV hE
  obtain ⟨j, ct, rfl, ej, hS1⟩ := au_S_l hS
  obtain ⟨i, ct, rfl, ei, hS2⟩ := au_S_l hS1
  subst ei; subst ej
  refine lv_ladd X.1 X.2.1 hd (kk p e s m args below meth c ad0 ad Lv0 Lv H ls _ locs X hm hP hLn hL ⟨au_rl ?_, hS2⟩ hV hE)
  rw [Int64.toInt_add]; rfl
theorem au_lsub {x y : Int} (hd : decode K.2.1 pc = .ok (.lsub, 1)) (h1 : -9223372036854775808 ≤ x - y) (h2 : x - y < 9223372036854775808) (kk : au_Go G K Qf (pc + 1) L (au_l (x - y) :: st) M ck cs) : au_Go G K Qf pc L (au_l y :: au_l x :: st) M ck cs := by
  intro p e s m args below meth c ad0 ad Lv0 Lv H ls cst locs X hm hP hLn hL hS hV hE
  obtain ⟨j, ct, rfl, ej, hS1⟩ := au_S_l hS
  obtain ⟨i, ct, rfl, ei, hS2⟩ := au_S_l hS1
  subst ei; subst ej
  refine lv_lsub X.1 X.2.1 hd (kk p e s m args below meth c ad0 ad Lv0 Lv H ls _ locs X hm hP hLn hL ⟨au_rl ?_, hS2⟩ hV hE)
  rw [Int64.toInt_sub]; exact au_wl_id h1 h2
theorem au_lsubW {x y : Int} (hd : decode K.2.1 pc = .ok (.lsub, 1)) (kk : au_Go G K Qf (pc + 1) L (au_l (au_wl (x - y)) :: st) M ck cs) : au_Go G K Qf pc L (au_l y :: au_l x :: st) M ck cs := by
  intro p e s m args below meth c ad0 ad Lv0 Lv H ls cst locs X hm hP hLn hL hS hV hE
  obtain ⟨j, ct, rfl, ej, hS1⟩ := au_S_l hS
  obtain ⟨i, ct, rfl, ei, hS2⟩ := au_S_l hS1
  subst ei; subst ej
  refine lv_lsub X.1 X.2.1 hd (kk p e s m args below meth c ad0 ad Lv0 Lv H ls _ locs X hm hP hLn hL ⟨au_rl ?_, hS2⟩ hV hE)
  rw [Int64.toInt_sub]; rfl
theorem au_lmul {x y : Int} (hd : decode K.2.1 pc = .ok (.lmul, 1)) (h1 : -9223372036854775808 ≤ x * y) (h2 : x * y < 9223372036854775808) (kk : au_Go G K Qf (pc + 1) L (au_l (x * y) :: st) M ck cs) : au_Go G K Qf pc L (au_l y :: au_l x :: st) M ck cs := by
  intro p e s m args below meth c ad0 ad Lv0 Lv H ls cst locs X hm hP hLn hL hS hV hE
  obtain ⟨j, ct, rfl, ej, hS1⟩ := au_S_l hS
  obtain ⟨i, ct, rfl, ei, hS2⟩ := au_S_l hS1
  subst ei; subst ej
  refine lv_lmul X.1 X.2.1 hd (kk p e s m args below meth c ad0 ad Lv0 Lv H ls _ locs X hm hP hLn hL ⟨au_rl ?_, hS2⟩ hV hE)
  rw [Int64.toInt_mul]; exact au_wl_id h1 h2
theorem au_lmulW {x y : Int} (hd : decode K.2.1 pc = .ok (.lmul, 1)) (kk : au_Go G K Qf (pc + 1) L (au_l (au_wl (x * y)) :: st) M ck cs) : au_Go G K Qf pc L (au_l y :: au_l x :: st) M ck cs := by
  intro p e s m args below meth c ad0 ad Lv0 Lv H ls cst locs X hm hP hLn hL hS hV hE
  obtain ⟨j, ct, rfl, ej, hS1⟩ := au_S_l hS
  obtain ⟨i, ct, rfl, ei, hS2⟩ := au_S_l hS1
  subst ei; subst ej
  refine lv_lmul X.1 X.2.1 hd (kk p e s m args below meth c ad0 ad Lv0 Lv H ls _ locs X hm hP hLn hL ⟨au_rl ?_, hS2⟩ hV hE)
  rw [Int64.toInt_mul]; rfl
theorem au_lor' {x y : Int} (hd : decode K.2.1 pc = .ok (.lor, 1)) (kk : au_Go G K Qf (pc + 1) L (au_l (au_lor x y) :: st) M ck cs) : au_Go G K Qf pc L (au_l y :: au_l x :: st) M ck cs := by
  intro p e s m args below meth c ad0 ad Lv0 Lv H ls cst locs X hm hP hLn hL hS hV hE
  obtain ⟨j, ct, rfl, ej, hS1⟩ := au_S_l hS
  obtain ⟨i, ct, rfl, ei, hS2⟩ := au_S_l hS1
  subst ei; subst ej
  refine lv_lor X.1 X.2.1 hd (kk p e s m args below meth c ad0 ad Lv0 Lv H ls _ locs X hm hP hLn hL ⟨au_rl ?_, hS2⟩ hV hE)
  simp only [au_lor, au_of64]
theorem au_ldiv {x y : Int} (hd : decode K.2.1 pc = .ok (.ldiv, 1)) (hy : ¬ y = 0) (h1 : -9223372036854775808 ≤ x.tdiv y) (h2 : x.tdiv y < 9223372036854775808) (kk : au_Go G K Qf (pc + 1) L (au_l (x.tdiv y) :: st) M ck cs) : au_Go G K Qf pc L (au_l y :: au_l x :: st) M ck cs := by
  intro p e s m args below meth c ad0 ad Lv0 Lv H ls cst locs X hm hP hLn hL hS hV hE
  obtain ⟨j, ct, rfl, ej, hS1⟩ := au_S_l hS
  obtain ⟨i, ct, rfl, ei, hS2⟩ := au_S_l hS1
  subst ei; subst ej
  refine lv_ldiv X.1 X.2.1 hd (au_ne064 hy) (kk p e s m args below meth c ad0 ad Lv0 Lv H ls _ locs X hm hP hLn hL ⟨au_rl ?_, hS2⟩ hV hE)
  rw [Int64.toInt_div]
  exact au_wl_id h1 h2
theorem au_lrem {x y : Int} (hd : decode K.2.1 pc = .ok (.lrem, 1)) (hx : 0 ≤ x) (hy : 0 < y) (kk : au_Go G K Qf (pc + 1) L (au_l (x % y) :: st) M ck cs) : au_Go G K Qf pc L (au_l y :: au_l x :: st) M ck cs := by
  intro p e s m args below meth c ad0 ad Lv0 Lv H ls cst locs X hm hP hLn hL hS hV hE
  obtain ⟨j, ct, rfl, ej, hS1⟩ := au_S_l hS
  obtain ⟨i, ct, rfl, ei, hS2⟩ := au_S_l hS1
  subst ei; subst ej
  refine lv_lrem X.1 X.2.1 hd (au_ne064 (by omega)) (kk p e s m args below meth c ad0 ad Lv0 Lv H ls _ locs X hm hP hLn hL ⟨au_rl ?_, hS2⟩ hV hE)
  have h3 := Int64.toInt_lt i
  have e1 : (i / j).toInt = i.toInt / j.toInt := by
    rw [Int64.toInt_div, Int.tdiv_eq_ediv_of_nonneg hx]
    have h1 : 0 ≤ i.toInt / j.toInt := Int.ediv_nonneg hx (Int.le_of_lt hy)
    have h2 : i.toInt / j.toInt ≤ i.toInt := Int.ediv_le_self _ hx
    exact au_wl_id (by omega) (by omega)
  have h4 := Int.emod_add_mul_ediv i.toInt j.toInt
  have h5 := Int.emod_nonneg i.toInt (by omega : j.toInt ≠ 0)
  have h6 := Int.emod_lt_of_pos i.toInt hy
  have e2 : (i / j * j).toInt = i.toInt / j.toInt * j.toInt := by
    rw [Int64.toInt_mul, e1]
    have h7 : i.toInt / j.toInt * j.toInt = i.toInt - i.toInt % j.toInt := by rw [Int.mul_comm]; omega
    rw [h7]
    exact au_wl_id (by have : 0 ≤ j.toInt * (i.toInt / j.toInt) := Int.mul_nonneg (Int.le_of_lt hy) (Int.ediv_nonneg hx (Int.le_of_lt hy)); omega) (by omega)
  rw [Int64.toInt_sub, e2]
  have h7 : i.toInt - i.toInt / j.toInt * j.toInt = i.toInt % j.toInt := by rw [Int.mul_comm]; omega
  rw [h7]
  have := Int64.toInt_lt j
  exact au_wl_id (by omega) (by omega)
theorem au_lneg {x : Int} (hd : decode K.2.1 pc = .ok (.lneg, 1)) (h1 : -9223372036854775808 < x) (kk : au_Go G K Qf (pc + 1) L (au_l (-x) :: st) M ck cs) : au_Go G K Qf pc L (au_l x :: st) M ck cs := by
  intro p e s m args below meth c ad0 ad Lv0 Lv H ls cst locs X hm hP hLn hL hS hV hE
  obtain ⟨i, ct, rfl, ei, hS1⟩ := au_S_l hS
  subst ei
  refine lv_lneg X.1 X.2.1 hd (kk p e s m args below meth c ad0 ad Lv0 Lv H ls _ locs X hm hP hLn hL ⟨au_rl ?_, hS1⟩ hV hE)
  rw [Int64.toInt_neg]
  have := Int64.toInt_lt i
  exact au_wl_id (by omega) (by omega)
theorem au_lcmp {x y : Int} (hd : decode K.2.1 pc = .ok (.lcmp, 1)) (kk : au_Go G K Qf (pc + 1) L (au_i (au_cmp x y) :: st) M ck cs) : au_Go G K Qf pc L (au_l y :: au_l x :: st) M ck cs := by
  intro p e s m args below meth c ad0 ad Lv0 Lv H ls cst locs X hm hP hLn hL hS hV hE
  obtain ⟨j, ct, rfl, ej, hS1⟩ := au_S_l hS
  obtain ⟨i, ct, rfl, ei, hS2⟩ := au_S_l hS1
  subst ei; subst ej
  refine W.lcmp X.1 X.2.1 hd (kk p e s m args below meth c ad0 ad Lv0 Lv H ls _ locs X hm hP hLn hL ⟨au_ri ?_, hS2⟩ hV hE)
  unfold lg_cmp au_cmp
  by_cases h1 : j < i
  · have h2 := Int64.lt_iff_toInt_lt.mp h1
    simp [h1, h2]
  · have h2 : ¬ j.toInt < i.toInt := fun q => h1 (Int64.lt_iff_toInt_lt.mpr q)
    by_cases h3 : i = j
    · simp [h3]
    · have h4 : ¬ i.toInt = j.toInt := fun q => h3 (Int64.toInt_inj.mp q)
      simp [h1, h2, h3, h4]
theorem au_lshl' {x y : Int} (hd : decode K.2.1 pc = .ok (.lshl, 1)) (kk : au_Go G K Qf (pc + 1) L (au_l (au_lshl x y) :: st) M ck cs) : au_Go G K Qf pc L (au_i y :: au_l x :: st) M ck cs := by
  intro p e s m args below meth c ad0 ad Lv0 Lv H ls cst locs X hm hP hLn hL hS hV hE
  obtain ⟨j, ct, rfl, ej, hS1⟩ := au_S_i hS
  obtain ⟨i, ct, rfl, ei, hS2⟩ := au_S_l hS1
  subst ei; subst ej
  refine lv_lshl X.1 X.2.1 hd rfl (kk p e s m args below meth c ad0 ad Lv0 Lv H ls _ locs X hm hP hLn hL ⟨au_rl ?_, hS2⟩ hV hE)
  simp only [au_lshl, au_of64, au_of32]
theorem au_lshr' {x y : Int} (hd : decode K.2.1 pc = .ok (.lshr, 1)) (kk : au_Go G K Qf (pc + 1) L (au_l (au_lshr x y) :: st) M ck cs) : au_Go G K Qf pc L (au_i y :: au_l x :: st) M ck cs := by
  intro p e s m args below meth c ad0 ad Lv0 Lv H ls cst locs X hm hP hLn hL hS hV hE
  obtain ⟨j, ct, rfl, ej, hS1⟩ := au_S_i hS
  obtain ⟨i, ct, rfl, ei, hS2⟩ := au_S_l hS1
  subst ei; subst ej
  refine lv_lshr X.1 X.2.1 hd rfl (kk p e s m args below meth c ad0 ad Lv0 Lv H ls _ locs X hm hP hLn hL ⟨au_rl ?_, hS2⟩ hV hE)
  simp only [au_lshr, au_of64, au_of32]
theorem au_i2l {x : Int} (hd : decode K.2.1 pc = .ok (.i2l, 1)) (kk : au_Go G K Qf (pc + 1) L (au_l x :: st) M ck cs) : au_Go G K Qf pc L (au_i x :: st) M ck cs := by
  intro p e s m args below meth c ad0 ad Lv0 Lv H ls cst locs X hm hP hLn hL hS hV hE
  obtain ⟨i, ct, rfl, ei, hS1⟩ := au_S_i hS
  subst ei
  refine lv_i2l X.1 X.2.1 hd rfl (kk p e s m args below meth c ad0 ad Lv0 Lv H ls _ locs X hm hP hLn hL ⟨au_rl ?_, hS1⟩ hV hE)
  simp
theorem au_l2i {x : Int} (hd : decode K.2.1 pc = .ok (.l2i, 1)) (h1 : -2147483648 ≤ x) (h2 : x < 2147483648) (kk : au_Go G K Qf (pc + 1) L (au_i x :: st) M ck cs) : au_Go G K Qf pc L (au_l x :: st) M ck cs := by
  intro p e s m args below meth c ad0 ad Lv0 Lv H ls cst locs X hm hP hLn hL hS hV hE
  obtain ⟨i, ct, rfl, ei, hS1⟩ := au_S_l hS
  subst ei
  refine lv_l2i X.1 X.2.1 hd rfl (kk p e s m args below meth c ad0 ad Lv0 Lv H ls _ locs X hm hP hLn hL ⟨au_ri ?_, hS1⟩ hV hE)
  rw [Int64.toInt_toInt32]
  exact au_w_id h1 h2
theorem au_i2b' {x : Int} (hd : decode K.2.1 pc = .ok (.i2b, 1)) (kk : au_Go G K Qf (pc + 1) L (au_i (au_i2b x) :: st) M ck cs) : au_Go G K Qf pc L (au_i x :: st) M ck cs := by
  intro p e s m args below meth c ad0 ad Lv0 Lv H ls cst locs X hm hP hLn hL hS hV hE
  obtain ⟨i, ct, rfl, ei, hS1⟩ := au_S_i hS
  subst ei
  refine lv_i2b X.1 X.2.1 hd rfl (kk p e s m args below meth c ad0 ad Lv0 Lv H ls _ locs X hm hP hLn hL ⟨au_ri ?_, hS1⟩ hV hE)
  simp only [au_i2b, au_of32]
theorem au_i2c' {x : Int} (hd : decode K.2.1 pc = .ok (.i2c, 1)) (kk : au_Go G K Qf (pc + 1) L (au_i (au_i2c x) :: st) M ck cs) : au_Go G K Qf pc L (au_i x :: st) M ck cs := by
  intro p e s m args below meth c ad0 ad Lv0 Lv H ls cst locs X hm hP hLn hL hS hV hE
  obtain ⟨i, ct, rfl, ei, hS1⟩ := au_S_i hS
  subst ei
  refine lv_i2c X.1 X.2.1 hd rfl (kk p e s m args below meth c ad0 ad Lv0 Lv H ls _ locs X hm hP hLn hL ⟨au_ri ?_, hS1⟩ hV hE)
  simp only [au_i2c, au_of32]
theorem au_dup {v : au_V} (hd : decode K.2.1 pc = .ok (.dup, 1)) (hc : au_cat v = 1) (kk : au_Go G K Qf (pc + 1) L (v :: v :: st) M ck cs) : au_Go G K Qf pc L (v :: st) M ck cs := by
  intro p e s m args below meth c ad0 ad Lv0 Lv H ls cst locs X hm hP hLn hL hS hV hE
  obtain ⟨c1, ct, rfl, h1, hS1⟩ := au_S_v hS
  exact lv_dup X.1 X.2.1 hd ((au_rel_cat h1).trans hc) (kk p e s m args below meth c ad0 ad Lv0 Lv H ls _ locs X hm hP hLn hL ⟨h1, h1, hS1⟩ hV hE)
theorem au_dup2 {v w : au_V} (hd : decode K.2.1 pc = .ok (.dup2, 1)) (hc : au_cat v = 1) (hc2 : au_cat w = 1) (kk : au_Go G K Qf (pc + 1) L (v :: w :: v :: w :: st) M ck cs) : au_Go G K Qf pc L (v :: w :: st) M ck cs := by
  intro p e s m args below meth c ad0 ad Lv0 Lv H ls cst locs X hm hP hLn hL hS hV hE
  obtain ⟨c1, ct, rfl, h1, hS1⟩ := au_S_v hS
  obtain ⟨c2, ct, rfl, h2, hS2⟩ := au_S_v hS1
  exact lv_dup2_11 X.1 X.2.1 hd ((au_rel_cat h1).trans hc) ((au_rel_cat h2).trans hc2) (kk p e s m args below meth c ad0 ad Lv0 Lv H ls _ locs X hm hP hLn hL ⟨h1, h2, h1, h2, hS2⟩ hV hE)
theorem au_dup_x1 {v w : au_V} (hd : decode K.2.1 pc = .ok (.dup_x1, 1)) (hc : au_cat v = 1) (hc2 : au_cat w = 1) (kk : au_Go G K Qf (pc + 1) L (v :: w :: v :: st) M ck cs) : au_Go G K Qf pc L (v :: w :: st) M ck cs := by
  intro p e s m args below meth c ad0 ad Lv0 Lv H ls cst locs X hm hP hLn hL hS hV hE
  obtain ⟨c1, ct, rfl, h1, hS1⟩ := au_S_v hS
  obtain ⟨c2, ct, rfl, h2, hS2⟩ := au_S_v hS1
  exact lv_dup_x1 X.1 X.2.1 hd ((au_rel_cat h1).trans hc) ((au_rel_cat h2).trans hc2) (kk p e s m args below meth c ad0 ad Lv0 Lv H ls _ locs X hm hP hLn hL ⟨h1, h2, h1, hS2⟩ hV hE)
theorem au_pop {v : au_V} (hd : decode K.2.1 pc = .ok (.pop, 1)) (hc : au_cat v = 1) (kk : au_Go G K Qf (pc + 1) L st M ck cs) : au_Go G K Qf pc L (v :: st) M ck cs := by
  intro p e s m args below meth c ad0 ad Lv0 Lv H ls cst locs X hm hP hLn hL hS hV hE
  obtain ⟨c1, ct, rfl, h1, hS1⟩ := au_S_v hS
  exact lv_pop X.1 X.2.1 hd ((au_rel_cat h1).trans hc) (kk p e s m args below meth c ad0 ad Lv0 Lv H ls _ locs X hm hP hLn hL hS1 hV hE)
theorem au_goto {off : Int} {tgt : Nat} (hd : decode K.2.1 pc = .ok (.goto off, 3)) (ht : (pc : Int) + off = (tgt : Int)) (kk : au_Go G K Qf tgt L st M ck cs) : au_Go G K Qf pc L st M ck cs := by
  intro p e s m args below meth c ad0 ad Lv0 Lv H ls cst locs X hm hP hLn hL hS hV hE
  exact lv_goto X.1 X.2.1 hd ht (kk p e s m args below meth c ad0 ad Lv0 Lv H ls _ locs X hm hP hLn hL hS hV hE)
theorem au_ifnull {a : au_A} {off : Int} (hd : decode K.2.1 pc = .ok (.ifnull off, 3)) (kk : au_Go G K Qf (pc + 3) L st M ck cs) : au_Go G K Qf pc L (au_r a :: st) M ck cs := by
  intro p e s m args below meth c ad0 ad Lv0 Lv H ls cst locs X hm hP hLn hL hS hV hE
  obtain ⟨ct, rfl, h1, hS1⟩ := au_S_r hS
  exact lv_ifnull X.1 X.2.1 hd (kk p e s m args below meth c ad0 ad Lv0 Lv H ls _ locs X hm hP hLn hL hS1 hV hE)
theorem au_ifnonnull {a : au_A} {off : Int} {tgt : Nat} (hd : decode K.2.1 pc = .ok (.ifnonnull off, 3)) (ht : (pc : Int) + off = (tgt : Int)) (kk : au_Go G K Qf tgt L st M ck cs) : au_Go G K Qf pc L (au_r a :: st) M ck cs := by
  intro p e s m args below meth c ad0 ad Lv0 Lv H ls cst locs X hm hP hLn hL hS hV hE
  obtain ⟨ct, rfl, h1, hS1⟩ := au_S_r hS
  exact lv_ifnonnull X.1 X.2.1 hd ht (kk p e s m args below meth c ad0 ad Lv0 Lv H ls _ locs X hm hP hLn hL hS1 hV hE)
theorem au_ifnullN {off : Int} {tgt : Nat} (hd : decode K.2.1 pc = .ok (.ifnull off, 3)) (ht : (pc : Int) + off = (tgt : Int)) (kk : au_Go G K Qf tgt L st M ck cs) : au_Go G K Qf pc L (au_n :: st) M ck cs := by
  intro p e s m args below meth c ad0 ad Lv0 Lv H ls cst locs X hm hP hLn hL hS hV hE
  obtain ⟨ct, rfl, hS1⟩ := au_S_n hS
  exact lv_ifnullN X.1 X.2.1 hd ht (kk p e s m args below meth c ad0 ad Lv0 Lv H ls _ locs X hm hP hLn hL hS1 hV hE)
theorem au_ifnonnullN {off : Int} (hd : decode K.2.1 pc = .ok (.ifnonnull off, 3)) (kk : au_Go G K Qf (pc + 3) L st M ck cs) : au_Go G K Qf pc L (au_n :: st) M ck cs := by
  intro p e s m args below meth c ad0 ad Lv0 Lv H ls cst locs X hm hP hLn hL hS hV hE
  obtain ⟨ct, rfl, hS1⟩ := au_S_n hS
  exact lv_ifnonnullN X.1 X.2.1 hd (kk p e s m args below meth c ad0 ad Lv0 Lv H ls _ locs X hm hP hLn hL hS1 hV hE)
theorem au_q0 (i : Int32) : i = 0 ↔ i.toInt = 0 := by
  rw [← Int32.toInt_inj]
  exact Iff.rfl
theorem au_l0 (i : Int32) : i < 0 ↔ i.toInt < 0 := by
  rw [Int32.lt_iff_toInt_lt]
  exact Iff.rfl
theorem au_g0 (i : Int32) : 0 < i ↔ 0 < i.toInt := by
  rw [Int32.lt_iff_toInt_lt]
  exact Iff.rfl
theorem au_le0 (i : Int32) : i ≤ 0 ↔ i.toInt ≤ 0 := by
  rw [Int32.le_iff_toInt_le]
  exact Iff.rfl
theorem au_ge0 (i : Int32) : 0 ≤ i ↔ 0 ≤ i.toInt := by
  rw [Int32.le_iff_toInt_le]
  exact Iff.rfl
theorem au_if_eq {x : Int} {off : Int} {tgt : Nat} (hd : decode K.2.1 pc = .ok (.ifCond .eq off, 3)) (ht : (pc : Int) + off = (tgt : Int)) (kt : x = 0 → au_Go G K Qf tgt L st M ck cs) (kf : ¬ x = 0 → au_Go G K Qf (pc + 3) L st M ck cs) : au_Go G K Qf pc L (au_i x :: st) M ck cs := by
  intro p e s m args below meth c ad0 ad Lv0 Lv H ls cst locs X hm hP hLn hL hS hV hE
  obtain ⟨i, ct, rfl, ei, hS1⟩ := au_S_i hS
  subst ei
  exact lv_if_eq X.1 X.2.1 hd ht (fun h => kt ((au_q0 _).mp h) p e s m args below meth c ad0 ad Lv0 Lv H ls _ locs X hm hP hLn hL hS1 hV hE) (fun h => kf (fun q => h ((au_q0 _).mpr q)) p e s m args below meth c ad0 ad Lv0 Lv H ls _ locs X hm hP hLn hL hS1 hV hE)
theorem au_if_ne {x : Int} {off : Int} {tgt : Nat} (hd : decode K.2.1 pc = .ok (.ifCond .ne off, 3)) (ht : (pc : Int) + off = (tgt : Int)) (kt : ¬ x = 0 → au_Go G K Qf tgt L st M ck cs) (kf : x = 0 → au_Go G K Qf (pc + 3) L st M ck cs) : au_Go G K Qf pc L (au_i x :: st) M ck cs := by
  intro p e s m args below meth c ad0 ad Lv0 Lv H ls cst locs X hm hP hLn hL hS hV hE
  obtain ⟨i, ct, rfl, ei, hS1⟩ := au_S_i hS
  subst ei
  exact lv_if_ne X.1 X.2.1 hd ht (fun h => kt (fun q => h ((au_q0 _).mpr q)) p e s m args below meth c ad0 ad Lv0 Lv H ls _ locs X hm hP hLn hL hS1 hV hE) (fun h => kf ((au_q0 _).mp h) p e s m args below meth c ad0 ad Lv0 Lv H ls _ locs X hm hP hLn hL hS1 hV hE)
theorem au_if_lt {x : Int} {off : Int} {tgt : Nat} (hd : decode K.2.1 pc = .ok (.ifCond .lt off, 3)) (ht : (pc : Int) + off = (tgt : Int)) (kt : x < 0 → au_Go G K Qf tgt L st M ck cs) (kf : 0 ≤ x → au_Go G K Qf (pc + 3) L st M ck cs) : au_Go G K Qf pc L (au_i x :: st) M ck cs := by
  intro p e s m args below meth c ad0 ad Lv0 Lv H ls cst locs X hm hP hLn hL hS hV hE
  obtain ⟨i, ct, rfl, ei, hS1⟩ := au_S_i hS
  subst ei
  exact lv_if_lt X.1 X.2.1 hd ht (fun h => kt ((au_l0 _).mp h) p e s m args below meth c ad0 ad Lv0 Lv H ls _ locs X hm hP hLn hL hS1 hV hE) (fun h => kf (Int.not_lt.mp (fun q => h ((au_l0 _).mpr q))) p e s m args below meth c ad0 ad Lv0 Lv H ls _ locs X hm hP hLn hL hS1 hV hE)
theorem au_if_ge {x : Int} {off : Int} {tgt : Nat} (hd : decode K.2.1 pc = .ok (.ifCond .ge off, 3)) (ht : (pc : Int) + off = (tgt : Int)) (kt : 0 ≤ x → au_Go G K Qf tgt L st M ck cs) (kf : x < 0 → au_Go G K Qf (pc + 3) L st M ck cs) : au_Go G K Qf pc L (au_i x :: st) M ck cs := by
  intro p e s m args below meth c ad0 ad Lv0 Lv H ls cst locs X hm hP hLn hL hS hV hE
  obtain ⟨i, ct, rfl, ei, hS1⟩ := au_S_i hS
  subst ei
  exact lv_if_ge X.1 X.2.1 hd ht (fun h => kt ((au_ge0 _).mp h) p e s m args below meth c ad0 ad Lv0 Lv H ls _ locs X hm hP hLn hL hS1 hV hE) (fun h => kf (Int.not_le.mp (fun q => h ((au_ge0 _).mpr q))) p e s m args below meth c ad0 ad Lv0 Lv H ls _ locs X hm hP hLn hL hS1 hV hE)
theorem au_if_gt {x : Int} {off : Int} {tgt : Nat} (hd : decode K.2.1 pc = .ok (.ifCond .gt off, 3)) (ht : (pc : Int) + off = (tgt : Int)) (kt : 0 < x → au_Go G K Qf tgt L st M ck cs) (kf : x ≤ 0 → au_Go G K Qf (pc + 3) L st M ck cs) : au_Go G K Qf pc L (au_i x :: st) M ck cs := by
  intro p e s m args below meth c ad0 ad Lv0 Lv H ls cst locs X hm hP hLn hL hS hV hE
  obtain ⟨i, ct, rfl, ei, hS1⟩ := au_S_i hS
  subst ei
  exact lv_if_gt X.1 X.2.1 hd ht (fun h => kt ((au_g0 _).mp h) p e s m args below meth c ad0 ad Lv0 Lv H ls _ locs X hm hP hLn hL hS1 hV hE) (fun h => kf (Int.not_lt.mp (fun q => h ((au_g0 _).mpr q))) p e s m args below meth c ad0 ad Lv0 Lv H ls _ locs X hm hP hLn hL hS1 hV hE)
theorem au_if_le {x : Int} {off : Int} {tgt : Nat} (hd : decode K.2.1 pc = .ok (.ifCond .le off, 3)) (ht : (pc : Int) + off = (tgt : Int)) (kt : x ≤ 0 → au_Go G K Qf tgt L st M ck cs) (kf : 0 < x → au_Go G K Qf (pc + 3) L st M ck cs) : au_Go G K Qf pc L (au_i x :: st) M ck cs := by
  intro p e s m args below meth c ad0 ad Lv0 Lv H ls cst locs X hm hP hLn hL hS hV hE
  obtain ⟨i, ct, rfl, ei, hS1⟩ := au_S_i hS
  subst ei
  exact lv_if_le X.1 X.2.1 hd ht (fun h => kt ((au_le0 _).mp h) p e s m args below meth c ad0 ad Lv0 Lv H ls _ locs X hm hP hLn hL hS1 hV hE) (fun h => kf (Int.not_le.mp (fun q => h ((au_le0 _).mpr q))) p e s m args below meth c ad0 ad Lv0 Lv H ls _ locs X hm hP hLn hL hS1 hV hE)
theorem au_icmp_eq {x y : Int} {off : Int} {tgt : Nat} (hd : decode K.2.1 pc = .ok (.if_icmp .eq off, 3)) (ht : (pc : Int) + off = (tgt : Int)) (kt : x = y → au_Go G K Qf tgt L st M ck cs) (kf : ¬ x = y → au_Go G K Qf (pc + 3) L st M ck cs) : au_Go G K Qf pc L (au_i y :: au_i x :: st) M ck cs := by
  intro p e s m args below meth c ad0 ad Lv0 Lv H ls cst locs X hm hP hLn hL hS hV hE
  obtain ⟨j, ct, rfl, ej, hS1⟩ := au_S_i hS
  obtain ⟨i, ct, rfl, ei, hS2⟩ := au_S_i hS1
  subst ei; subst ej
  exact lv_icmp_eq X.1 X.2.1 hd ht (fun h => kt (by rw [h]) p e s m args below meth c ad0 ad Lv0 Lv H ls _ locs X hm hP hLn hL hS2 hV hE) (fun h => kf (fun q => h (Int32.toInt_inj.mp q)) p e s m args below meth c ad0 ad Lv0 Lv H ls _ locs X hm hP hLn hL hS2 hV hE)
theorem au_icmp_ne {x y : Int} {off : Int} {tgt : Nat} (hd : decode K.2.1 pc = .ok (.if_icmp .ne off, 3)) (ht : (pc : Int) + off = (tgt : Int)) (kt : ¬ x = y → au_Go G K Qf tgt L st M ck cs) (kf : x = y → au_Go G K Qf (pc + 3) L st M ck cs) : au_Go G K Qf pc L (au_i y :: au_i x :: st) M ck cs := by
  intro p e s m args below meth c ad0 ad Lv0 Lv H ls cst locs X hm hP hLn hL hS hV hE
  obtain ⟨j, ct, rfl, ej, hS1⟩ := au_S_i hS
  obtain ⟨i, ct, rfl, ei, hS2⟩ := au_S_i hS1
  subst ei; subst ej
  exact lv_icmp_ne X.1 X.2.1 hd ht (fun h => kt (fun q => h (Int32.toInt_inj.mp q)) p e s m args below meth c ad0 ad Lv0 Lv H ls _ locs X hm hP hLn hL hS2 hV hE) (fun h => kf (by rw [h]) p e s m args below meth c ad0 ad Lv0 Lv H ls _ locs X hm hP hLn hL hS2 hV hE)
theorem au_icmp_lt {x y : Int} {off : Int} {tgt : Nat} (hd : decode K.2.1 pc = .ok (.if_icmp .lt off, 3)) (ht : (pc : Int) + off = (tgt : Int)) (kt : x < y → au_Go G K Qf tgt L st M ck cs) (kf : y ≤ x → au_Go G K Qf (pc + 3) L st M ck cs) : au_Go G K Qf pc L (au_i y :: au_i x :: st) M ck cs := by
  intro p e s m args below meth c ad0 ad Lv0 Lv H ls cst locs X hm hP hLn hL hS hV hE
  obtain ⟨j, ct, rfl, ej, hS1⟩ := au_S_i hS
  obtain ⟨i, ct, rfl, ei, hS2⟩ := au_S_i hS1
  subst ei; subst ej
  exact lv_icmp_lt X.1 X.2.1 hd ht (fun h => kt (Int32.lt_iff_toInt_lt.mp h) p e s m args below meth c ad0 ad Lv0 Lv H ls _ locs X hm hP hLn hL hS2 hV hE) (fun h => kf (Int.not_lt.mp (fun q => h (Int32.lt_iff_toInt_lt.mpr q))) p e s m args below meth c ad0 ad Lv0 Lv H ls _ locs X hm hP hLn hL hS2 hV hE)
theorem au_icmp_ge {x y : Int} {off : Int} {tgt : Nat} (hd : decode K.2.1 pc = .ok (.if_icmp .ge off, 3)) (ht : (pc : Int) + off = (tgt : Int)) (kt : y ≤ x → au_Go G K Qf tgt L st M ck cs) (kf : x < y → au_Go G K Qf (pc + 3) L st M ck cs) : au_Go G K Qf pc L (au_i y :: au_i x :: st) M ck cs := by
  intro p e s m args below meth c ad0 ad Lv0 Lv H ls cst locs X hm hP hLn hL hS hV hE
  obtain ⟨j, ct, rfl, ej, hS1⟩ := au_S_i hS
  obtain ⟨i, ct, rfl, ei, hS2⟩ := au_S_i hS1
  subst ei; subst ej
  exact lv_icmp_ge X.1 X.2.1 hd ht (fun h => kt (Int32.le_iff_toInt_le.mp h) p e s m args below meth c ad0 ad Lv0 Lv H ls _ locs X hm hP hLn hL hS2 hV hE) (fun h => kf (Int.not_le.mp (fun q => h (Int32.le_iff_toInt_le.mpr q))) p e s m args below meth c ad0 ad Lv0 Lv H ls _ locs X hm hP hLn hL hS2 hV hE)
theorem au_icmp_gt {x y : Int} {off : Int} {tgt : Nat} (hd : decode K.2.1 pc = .ok (.if_icmp .gt off, 3)) (ht : (pc : Int) + off = (tgt : Int)) (kt : y < x → au_Go G K Qf tgt L st M ck cs) (kf : x ≤ y → au_Go G K Qf (pc + 3) L st M ck cs) : au_Go G K Qf pc L (au_i y :: au_i x :: st) M ck cs := by
  intro p e s m args below meth c ad0 ad Lv0 Lv H ls cst locs X hm hP hLn hL hS hV hE
  obtain ⟨j, ct, rfl, ej, hS1⟩ := au_S_i hS
  obtain ⟨i, ct, rfl, ei, hS2⟩ := au_S_i hS1
  subst ei; subst ej
  exact lv_icmp_gt X.1 X.2.1 hd ht (fun h => kt (Int32.lt_iff_toInt_lt.mp h) p e s m args below meth c ad0 ad Lv0 Lv H ls _ locs X hm hP hLn hL hS2 hV hE) (fun h => kf (Int.not_lt.mp (fun q => h (Int32.lt_iff_toInt_lt.mpr q))) p e s m args below meth c ad0 ad Lv0 Lv H ls _ locs X hm hP hLn hL hS2 hV hE)
theorem au_icmp_le {x y : Int} {off : Int} {tgt : Nat} (hd : decode K.2.1 pc = .ok (.if_icmp .le off, 3)) (ht : (pc : Int) + off = (tgt : Int)) (kt : x ≤ y → au_Go G K Qf tgt L st M ck cs) (kf : y < x → au_Go G K Qf (pc + 3) L st M ck cs) : au_Go G K Qf pc L (au_i y :: au_i x :: st) M ck cs := by
  intro p e s m args below meth c ad0 ad Lv0 Lv H ls cst locs X hm hP hLn hL hS hV hE
  obtain ⟨j, ct, rfl, ej, hS1⟩ := au_S_i hS
  obtain ⟨i, ct, rfl, ei, hS2⟩ := au_S_i hS1
  subst ei; subst ej
  exact lv_icmp_le X.1 X.2.1 hd ht (fun h => kt (Int32.le_iff_toInt_le.mp h) p e s m args below meth c ad0 ad Lv0 Lv H ls _ locs X hm hP hLn hL hS2 hV hE) (fun h => kf (Int.not_le.mp (fun q => h (Int32.le_iff_toInt_le.mpr q))) p e s m args below meth c ad0 ad Lv0 Lv H ls _ locs X hm hP hLn hL hS2 hV hE)
theorem au_lookup {dflt : Int} {ps : Array (Int × Int)} {len : Nat} {x off : Int} {tgt : Nat} (hd : decode K.2.1 pc = .ok (.lookupswitch dflt ps, len)) (hp : (ps.toList.zip (ps.toList.drop 1)).all (fun (a, next) => a.1 < next.1) = true) (ho : Op.lookupswitch.offset ps.toList dflt x = off) (ht : (pc : Int) + off = (tgt : Int)) (kk : au_Go G K Qf tgt L st M ck cs) : au_Go G K Qf pc L (au_i x :: st) M ck cs := by
  intro p e s m args below meth c ad0 ad Lv0 Lv H ls cst locs X hm hP hLn hL hS hV hE
  obtain ⟨i, ct, rfl, ei, hS1⟩ := au_S_i hS
  subst ei
  exact lv_lookup X.1 X.2.1 hd hp ho ht (kk p e s m args below meth c ad0 ad Lv0 Lv H ls _ locs X hm hP hLn hL hS1 hV hE)
theorem au_tableOut {dflt lo hi : Int} {offs : Array Int} {len : Nat} {x : Int} {tgt : Nat} (hd : decode K.2.1 pc = .ok (.tableswitch dflt lo hi offs, len)) (h : x < lo ∨ hi < x) (ht : (pc : Int) + dflt = (tgt : Int)) (kk : au_Go G K Qf tgt L st M ck cs) : au_Go G K Qf pc L (au_i x :: st) M ck cs := by
  intro p e s m args below meth c ad0 ad Lv0 Lv H ls cst locs X hm hP hLn hL hS hV hE
  obtain ⟨i, ct, rfl, ei, hS1⟩ := au_S_i hS
  subst ei
  exact lv_tableOut X.1 X.2.1 hd h ht (kk p e s m args below meth c ad0 ad Lv0 Lv H ls _ locs X hm hP hLn hL hS1 hV hE)
theorem au_tableIn {dflt lo hi : Int} {offs : Array Int} {len : Nat} {x off : Int} {tgt : Nat} (hd : decode K.2.1 pc = .ok (.tableswitch dflt lo hi offs, len)) (h1 : lo ≤ x) (h2 : x ≤ hi) (ho : offs[(x - lo).toNat]? = some off) (ht : (pc : Int) + off = (tgt : Int)) (kk : au_Go G K Qf tgt L st M ck cs) : au_Go G K Qf pc L (au_i x :: st) M ck cs := by
  intro p e s m args below meth c ad0 ad Lv0 Lv H ls cst locs X hm hP hLn hL hS hV hE
  obtain ⟨i, ct, rfl, ei, hS1⟩ := au_S_i hS
  subst ei
  exact lv_tableIn X.1 X.2.1 hd (Int.not_lt.mpr h1) (Int.not_lt.mpr h2) ho ht (kk p e s m args below meth c ad0 ad Lv0 Lv H ls _ locs X hm hP hLn hL hS1 hV hE)
end AUR
