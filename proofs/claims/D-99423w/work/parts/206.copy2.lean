/-! arraycopy, by where the arrays lie -/
set_option maxRecDepth 100000
theorem au_cp_om {f mi si hi sl : au_A → Int → Int} {r : au_A → Int → Option au_A} {nx : Nat} {a b c : au_A} {sp dp n : Int} (hc : c ≠ b) (q : Nat) (i : Int) : au_val q (au_cp f mi a sp b dp n, si, hi, sl, r, nx) c i = au_val q (mi, si, hi, sl, r, nx) c i := by
  unfold au_val au_gi
  match q with
  | 0 =>
    match au_reg c i with
    | 0 => exact congrArg au_i (if_neg (fun q => hc q.1))
    | 1 => rfl
    | n + 2 => rfl
  | 1 => rfl
  | n + 2 => rfl
theorem au_cp_os {f mi si hi sl : au_A → Int → Int} {r : au_A → Int → Option au_A} {nx : Nat} {a b c : au_A} {sp dp n : Int} (hc : c ≠ b) (q : Nat) (i : Int) : au_val q (mi, au_cp f si a sp b dp n, hi, sl, r, nx) c i = au_val q (mi, si, hi, sl, r, nx) c i := by
  unfold au_val au_gi
  match q with
  | 0 =>
    match au_reg c i with
    | 0 => rfl
    | 1 => exact congrArg au_i (if_neg (fun q => hc q.1))
    | n + 2 => rfl
  | 1 => rfl
  | n + 2 => rfl
theorem au_cp_b (f g : au_A → Int → Int) (a b : au_A) (sp dp n i : Int) : au_cp f g a sp b dp n b i = if dp ≤ i ∧ i < dp + n then f a (sp + (i - dp)) else g b i := by
  unfold au_cp
  by_cases h : dp ≤ i ∧ i < dp + n
  · rw [if_pos h, if_pos ⟨rfl, h⟩]
  · rw [if_neg h, if_neg (fun q => h q.2)]
theorem au_cp_ne (f g : au_A → Int → Int) {a b c : au_A} (sp dp n i : Int) (h : c ≠ b) : au_cp f g a sp b dp n c i = g c i := if_neg (fun q => h q.1)
section AUCQ
variable {G : au_G} {K : au_K} {Qf : au_Qf} {pc : Nat} {L : List (Option au_V)} {st : List au_V} {ck cs : Nat} {mi si hi sl : au_A → Int → Int} {r : au_A → Int → Option au_A} {nx : Nat}
theorem au_copy_mm {own : String} {index : Nat} {a b : au_A} {sp dp n : Int} (hq : (Cond.methodLink own index arraycopyName) ∈ lw_all) (hqn : (Cond.native arraycopyName) ∈ lw_all) (hqs : (Cond.static arraycopyName) ∈ lw_all) (hqi : (Cond.initialized "java/lang/System") ∈ lw_all) (ho : K.1 = own) (ha : a.2.2 = 40) (hb : b.2.2 = 40) (hra : ∀ j, au_reg a j = 0) (hrb : ∀ j, au_reg b j = 0) (hnew : 1000 ≤ b.1) (h1 : 0 ≤ sp) (h2 : 0 ≤ dp) (h3 : 0 ≤ n) (h4 : sp + n ≤ (a.2.1 : Int)) (h5 : dp + n ≤ (b.2.1 : Int)) (hsum : (st.map au_cat).sum ≤ 8) (hR1 : 1 ≤ K.2.2.2.2.1.frames) (hR2 : 8 + (nativeFrameWords "java/lang/System" "arraycopy" 5 + 11) ≤ K.2.2.2.2.1.locals) (hd : decode K.2.1 pc = .ok (.invokestatic index, 3))
    (kk : au_Go G K Qf (pc + 3) L st (au_cp mi mi a sp b dp n, si, hi, sl, r, nx) ck cs) : au_Go G K Qf pc L (au_i n :: au_i dp :: au_r b :: au_i sp :: au_r a :: st) (mi, si, hi, sl, r, nx) ck cs :=
  au_copyI (M' := (au_cp mi mi a sp b dp n, si, hi, sl, r, nx)) hq hqn hqs hqi ho ha hb hnew h1 h2 h3 h4 h5 hsum hR1 hR2 hd rfl (fun c hc q i => au_cp_om hc q i) (fun i _ => by
    rw [au_gi_m (hrb _), au_gi_m (hra _), au_gi_m (hrb _)]
    exact au_cp_b mi mi a b sp dp n (i : Int)) kk
theorem au_copy_sm {own : String} {index : Nat} {a b : au_A} {sp dp n : Int} (hq : (Cond.methodLink own index arraycopyName) ∈ lw_all) (hqn : (Cond.native arraycopyName) ∈ lw_all) (hqs : (Cond.static arraycopyName) ∈ lw_all) (hqi : (Cond.initialized "java/lang/System") ∈ lw_all) (ho : K.1 = own) (ha : a.2.2 = 40) (hb : b.2.2 = 40) (hra : ∀ j, au_reg a j = 1) (hrb : ∀ j, au_reg b j = 0) (hnew : 1000 ≤ b.1) (h1 : 0 ≤ sp) (h2 : 0 ≤ dp) (h3 : 0 ≤ n) (h4 : sp + n ≤ (a.2.1 : Int)) (h5 : dp + n ≤ (b.2.1 : Int)) (hsum : (st.map au_cat).sum ≤ 8) (hR1 : 1 ≤ K.2.2.2.2.1.frames) (hR2 : 8 + (nativeFrameWords "java/lang/System" "arraycopy" 5 + 11) ≤ K.2.2.2.2.1.locals) (hd : decode K.2.1 pc = .ok (.invokestatic index, 3))
    (kk : au_Go G K Qf (pc + 3) L st (au_cp si mi a sp b dp n, si, hi, sl, r, nx) ck cs) : au_Go G K Qf pc L (au_i n :: au_i dp :: au_r b :: au_i sp :: au_r a :: st) (mi, si, hi, sl, r, nx) ck cs :=
  au_copyI (M' := (au_cp si mi a sp b dp n, si, hi, sl, r, nx)) hq hqn hqs hqi ho ha hb hnew h1 h2 h3 h4 h5 hsum hR1 hR2 hd rfl (fun c hc q i => au_cp_om hc q i) (fun i _ => by
    rw [au_gi_m (hrb _), au_gi_s (hra _), au_gi_m (hrb _)]
    exact au_cp_b si mi a b sp dp n (i : Int)) kk
theorem au_copy_ss {own : String} {index : Nat} {a b : au_A} {sp dp n : Int} (hq : (Cond.methodLink own index arraycopyName) ∈ lw_all) (hqn : (Cond.native arraycopyName) ∈ lw_all) (hqs : (Cond.static arraycopyName) ∈ lw_all) (hqi : (Cond.initialized "java/lang/System") ∈ lw_all) (ho : K.1 = own) (ha : a.2.2 = 40) (hb : b.2.2 = 40) (hra : ∀ j, au_reg a j = 1) (hrb : ∀ j, au_reg b j = 1) (hnew : 1000 ≤ b.1) (h1 : 0 ≤ sp) (h2 : 0 ≤ dp) (h3 : 0 ≤ n) (h4 : sp + n ≤ (a.2.1 : Int)) (h5 : dp + n ≤ (b.2.1 : Int)) (hsum : (st.map au_cat).sum ≤ 8) (hR1 : 1 ≤ K.2.2.2.2.1.frames) (hR2 : 8 + (nativeFrameWords "java/lang/System" "arraycopy" 5 + 11) ≤ K.2.2.2.2.1.locals) (hd : decode K.2.1 pc = .ok (.invokestatic index, 3))
    (kk : au_Go G K Qf (pc + 3) L st (mi, au_cp si si a sp b dp n, hi, sl, r, nx) ck cs) : au_Go G K Qf pc L (au_i n :: au_i dp :: au_r b :: au_i sp :: au_r a :: st) (mi, si, hi, sl, r, nx) ck cs :=
  au_copyI (M' := (mi, au_cp si si a sp b dp n, hi, sl, r, nx)) hq hqn hqs hqi ho ha hb hnew h1 h2 h3 h4 h5 hsum hR1 hR2 hd rfl (fun c hc q i => au_cp_os hc q i) (fun i _ => by
    rw [au_gi_s (hrb _), au_gi_s (hra _), au_gi_s (hrb _)]
    exact au_cp_b si si a b sp dp n (i : Int)) kk
end AUCQ
theorem au_reg_row {q : Nat} (h : q = 1003 ∨ q = 1107) (j : Int) : au_reg (q, 204, 40) j = 0 := by
  rcases h with rfl | rfl
  · rfl
  · rfl
