/-! BASE: the two systems' own cells, by name; constant references; truth values (printed by tools/gen_base.py) -/
set_option maxRecDepth 100000
abbrev XO : au_A := (1000, 0, 0)
abbrev XN : au_A := (1001, 0, 1)
abbrev XNn : au_A := (1002, 6, 40)
abbrev XNrow : au_A := (1003, 204, 40)
abbrev XNboss : au_A := (1004, 10, 40)
abbrev XNpride : au_A := (1005, 10, 40)
abbrev XNcousin : au_A := (1006, 10, 40)
abbrev XNweight : au_A := (1007, 10, 40)
abbrev XNpile : au_A := (1008, 8, 40)
abbrev XNturn : au_A := (1009, 2, 44)
abbrev XNadded : au_A := (1012, 8, 44)
abbrev XNstep : au_A := (1021, 30, 44)
abbrev XNtext : au_A := (1052, 4, 47)
abbrev XI : au_A := (1053, 0, 1)
abbrev XIn : au_A := (1054, 6, 40)
abbrev XIrow : au_A := (1055, 204, 40)
abbrev XIboss : au_A := (1056, 10, 40)
abbrev XIpride : au_A := (1057, 10, 40)
abbrev XIcousin : au_A := (1058, 10, 40)
abbrev XIweight : au_A := (1059, 10, 40)
abbrev XIpile : au_A := (1060, 8, 40)
abbrev XIturn : au_A := (1061, 2, 44)
abbrev XIadded : au_A := (1064, 8, 44)
abbrev XIstep : au_A := (1073, 30, 44)
abbrev XItext : au_A := (1104, 4, 47)
abbrev XTape : au_A := (1105, 300, 41)
abbrev XNames : au_A := (1106, 19, 40)
abbrev XTried : au_A := (1107, 204, 40)
abbrev XWay : au_A := (1108, 10, 40)
abbrev XBest : au_A := (1109, 10, 40)
abbrev XWith : au_A := (1110, 8, 40)
abbrev MO : au_A := (1111, 0, 2)
abbrev MA : au_A := (1112, 4544, 40)
abbrev MI : au_A := (1113, 4544, 40)
abbrev MT : au_A := (1114, 2820, 40)
abbrev MTape : au_A := (1115, 300, 40)
abbrev MWait : au_A := (1116, 160, 40)
abbrev MNamed : au_A := (1117, 9, 40)
abbrev MVal : au_A := (1118, 330, 42)
abbrev MTruth : au_A := (1119, 330, 43)
abbrev MAside : au_A := (1120, 90, 40)
abbrev MDays : au_A := (1121, 10, 40)
abbrev MWay : au_A := (1122, 11, 40)
abbrev MSize : au_A := (1123, 11, 40)
abbrev MBest : au_A := (1124, 11, 40)
abbrev MWith : au_A := (1125, 8, 40)
def au_fl : List (au_A × Int × au_A) := [(XO, 0, XN), (XO, 1, XI), (XO, 2, XTape), (XO, 6, XNames), (XO, 7, XTried), (XO, 8, XWay), (XO, 9, XBest), (XO, 13, XWith), (XN, 0, XNn), (XN, 1, XNrow), (XN, 2, XNboss), (XN, 3, XNpride), (XN, 4, XNcousin), (XN, 5, XNweight), (XN, 6, XNpile), (XN, 7, XNturn), (XN, 8, XNadded), (XN, 9, XNstep), (XN, 10, XNtext), (XI, 0, XIn), (XI, 1, XIrow), (XI, 2, XIboss), (XI, 3, XIpride), (XI, 4, XIcousin), (XI, 5, XIweight), (XI, 6, XIpile), (XI, 7, XIturn), (XI, 8, XIadded), (XI, 9, XIstep), (XI, 10, XItext), (MO, 0, MA), (MO, 1, MI), (MO, 2, MT), (MO, 3, MTape), (MO, 15, MWait), (MO, 20, MNamed), (MO, 21, MVal), (MO, 22, MTruth), (MO, 26, MAside), (MO, 27, MDays), (MO, 28, MWay), (MO, 29, MSize), (MO, 30, MBest), (MO, 33, MWith)]
/-- the references that never change -/
def Fix (r : au_A → Int → Option au_A) : Prop := (∀ q ∈ au_fl, r q.1 q.2.1 = some q.2.2) ∧ (∀ k : Nat, k < 30 → r XNstep k = some (1022 + k, 204, 40) ∧ r XIstep k = some (1074 + k, 204, 40)) ∧ (∀ k : Nat, k < 8 → r XNadded k = some (1013 + k, 2, 40) ∧ r XIadded k = some (1065 + k, 2, 40)) ∧ (∀ k : Nat, k < 2 → r XNturn k = some (1010 + k, 5, 40) ∧ r XIturn k = some (1062 + k, 5, 40))
theorem fx_XO_0 {r : au_A → Int → Option au_A} (h : Fix r) : r XO 0 = some XN := h.1 (XO, 0, XN) (List.mem_of_getElem? (i := 0) rfl)
theorem fx_XO_1 {r : au_A → Int → Option au_A} (h : Fix r) : r XO 1 = some XI := h.1 (XO, 1, XI) (List.mem_of_getElem? (i := 1) rfl)
theorem fx_XO_2 {r : au_A → Int → Option au_A} (h : Fix r) : r XO 2 = some XTape := h.1 (XO, 2, XTape) (List.mem_of_getElem? (i := 2) rfl)
theorem fx_XO_6 {r : au_A → Int → Option au_A} (h : Fix r) : r XO 6 = some XNames := h.1 (XO, 6, XNames) (List.mem_of_getElem? (i := 3) rfl)
theorem fx_XO_7 {r : au_A → Int → Option au_A} (h : Fix r) : r XO 7 = some XTried := h.1 (XO, 7, XTried) (List.mem_of_getElem? (i := 4) rfl)
theorem fx_XO_8 {r : au_A → Int → Option au_A} (h : Fix r) : r XO 8 = some XWay := h.1 (XO, 8, XWay) (List.mem_of_getElem? (i := 5) rfl)
theorem fx_XO_9 {r : au_A → Int → Option au_A} (h : Fix r) : r XO 9 = some XBest := h.1 (XO, 9, XBest) (List.mem_of_getElem? (i := 6) rfl)
theorem fx_XO_13 {r : au_A → Int → Option au_A} (h : Fix r) : r XO 13 = some XWith := h.1 (XO, 13, XWith) (List.mem_of_getElem? (i := 7) rfl)
theorem fx_XN_0 {r : au_A → Int → Option au_A} (h : Fix r) : r XN 0 = some XNn := h.1 (XN, 0, XNn) (List.mem_of_getElem? (i := 8) rfl)
theorem fx_XN_1 {r : au_A → Int → Option au_A} (h : Fix r) : r XN 1 = some XNrow := h.1 (XN, 1, XNrow) (List.mem_of_getElem? (i := 9) rfl)
theorem fx_XN_2 {r : au_A → Int → Option au_A} (h : Fix r) : r XN 2 = some XNboss := h.1 (XN, 2, XNboss) (List.mem_of_getElem? (i := 10) rfl)
theorem fx_XN_3 {r : au_A → Int → Option au_A} (h : Fix r) : r XN 3 = some XNpride := h.1 (XN, 3, XNpride) (List.mem_of_getElem? (i := 11) rfl)
theorem fx_XN_4 {r : au_A → Int → Option au_A} (h : Fix r) : r XN 4 = some XNcousin := h.1 (XN, 4, XNcousin) (List.mem_of_getElem? (i := 12) rfl)
theorem fx_XN_5 {r : au_A → Int → Option au_A} (h : Fix r) : r XN 5 = some XNweight := h.1 (XN, 5, XNweight) (List.mem_of_getElem? (i := 13) rfl)
theorem fx_XN_6 {r : au_A → Int → Option au_A} (h : Fix r) : r XN 6 = some XNpile := h.1 (XN, 6, XNpile) (List.mem_of_getElem? (i := 14) rfl)
theorem fx_XN_7 {r : au_A → Int → Option au_A} (h : Fix r) : r XN 7 = some XNturn := h.1 (XN, 7, XNturn) (List.mem_of_getElem? (i := 15) rfl)
theorem fx_XN_8 {r : au_A → Int → Option au_A} (h : Fix r) : r XN 8 = some XNadded := h.1 (XN, 8, XNadded) (List.mem_of_getElem? (i := 16) rfl)
theorem fx_XN_9 {r : au_A → Int → Option au_A} (h : Fix r) : r XN 9 = some XNstep := h.1 (XN, 9, XNstep) (List.mem_of_getElem? (i := 17) rfl)
theorem fx_XN_10 {r : au_A → Int → Option au_A} (h : Fix r) : r XN 10 = some XNtext := h.1 (XN, 10, XNtext) (List.mem_of_getElem? (i := 18) rfl)
theorem fx_XI_0 {r : au_A → Int → Option au_A} (h : Fix r) : r XI 0 = some XIn := h.1 (XI, 0, XIn) (List.mem_of_getElem? (i := 19) rfl)
theorem fx_XI_1 {r : au_A → Int → Option au_A} (h : Fix r) : r XI 1 = some XIrow := h.1 (XI, 1, XIrow) (List.mem_of_getElem? (i := 20) rfl)
theorem fx_XI_2 {r : au_A → Int → Option au_A} (h : Fix r) : r XI 2 = some XIboss := h.1 (XI, 2, XIboss) (List.mem_of_getElem? (i := 21) rfl)
theorem fx_XI_3 {r : au_A → Int → Option au_A} (h : Fix r) : r XI 3 = some XIpride := h.1 (XI, 3, XIpride) (List.mem_of_getElem? (i := 22) rfl)
theorem fx_XI_4 {r : au_A → Int → Option au_A} (h : Fix r) : r XI 4 = some XIcousin := h.1 (XI, 4, XIcousin) (List.mem_of_getElem? (i := 23) rfl)
theorem fx_XI_5 {r : au_A → Int → Option au_A} (h : Fix r) : r XI 5 = some XIweight := h.1 (XI, 5, XIweight) (List.mem_of_getElem? (i := 24) rfl)
theorem fx_XI_6 {r : au_A → Int → Option au_A} (h : Fix r) : r XI 6 = some XIpile := h.1 (XI, 6, XIpile) (List.mem_of_getElem? (i := 25) rfl)
theorem fx_XI_7 {r : au_A → Int → Option au_A} (h : Fix r) : r XI 7 = some XIturn := h.1 (XI, 7, XIturn) (List.mem_of_getElem? (i := 26) rfl)
theorem fx_XI_8 {r : au_A → Int → Option au_A} (h : Fix r) : r XI 8 = some XIadded := h.1 (XI, 8, XIadded) (List.mem_of_getElem? (i := 27) rfl)
theorem fx_XI_9 {r : au_A → Int → Option au_A} (h : Fix r) : r XI 9 = some XIstep := h.1 (XI, 9, XIstep) (List.mem_of_getElem? (i := 28) rfl)
theorem fx_XI_10 {r : au_A → Int → Option au_A} (h : Fix r) : r XI 10 = some XItext := h.1 (XI, 10, XItext) (List.mem_of_getElem? (i := 29) rfl)
theorem fx_MO_0 {r : au_A → Int → Option au_A} (h : Fix r) : r MO 0 = some MA := h.1 (MO, 0, MA) (List.mem_of_getElem? (i := 30) rfl)
theorem fx_MO_1 {r : au_A → Int → Option au_A} (h : Fix r) : r MO 1 = some MI := h.1 (MO, 1, MI) (List.mem_of_getElem? (i := 31) rfl)
theorem fx_MO_2 {r : au_A → Int → Option au_A} (h : Fix r) : r MO 2 = some MT := h.1 (MO, 2, MT) (List.mem_of_getElem? (i := 32) rfl)
theorem fx_MO_3 {r : au_A → Int → Option au_A} (h : Fix r) : r MO 3 = some MTape := h.1 (MO, 3, MTape) (List.mem_of_getElem? (i := 33) rfl)
theorem fx_MO_15 {r : au_A → Int → Option au_A} (h : Fix r) : r MO 15 = some MWait := h.1 (MO, 15, MWait) (List.mem_of_getElem? (i := 34) rfl)
theorem fx_MO_20 {r : au_A → Int → Option au_A} (h : Fix r) : r MO 20 = some MNamed := h.1 (MO, 20, MNamed) (List.mem_of_getElem? (i := 35) rfl)
theorem fx_MO_21 {r : au_A → Int → Option au_A} (h : Fix r) : r MO 21 = some MVal := h.1 (MO, 21, MVal) (List.mem_of_getElem? (i := 36) rfl)
theorem fx_MO_22 {r : au_A → Int → Option au_A} (h : Fix r) : r MO 22 = some MTruth := h.1 (MO, 22, MTruth) (List.mem_of_getElem? (i := 37) rfl)
theorem fx_MO_26 {r : au_A → Int → Option au_A} (h : Fix r) : r MO 26 = some MAside := h.1 (MO, 26, MAside) (List.mem_of_getElem? (i := 38) rfl)
theorem fx_MO_27 {r : au_A → Int → Option au_A} (h : Fix r) : r MO 27 = some MDays := h.1 (MO, 27, MDays) (List.mem_of_getElem? (i := 39) rfl)
theorem fx_MO_28 {r : au_A → Int → Option au_A} (h : Fix r) : r MO 28 = some MWay := h.1 (MO, 28, MWay) (List.mem_of_getElem? (i := 40) rfl)
theorem fx_MO_29 {r : au_A → Int → Option au_A} (h : Fix r) : r MO 29 = some MSize := h.1 (MO, 29, MSize) (List.mem_of_getElem? (i := 41) rfl)
theorem fx_MO_30 {r : au_A → Int → Option au_A} (h : Fix r) : r MO 30 = some MBest := h.1 (MO, 30, MBest) (List.mem_of_getElem? (i := 42) rfl)
theorem fx_MO_33 {r : au_A → Int → Option au_A} (h : Fix r) : r MO 33 = some MWith := h.1 (MO, 33, MWith) (List.mem_of_getElem? (i := 43) rfl)
noncomputable def au_b (P : Prop) : Int := @ite Int P (Classical.propDecidable P) 1 0
theorem au_bt {P : Prop} (h : P) : au_b P = 1 := if_pos h
theorem au_bf {P : Prop} (h : ¬ P) : au_b P = 0 := if_neg h
theorem au_b0 {P : Prop} (h : au_b P = 0) : ¬ P := fun q => by rw [au_bt q] at h; exact absurd h (by decide)
theorem au_b1 {P : Prop} (h : ¬ au_b P = 0) : P := Classical.byContradiction (fun q => h (au_bf q))
theorem au_b_01 {P : Prop} : au_b P = 0 ∨ au_b P = 1 := by
  by_cases h : P
  · exact Or.inr (au_bt h)
  · exact Or.inl (au_bf h)
theorem au_bc1e {P : Prop} (h : au_b P = 1) : P := au_b1 (by rw [h]; decide)
theorem au_bc1n {P : Prop} (h : ¬ au_b P = 1) : ¬ P := fun q => h (au_bt q)
theorem au_bc0e {P : Prop} (h : au_b P = 0) : ¬ P := au_b0 h
theorem au_bc0n {P : Prop} (h : ¬ au_b P = 0) : P := au_b1 h
theorem au_b_congr {P Q : Prop} (h : P ↔ Q) : au_b P = au_b Q := by rw [propext h]
/-- an answer 1 or 0 by a case that is known -/
theorem au_pt {P : Prop} {M M' : au_M} (h : P) (hM : M' = M) : au_pure (au_i (au_b P)) M (some (au_i 1)) M' := ⟨by rw [au_bt h], hM⟩
theorem au_pf {P : Prop} {M M' : au_M} (h : ¬ P) (hM : M' = M) : au_pure (au_i (au_b P)) M (some (au_i 0)) M' := ⟨by rw [au_bf h], hM⟩
theorem au_pe {x y : Int} {M M' : au_M} (h : x = y) (hM : M' = M) : au_pure (au_i y) M (some (au_i x)) M' := ⟨by rw [h], hM⟩
theorem au_cmp_eqt {x y : Int} (h : au_cmp x y = 0) : x = y := by unfold au_cmp at h; split at h; omega; split at h; assumption; omega
theorem au_cmp_eqf {x y : Int} (h : ¬ au_cmp x y = 0) : ¬ x = y := fun q => h (by unfold au_cmp; rw [if_neg (by omega), if_pos q])
theorem au_cmp_net {x y : Int} (h : ¬ au_cmp x y = 0) : ¬ x = y := au_cmp_eqf h
theorem au_cmp_nef {x y : Int} (h : au_cmp x y = 0) : x = y := by unfold au_cmp at h; split at h; omega; split at h; assumption; omega
theorem au_cmp_ltt {x y : Int} (h : au_cmp x y < 0) : x < y := by unfold au_cmp at h; split at h; omega; split at h <;> omega
theorem au_cmp_ltf {x y : Int} (h : 0 ≤ au_cmp x y) : y ≤ x := by unfold au_cmp at h; split at h; omega; split at h <;> omega
theorem au_cmp_get {x y : Int} (h : 0 ≤ au_cmp x y) : y ≤ x := au_cmp_ltf h
theorem au_cmp_gef {x y : Int} (h : au_cmp x y < 0) : x < y := au_cmp_ltt h
theorem au_cmp_gtt {x y : Int} (h : 0 < au_cmp x y) : y < x := by unfold au_cmp at h; split at h; omega; split at h <;> omega
theorem au_cmp_gtf {x y : Int} (h : au_cmp x y ≤ 0) : x ≤ y := by unfold au_cmp at h; split at h; omega; split at h <;> omega
theorem au_cmp_let {x y : Int} (h : au_cmp x y ≤ 0) : x ≤ y := au_cmp_gtf h
theorem au_cmp_lef {x y : Int} (h : 0 < au_cmp x y) : y < x := au_cmp_gtt h
theorem au_wv_m {M : au_M} {a : au_A} {j x : Int} (h : au_reg a j = 0) : au_wv 0 M a j (au_i x) = (au_up M.1 a j x, M.2) := by
  show au_wi M a j x = _
  unfold au_wi
  rw [h]
  rfl
theorem au_wv_s {M : au_M} {a : au_A} {j x : Int} (h : au_reg a j = 1) : au_wv 0 M a j (au_i x) = (M.1, au_up M.2.1 a j x, M.2.2) := by
  show au_wi M a j x = _
  unfold au_wi
  rw [h]
  rfl
theorem au_wv_h {M : au_M} {a : au_A} {j x : Int} (h : au_reg a j = 2) : au_wv 0 M a j (au_i x) = (M.1, M.2.1, au_up M.2.2.1 a j x, M.2.2.2) := by
  show au_wi M a j x = _
  unfold au_wi
  rw [h]
  rfl
theorem au_gi_m {M : au_M} {a : au_A} {j : Int} (h : au_reg a j = 0) : au_gi M a j = M.1 a j := by
  unfold au_gi
  rw [h]
  rfl
theorem au_gi_s {M : au_M} {a : au_A} {j : Int} (h : au_reg a j = 1) : au_gi M a j = M.2.1 a j := by
  unfold au_gi
  rw [h]
  rfl
theorem au_gi_h {M : au_M} {a : au_A} {j : Int} (h : au_reg a j = 2) : au_gi M a j = M.2.2.1 a j := by
  unfold au_gi
  rw [h]
  rfl
theorem au_up_at {f : au_A → Int → Int} {a b : au_A} {j k v : Int} : au_up f a j v b k = if b = a ∧ k = j then v else f b k := rfl
/-- the places 0 .. n-1 of an array set -/
def au_fil (f : au_A → Int → Int) (a : au_A) (n v : Int) : au_A → Int → Int := fun b k => if b = a ∧ 0 ≤ k ∧ k < n then v else f b k
theorem au_fil_0 (f : au_A → Int → Int) (a : au_A) (v : Int) : au_fil f a 0 v = f := by
  funext b k
  unfold au_fil
  rw [if_neg (by omega)]
theorem au_fil_s (f : au_A → Int → Int) (a : au_A) {n : Int} (hn : 0 ≤ n) (v : Int) : au_up (au_fil f a n v) a n v = au_fil f a (n + 1) v := by
  funext b k
  show (if b = a ∧ k = n then v else (if b = a ∧ 0 ≤ k ∧ k < n then v else f b k)) = (if b = a ∧ 0 ≤ k ∧ k < n + 1 then v else f b k)
  grind
theorem au_reg_lo {n len kd : Nat} (h1 : 1001 ≤ n) (h2 : n ≤ 1105) (j : Int) : au_reg (n, len, kd) j = 0 := by
  unfold au_reg au_scr
  rw [if_pos (by simp; omega)]
  rw [if_neg]
  simp
  omega
theorem fx_turn {r : au_A → Int → Option au_A} (h : Fix r) {k : Int} (h0 : 0 ≤ k) (h1 : k < 2) : r XNturn k = some (1010 + k.toNat, 5, 40) := by
  obtain ⟨j, rfl⟩ := Int.eq_ofNat_of_zero_le h0
  exact (h.2.2.2 j (by omega)).1
theorem fx_added {r : au_A → Int → Option au_A} (h : Fix r) {k : Int} (h0 : 0 ≤ k) (h1 : k < 8) : r XNadded k = some (1013 + k.toNat, 2, 40) := by
  obtain ⟨j, rfl⟩ := Int.eq_ofNat_of_zero_le h0
  exact (h.2.2.1 j (by omega)).1
theorem fx_step {r : au_A → Int → Option au_A} (h : Fix r) {k : Int} (h0 : 0 ≤ k) (h1 : k < 30) : r XNstep k = some (1022 + k.toNat, 204, 40) := by
  obtain ⟨j, rfl⟩ := Int.eq_ofNat_of_zero_le h0
  exact (h.2.1 j (by omega)).1
