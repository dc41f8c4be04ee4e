/-! THE MODEL: the next sign (printed by tools/m88.py) -/
set_option maxRecDepth 100000
set_option maxHeartbeats 4000000

/-- the kind of the sign that begins at q -/
noncomputable def tkM (T : Int → Int) (n q : Int) : Int := if ¬ q < n then 0 else if diC (T q) = true then 1 else if leC (T q) = true then 2 else if eqN T n q = true then (if T q = 60 then 4 else 5) else @ite Int (sgC' (T q) = true ∨ T q = 58) (Classical.propDecidable _) (T q) 3
/-- the model's signs stand at p -/
def LxM (T : Int → Int) (n p : Int) (si sl : au_A → Int → Int) : Prop := si MO 7 = lxE T n p ∧ si MO 8 = lxP T n p ∧ si MO 9 = tkM T n (lxP T n p) ∧ (tkM T n (lxP T n p) = 1 → min 99999 (si MO 10) = lxN T n p ∧ 0 ≤ si MO 10 ∧ si MO 10 ≤ 999999) ∧ (tkM T n (lxP T n p) = 2 → sl MO 11 = lxK T n p)
theorem leC_diC {c : Int} (h : diC c = true) : ¬ leC c = true := fun z => by
  have h1 := of_decide_eq_true h
  have h2 := of_decide_eq_true z
  omega
theorem LxM_end {T : Int → Int} {n p q : Int} {si sl : au_A → Int → Int} (hq : q = lxP T n p) (h : ¬ q < n) (h7 : si MO 7 = q) (h8 : si MO 8 = q) (h9 : si MO 9 = 0) : LxM T n p si sl := by
  have ht : tkM T n q = 0 := if_pos h
  have he : lxE T n p = q := by unfold lxE; rw [← hq]; exact if_pos h
  unfold LxM
  rw [← hq, he, ht]
  exact ⟨h7, h8, h9, fun z => absurd z (by decide), fun z => absurd z (by decide)⟩
theorem LxM_num {T : Int → Int} {n p q : Int} {si sl : au_A → Int → Int} (hq : q = lxP T n p) (h : q < n) (hd : diC (T q) = true) (h7 : si MO 7 = scn T n diC 301 q) (h8 : si MO 8 = q) (h9 : si MO 9 = 1) (h10 : min 99999 (si MO 10) = fld T nuS (scn T n diC 301 q - q).toNat q 0) (hb : 0 ≤ si MO 10 ∧ si MO 10 ≤ 999999) : LxM T n p si sl := by
  have ht : tkM T n q = 1 := by unfold tkM; rw [if_neg (by omega), if_pos hd]
  have he : lxE T n p = scn T n diC 301 q := by unfold lxE lxEq; rw [← hq, if_neg (by omega), if_neg (leC_diC hd), if_pos hd]
  have hN : lxN T n p = fld T nuS (scn T n diC 301 q - q).toNat q 0 := by unfold lxN; rw [he, ← hq]
  unfold LxM
  rw [← hq, he, ht, hN]
  exact ⟨h7, h8, h9, fun _ => ⟨h10, hb⟩, fun z => absurd z (by decide)⟩
theorem LxM_word {T : Int → Int} {n p q : Int} {si sl : au_A → Int → Int} (hq : q = lxP T n p) (h : q < n) (hd : ¬ diC (T q) = true) (hl : leC (T q) = true) (h7 : si MO 7 = scn T n leC 301 q) (h8 : si MO 8 = q) (h9 : si MO 9 = 2) (h11 : sl MO 11 = fld T pkS (scn T n leC 301 q - q).toNat q 0) : LxM T n p si sl := by
  have ht : tkM T n q = 2 := by unfold tkM; rw [if_neg (by omega), if_neg hd, if_pos hl]
  have he : lxE T n p = scn T n leC 301 q := by unfold lxE lxEq; rw [← hq, if_neg (by omega), if_pos hl]
  have hK : lxK T n p = fld T pkS (scn T n leC 301 q - q).toNat q 0 := by unfold lxK; rw [he, ← hq]
  unfold LxM
  rw [← hq, he, ht, hK]
  exact ⟨h7, h8, h9, fun z => absurd z (by decide), fun _ => h11⟩
theorem LxM_sign {T : Int → Int} {n p q : Int} {si sl : au_A → Int → Int} (hq : q = lxP T n p) (h : q < n) (hT : 0 ≤ T q) (hd : ¬ diC (T q) = true) (hl : ¬ leC (T q) = true) (h7 : si MO 7 = if eqN T n q = true then q + 2 else q + 1) (h8 : si MO 8 = q) (h9 : si MO 9 = if eqN T n q = true then (if T q = 60 then 4 else 5) else @ite Int (sgC' (T q) = true ∨ T q = 58) (Classical.propDecidable _) (T q) 3) : LxM T n p si sl := by
  have ht : tkM T n q = if eqN T n q = true then (if T q = 60 then 4 else 5) else @ite Int (sgC' (T q) = true ∨ T q = 58) (Classical.propDecidable _) (T q) 3 := by unfold tkM; rw [if_neg (by omega), if_neg hd, if_neg hl]
  have he : lxE T n p = if eqN T n q = true then q + 2 else q + 1 := by unfold lxE lxEq; rw [← hq, if_neg (by omega), if_neg hl, if_neg hd]
  have hr : 3 ≤ tkM T n q := by
    rw [ht]
    split
    · split <;> decide
    · split
      · rename_i z
        rcases z with z | z
        · have := of_decide_eq_true z; omega
        · omega
      · decide
  unfold LxM
  rw [← hq, he]
  exact ⟨h7, h8, h9.trans ht.symm, fun z => absurd z (by omega), fun z => absurd z (by omega)⟩
theorem byt_in {T : Int → Int} {n k : Int} (h : k < n) : byt T n k = T k := if_pos h
theorem byt_out {T : Int → Int} {n k : Int} (h : ¬ k < n) : byt T n k = -1 := if_neg h
theorem byt_f {T : Int → Int} {n k : Int} {f : Int → Bool} (hf : f (-1) = false) : f (byt T n k) = true ↔ (k < n ∧ f (T k) = true) := by
  by_cases h : k < n
  · rw [byt_in h]; exact ⟨fun z => ⟨h, z⟩, fun z => z.2⟩
  · rw [byt_out h, hf]; exact ⟨fun z => Bool.noConfusion z, fun z => absurd z.1 h⟩
theorem scn_s {T : Int → Int} {n : Int} {f : Int → Bool} {k : Nat} {p : Int} (h : p < n ∧ f (T p) = true) : scn T n f (k + 1) p = scn T n f k (p + 1) := if_pos h
theorem scn_n {T : Int → Int} {n : Int} {f : Int → Bool} {k : Nat} {p : Int} (h : ¬ (p < n ∧ f (T p) = true)) : scn T n f (k + 1) p = p := if_neg h
theorem fld_s {T : Int → Int} {g : Int → Int → Int} {a p w : Int} (h : p + 1 ≤ a) : fld T g (a - p).toNat p w = fld T g (a - (p + 1)).toNat (p + 1) (g w (T p)) := by
  rw [show (a - p).toNat = (a - (p + 1)).toNat + 1 by omega]; rfl
theorem nuS_min {v c : Int} (hc : 48 ≤ c ∧ c ≤ 57) (hv : 0 ≤ v) : min 99999 (if 99999 < v then v else 10 * v + c - 48) = nuS (min 99999 v) c := by
  unfold nuS
  split <;> omega

theorem kX2_nextToken (G : au_G) (p : Int) (mi si hi sl : au_A → Int → Int) (r : au_A → Int → Option au_A) (nx : Nat) (hF : Fix r) (hTp : TpOK (mi MTape) (mi MO 4)) (hat : si MO 7 = p) (h0 : 0 ≤ p) (h1 : p ≤ mi MO 4) : au_Ctr G yX2_nextToken cX2_nextToken 2 none 1 0 0 [au_r MO] (mi, si, hi, sl, r, nx) (fun rv M' => rv = none ∧ ∃ si' sl' : au_A → Int → Int, M' = (mi, si', hi, sl', r, nx) ∧ LxM (mi MTape) (mi MO 4) p si' sl' ∧ (∀ (a : au_A) (j : Int), ¬ (a = MO ∧ 7 ≤ j ∧ j ≤ 10) → si' a j = si a j) ∧ (∀ (a : au_A) (j : Int), ¬ (a = MO ∧ j = 11) → sl' a j = sl a j)) := by
  refine au_of (by decide) (Nat.le_of_ble_eq_true rfl) ?_
  have hn := hTp.1
  have hskip : ∀ (k : Nat) (s2 : au_A → Int → Int), 0 ≤ s2 MO 7 → s2 MO 7 ≤ mi MO 4 → mi MO 4 - s2 MO 7 < k → (∀ s3 : au_A → Int → Int, s3 MO 7 = scn (mi MTape) (mi MO 4) wsC k (s2 MO 7) → (∀ (a : au_A) (j : Int), ¬ (a = MO ∧ j = 7) → s3 a j = s2 a j) → au_Go G (yX2_nextToken.cls, cX2_nextToken, 2, none, au_rm 1 0 0, yX2_nextToken.name) (au_QM G (au_rm 1 0 0) (fun rv M' => rv = none ∧ ∃ si' sl' : au_A → Int → Int, M' = (mi, si', hi, sl', r, nx) ∧ LxM (mi MTape) (mi MO 4) p si' sl' ∧ (∀ (a : au_A) (j : Int), ¬ (a = MO ∧ 7 ≤ j ∧ j ≤ 10) → si' a j = si a j) ∧ (∀ (a : au_A) (j : Int), ¬ (a = MO ∧ j = 11) → sl' a j = sl a j))) 39 [some (au_r MO), none] [] (mi, s3, hi, sl, r, nx) 0 0) → au_Go G (yX2_nextToken.cls, cX2_nextToken, 2, none, au_rm 1 0 0, yX2_nextToken.name) (au_QM G (au_rm 1 0 0) (fun rv M' => rv = none ∧ ∃ si' sl' : au_A → Int → Int, M' = (mi, si', hi, sl', r, nx) ∧ LxM (mi MTape) (mi MO 4) p si' sl' ∧ (∀ (a : au_A) (j : Int), ¬ (a = MO ∧ 7 ≤ j ∧ j ≤ 10) → si' a j = si a j) ∧ (∀ (a : au_A) (j : Int), ¬ (a = MO ∧ j = 11) → sl' a j = sl a j))) 0 [some (au_r MO), none] [] (mi, s2, hi, sl, r, nx) 0 0 := by
    intro k
    induction k with
    | zero => intro s2 j0 j1 jk; exfalso; have jk : mi MO 4 - s2 MO 7 < 0 := jk; omega
    | succ k ih =>
      intro s2 j0 j1 jk hk
      refine au_aload_n dX2_nextToken_0 rfl ?_
      refine au_aload_n dX2_nextToken_1 rfl ?_
      refine au_getf (C := RX2) (T := TX2) (N := 35) in_X2 (by decide) rfl 7 (by decide) rfl rfl q1366 rfl dX2_nextToken_2 (v := au_i (s2 MO 7)) (by rfl) ?_
      refine au_callVp (n := 1) (kX2_byteAt G (s2 MO 7) mi s2 hi sl r nx hF (by omega) hTp) (lw_V q1509 q1511 qs60 q134 q1512) rfl (by decide +kernel) (by decide) (T := TX2) (N := 35) rfl rfl rfl rfl (Nat.le_of_ble_eq_true rfl) (Nat.le_of_ble_eq_true rfl) (Nat.le_of_ble_eq_true rfl) (Nat.le_of_ble_eq_true rfl) (Nat.le_of_ble_eq_true rfl) dX2_nextToken_5 ?_
      refine au_bipush dX2_nextToken_8 rfl rfl ?_
      refine au_icmp_eq (tgt := 26) dX2_nextToken_10 (by decide) (fun c10 => ?_) (fun c10 => ?_)
      · refine au_aload_n dX2_nextToken_26 rfl ?_
        refine au_dup dX2_nextToken_27 rfl ?_
        refine au_getf (C := RX2) (T := TX2) (N := 35) in_X2 (by decide) rfl 7 (by decide) rfl rfl q1366 rfl dX2_nextToken_28 (v := au_i (s2 MO 7)) (by rfl) ?_
        refine au_iconst dX2_nextToken_31 rfl rfl ?_
        refine au_iadd dX2_nextToken_32 (by omega) (by omega) ?_
        refine au_putf (a := MO) (C := RX2) (T := TX2) (N := 35) in_X2 tyX2_ok nmX2 (by decide) rfl 7 (by decide) rfl (by decide) rfl q1366 rfl rfl trivial (fun _ _ _ h => au_nf_i h) dX2_nextToken_33 (M' := (mi, (au_up s2 MO 7 ((s2 MO 7) + 1)), hi, sl, r, nx)) (by rfl) ?_
        refine au_goto (tgt := 0) dX2_nextToken_36 (by decide) ?_
        have hw : wsC (byt (mi MTape) (mi MO 4) (s2 MO 7)) = true := decide_eq_true (by omega)
        have hj := (byt_f (by decide)).mp hw
        refine ih _ ?_ ?_ ?_ (fun s3 e3 f3 => hk s3 ?_ (fun a j h => (f3 a j h).trans (if_neg h)))
        · rw [up_at _ _ _ rfl]; omega
        · rw [up_at _ _ _ rfl]; omega
        · rw [up_at _ _ _ rfl]; omega
        · rw [e3, up_at _ _ _ rfl, scn_s hj]
      · refine au_aload_n dX2_nextToken_13 rfl ?_
        refine au_aload_n dX2_nextToken_14 rfl ?_
        refine au_getf (C := RX2) (T := TX2) (N := 35) in_X2 (by decide) rfl 7 (by decide) rfl rfl q1366 rfl dX2_nextToken_15 (v := au_i (s2 MO 7)) (by rfl) ?_
        refine au_callVp (n := 1) (kX2_byteAt G (s2 MO 7) mi s2 hi sl r nx hF (by omega) hTp) (lw_V q1509 q1511 qs60 q134 q1512) rfl (by decide +kernel) (by decide) (T := TX2) (N := 35) rfl rfl rfl rfl (Nat.le_of_ble_eq_true rfl) (Nat.le_of_ble_eq_true rfl) (Nat.le_of_ble_eq_true rfl) (Nat.le_of_ble_eq_true rfl) (Nat.le_of_ble_eq_true rfl) dX2_nextToken_18 ?_
        refine au_bipush dX2_nextToken_21 rfl rfl ?_
        refine au_icmp_ne (tgt := 39) dX2_nextToken_23 (by decide) (fun c23 => ?_) (fun c23 => ?_)
        · refine hk s2 ?_ (fun _ _ _ => rfl)
          rw [scn_n (fun z => absurd (of_decide_eq_true ((byt_f (by decide)).mpr z)) (by omega))]
        · refine au_aload_n dX2_nextToken_26 rfl ?_
          refine au_dup dX2_nextToken_27 rfl ?_
          refine au_getf (C := RX2) (T := TX2) (N := 35) in_X2 (by decide) rfl 7 (by decide) rfl rfl q1366 rfl dX2_nextToken_28 (v := au_i (s2 MO 7)) (by rfl) ?_
          refine au_iconst dX2_nextToken_31 rfl rfl ?_
          refine au_iadd dX2_nextToken_32 (by omega) (by omega) ?_
          refine au_putf (a := MO) (C := RX2) (T := TX2) (N := 35) in_X2 tyX2_ok nmX2 (by decide) rfl 7 (by decide) rfl (by decide) rfl q1366 rfl rfl trivial (fun _ _ _ h => au_nf_i h) dX2_nextToken_33 (M' := (mi, (au_up s2 MO 7 ((s2 MO 7) + 1)), hi, sl, r, nx)) (by rfl) ?_
          refine au_goto (tgt := 0) dX2_nextToken_36 (by decide) ?_
          have hw : wsC (byt (mi MTape) (mi MO 4) (s2 MO 7)) = true := decide_eq_true (by omega)
          have hj := (byt_f (by decide)).mp hw
          refine ih _ ?_ ?_ ?_ (fun s3 e3 f3 => hk s3 ?_ (fun a j h => (f3 a j h).trans (if_neg h)))
          · rw [up_at _ _ _ rfl]; omega
          · rw [up_at _ _ _ rfl]; omega
          · rw [up_at _ _ _ rfl]; omega
          · rw [e3, up_at _ _ _ rfl, scn_s hj]
  have hnum : ∀ (k : Nat) (c : Int) (s2 : au_A → Int → Int), 0 ≤ s2 MO 7 → s2 MO 7 ≤ mi MO 4 → mi MO 4 - s2 MO 7 < k → (0 ≤ s2 MO 10 ∧ s2 MO 10 ≤ 999999) → (∀ s3 : au_A → Int → Int, s3 MO 7 = scn (mi MTape) (mi MO 4) diC k (s2 MO 7) → (0 ≤ s3 MO 10 ∧ s3 MO 10 ≤ 999999) → min 99999 (s3 MO 10) = fld (mi MTape) nuS (scn (mi MTape) (mi MO 4) diC k (s2 MO 7) - s2 MO 7).toNat (s2 MO 7) (min 99999 (s2 MO 10)) → (∀ (a : au_A) (j : Int), ¬ (a = MO ∧ (j = 7 ∨ j = 10)) → s3 a j = s2 a j) → au_Go G (yX2_nextToken.cls, cX2_nextToken, 2, none, au_rm 1 0 0, yX2_nextToken.name) (au_QM G (au_rm 1 0 0) (fun rv M' => rv = none ∧ ∃ si' sl' : au_A → Int → Int, M' = (mi, si', hi, sl', r, nx) ∧ LxM (mi MTape) (mi MO 4) p si' sl' ∧ (∀ (a : au_A) (j : Int), ¬ (a = MO ∧ 7 ≤ j ∧ j ≤ 10) → si' a j = si a j) ∧ (∀ (a : au_A) (j : Int), ¬ (a = MO ∧ j = 11) → sl' a j = sl a j))) 310 [some (au_r MO), some (au_i c)] [] (mi, s3, hi, sl, r, nx) 0 0) → au_Go G (yX2_nextToken.cls, cX2_nextToken, 2, none, au_rm 1 0 0, yX2_nextToken.name) (au_QM G (au_rm 1 0 0) (fun rv M' => rv = none ∧ ∃ si' sl' : au_A → Int → Int, M' = (mi, si', hi, sl', r, nx) ∧ LxM (mi MTape) (mi MO 4) p si' sl' ∧ (∀ (a : au_A) (j : Int), ¬ (a = MO ∧ 7 ≤ j ∧ j ≤ 10) → si' a j = si a j) ∧ (∀ (a : au_A) (j : Int), ¬ (a = MO ∧ j = 11) → sl' a j = sl a j))) 85 [some (au_r MO), some (au_i c)] [] (mi, s2, hi, sl, r, nx) 0 0 := by
    intro k
    induction k with
    | zero => intro c s2 j0 j1 jk; exfalso; have jk : mi MO 4 - s2 MO 7 < 0 := jk; omega
    | succ k ih =>
      intro c s2 j0 j1 jk hv hk
      refine au_aload_n dX2_nextToken_85 rfl ?_
      refine au_aload_n dX2_nextToken_86 rfl ?_
      refine au_getf (C := RX2) (T := TX2) (N := 35) in_X2 (by decide) rfl 7 (by decide) rfl rfl q1366 rfl dX2_nextToken_87 (v := au_i (s2 MO 7)) (by rfl) ?_
      refine au_callVp (n := 1) (kX2_byteAt G (s2 MO 7) mi s2 hi sl r nx hF (by omega) hTp) (lw_V q1509 q1511 qs60 q134 q1512) rfl (by decide +kernel) (by decide) (T := TX2) (N := 35) rfl rfl rfl rfl (Nat.le_of_ble_eq_true rfl) (Nat.le_of_ble_eq_true rfl) (Nat.le_of_ble_eq_true rfl) (Nat.le_of_ble_eq_true rfl) (Nat.le_of_ble_eq_true rfl) dX2_nextToken_90 ?_
      refine au_callSp (n := 1) (kX2_isFigure G (byt (mi MTape) (mi MO 4) ((s2 MO 7))) _) (lw_S q1513 q1514 q134 q1515) (by decide +kernel) rfl rfl rfl (Nat.le_of_ble_eq_true rfl) (Nat.le_of_ble_eq_true rfl) (Nat.le_of_ble_eq_true rfl) (Nat.le_of_ble_eq_true rfl) (Nat.le_of_ble_eq_true rfl) dX2_nextToken_93 ?_
      refine au_if_eq (tgt := 310) dX2_nextToken_96 (by decide) (fun c96 => ?_) (fun c96 => ?_)
      · have c96 := au_b0 c96
        have hj : ¬ (s2 MO 7 < mi MO 4 ∧ diC (mi MTape (s2 MO 7)) = true) := fun z => c96 ((byt_f (by decide)).mpr z)
        refine hk s2 (scn_n hj).symm hv ?_ (fun _ _ _ => rfl)
        rw [scn_n hj, show (s2 MO 7 - s2 MO 7).toNat = 0 by omega]
        rfl
      · have c96 := au_b1 c96
        have hj := (byt_f (f := diC) (T := mi MTape) (n := mi MO 4) (k := s2 MO 7) (by decide)).mp c96
        have hT := of_decide_eq_true hj.2
        have hb := byt_in (T := mi MTape) hj.1
        refine au_aload_n dX2_nextToken_99 rfl ?_
        refine au_aload_n dX2_nextToken_100 rfl ?_
        refine au_getf (C := RX2) (T := TX2) (N := 35) in_X2 (by decide) rfl 10 (by decide) rfl rfl q1369 rfl dX2_nextToken_101 (v := au_i (s2 MO 10)) (by rfl) ?_
        refine au_ldc q1516 rfl dX2_nextToken_104 ?_
        show au_Go G _ _ 106 [some (au_r MO), some (au_i c)] [au_i 99999, au_i (s2 MO 10), au_r MO] (mi, s2, hi, sl, r, nx) 0 0
        refine au_icmp_le (tgt := 116) dX2_nextToken_106 (by decide) (fun c106 => ?_) (fun c106 => ?_)
        · refine au_bipush dX2_nextToken_116 rfl rfl ?_
          refine au_aload_n dX2_nextToken_118 rfl ?_
          refine au_getf (C := RX2) (T := TX2) (N := 35) in_X2 (by decide) rfl 10 (by decide) rfl rfl q1369 rfl dX2_nextToken_119 (v := au_i (s2 MO 10)) (by rfl) ?_
          refine au_imul dX2_nextToken_122 (by omega) (by omega) ?_
          refine au_aload_n dX2_nextToken_123 rfl ?_
          refine au_aload_n dX2_nextToken_124 rfl ?_
          refine au_getf (C := RX2) (T := TX2) (N := 35) in_X2 (by decide) rfl 7 (by decide) rfl rfl q1366 rfl dX2_nextToken_125 (v := au_i (s2 MO 7)) (by rfl) ?_
          refine au_callVp (n := 1) (kX2_byteAt G (s2 MO 7) mi s2 hi sl r nx hF (by omega) hTp) (lw_V q1509 q1511 qs60 q134 q1512) rfl (by decide +kernel) (by decide) (T := TX2) (N := 35) rfl rfl rfl rfl (Nat.le_of_ble_eq_true rfl) (Nat.le_of_ble_eq_true rfl) (Nat.le_of_ble_eq_true rfl) (Nat.le_of_ble_eq_true rfl) (Nat.le_of_ble_eq_true rfl) dX2_nextToken_128 ?_
          refine au_iadd dX2_nextToken_131 (by omega) (by omega) ?_
          refine au_bipush dX2_nextToken_132 rfl rfl ?_
          refine au_isub dX2_nextToken_134 (by omega) (by omega) ?_
          refine au_putf (a := MO) (C := RX2) (T := TX2) (N := 35) in_X2 tyX2_ok nmX2 (by decide) rfl 10 (by decide) rfl (by decide) rfl q1369 rfl rfl trivial (fun _ _ _ h => au_nf_i h) dX2_nextToken_135 (M' := (mi, (au_up s2 MO 10 (((10 * (s2 MO 10)) + (byt (mi MTape) (mi MO 4) ((s2 MO 7)))) - 48)), hi, sl, r, nx)) (by rfl) ?_
          refine au_aload_n dX2_nextToken_138 rfl ?_
          refine au_dup dX2_nextToken_139 rfl ?_
          refine au_getf (C := RX2) (T := TX2) (N := 35) in_X2 (by decide) rfl 7 (by decide) rfl rfl q1366 rfl dX2_nextToken_140 (v := au_i (s2 MO 7)) (by rfl) ?_
          refine au_iconst dX2_nextToken_143 rfl rfl ?_
          refine au_iadd dX2_nextToken_144 (by omega) (by omega) ?_
          refine au_putf (a := MO) (C := RX2) (T := TX2) (N := 35) in_X2 tyX2_ok nmX2 (by decide) rfl 7 (by decide) rfl (by decide) rfl q1366 rfl rfl trivial (fun _ _ _ h => au_nf_i h) dX2_nextToken_145 (M' := (mi, (au_up (au_up s2 MO 10 (((10 * (s2 MO 10)) + (byt (mi MTape) (mi MO 4) ((s2 MO 7)))) - 48)) MO 7 ((s2 MO 7) + 1)), hi, sl, r, nx)) (by rfl) ?_
          refine au_goto (tgt := 85) dX2_nextToken_148 (by decide) ?_
          refine ih c _ ?_ ?_ ?_ ?_ (fun s3 e3 b3 n3 f3 => hk s3 ?_ b3 ?_ (fun a j h => (f3 a j h).trans ?_))
          · rw [up_at _ _ _ rfl]; omega
          · rw [up_at _ _ _ rfl]; omega
          · rw [up_at _ _ _ rfl]; omega
          · simp only [au_up]; simp; omega
          · rw [e3, up_at _ _ _ rfl, scn_s hj]
          · rw [n3, up_at _ _ _ rfl, scn_s hj, fld_s (scn_rng _ _ _ k _).1, ← nuS_min ⟨hT.1, hT.2⟩ hv.1]
            congr 2
            simp only [au_up]
            simp
            first | omega | (intro _; omega)
          · simp only [au_up]
            repeat rw [if_neg (fun z => h ⟨z.1, by omega⟩)]
        · refine au_aload_n dX2_nextToken_109 rfl ?_
          refine au_getf (C := RX2) (T := TX2) (N := 35) in_X2 (by decide) rfl 10 (by decide) rfl rfl q1369 rfl dX2_nextToken_110 (v := au_i (s2 MO 10)) (by rfl) ?_
          refine au_goto (tgt := 135) dX2_nextToken_113 (by decide) ?_
          refine au_putf (a := MO) (C := RX2) (T := TX2) (N := 35) in_X2 tyX2_ok nmX2 (by decide) rfl 10 (by decide) rfl (by decide) rfl q1369 rfl rfl trivial (fun _ _ _ h => au_nf_i h) dX2_nextToken_135 (M' := (mi, (au_up s2 MO 10 (s2 MO 10)), hi, sl, r, nx)) (by rfl) ?_
          refine au_aload_n dX2_nextToken_138 rfl ?_
          refine au_dup dX2_nextToken_139 rfl ?_
          refine au_getf (C := RX2) (T := TX2) (N := 35) in_X2 (by decide) rfl 7 (by decide) rfl rfl q1366 rfl dX2_nextToken_140 (v := au_i (s2 MO 7)) (by rfl) ?_
          refine au_iconst dX2_nextToken_143 rfl rfl ?_
          refine au_iadd dX2_nextToken_144 (by omega) (by omega) ?_
          refine au_putf (a := MO) (C := RX2) (T := TX2) (N := 35) in_X2 tyX2_ok nmX2 (by decide) rfl 7 (by decide) rfl (by decide) rfl q1366 rfl rfl trivial (fun _ _ _ h => au_nf_i h) dX2_nextToken_145 (M' := (mi, (au_up (au_up s2 MO 10 (s2 MO 10)) MO 7 ((s2 MO 7) + 1)), hi, sl, r, nx)) (by rfl) ?_
          refine au_goto (tgt := 85) dX2_nextToken_148 (by decide) ?_
          refine ih c _ ?_ ?_ ?_ ?_ (fun s3 e3 b3 n3 f3 => hk s3 ?_ b3 ?_ (fun a j h => (f3 a j h).trans ?_))
          · rw [up_at _ _ _ rfl]; omega
          · rw [up_at _ _ _ rfl]; omega
          · rw [up_at _ _ _ rfl]; omega
          · simp only [au_up]; simp; omega
          · rw [e3, up_at _ _ _ rfl, scn_s hj]
          · rw [n3, up_at _ _ _ rfl, scn_s hj, fld_s (scn_rng _ _ _ k _).1, ← nuS_min ⟨hT.1, hT.2⟩ hv.1]
            congr 2
            simp only [au_up]
            simp
            first | omega | (intro _; omega)
          · simp only [au_up]
            repeat rw [if_neg (fun z => h ⟨z.1, by omega⟩)]
  have hwrd : ∀ (k : Nat) (c : Int) (s2 l2 : au_A → Int → Int), 0 ≤ s2 MO 7 → s2 MO 7 ≤ mi MO 4 → mi MO 4 - s2 MO 7 < k → (0 ≤ l2 MO 11 ∧ l2 MO 11 ≤ 1152921504606846976) → (∀ s3 l3 : au_A → Int → Int, s3 MO 7 = scn (mi MTape) (mi MO 4) leC k (s2 MO 7) → l3 MO 11 = fld (mi MTape) pkS (scn (mi MTape) (mi MO 4) leC k (s2 MO 7) - s2 MO 7).toNat (s2 MO 7) (l2 MO 11) → (∀ (a : au_A) (j : Int), ¬ (a = MO ∧ j = 7) → s3 a j = s2 a j) → (∀ (a : au_A) (j : Int), ¬ (a = MO ∧ j = 11) → l3 a j = l2 a j) → au_Go G (yX2_nextToken.cls, cX2_nextToken, 2, none, au_rm 1 0 0, yX2_nextToken.name) (au_QM G (au_rm 1 0 0) (fun rv M' => rv = none ∧ ∃ si' sl' : au_A → Int → Int, M' = (mi, si', hi, sl', r, nx) ∧ LxM (mi MTape) (mi MO 4) p si' sl' ∧ (∀ (a : au_A) (j : Int), ¬ (a = MO ∧ 7 ≤ j ∧ j ≤ 10) → si' a j = si a j) ∧ (∀ (a : au_A) (j : Int), ¬ (a = MO ∧ j = 11) → sl' a j = sl a j))) 310 [some (au_r MO), some (au_i c)] [] (mi, s3, hi, l3, r, nx) 0 0) → au_Go G (yX2_nextToken.cls, cX2_nextToken, 2, none, au_rm 1 0 0, yX2_nextToken.name) (au_QM G (au_rm 1 0 0) (fun rv M' => rv = none ∧ ∃ si' sl' : au_A → Int → Int, M' = (mi, si', hi, sl', r, nx) ∧ LxM (mi MTape) (mi MO 4) p si' sl' ∧ (∀ (a : au_A) (j : Int), ¬ (a = MO ∧ 7 ≤ j ∧ j ≤ 10) → si' a j = si a j) ∧ (∀ (a : au_A) (j : Int), ¬ (a = MO ∧ j = 11) → sl' a j = sl a j))) 168 [some (au_r MO), some (au_i c)] [] (mi, s2, hi, l2, r, nx) 0 0 := by
    intro k
    induction k with
    | zero => intro c s2 l2 j0 j1 jk; exfalso; have jk : mi MO 4 - s2 MO 7 < 0 := jk; omega
    | succ k ih =>
      intro c s2 l2 j0 j1 jk hv hk
      refine au_aload_n dX2_nextToken_168 rfl ?_
      refine au_aload_n dX2_nextToken_169 rfl ?_
      refine au_getf (C := RX2) (T := TX2) (N := 35) in_X2 (by decide) rfl 7 (by decide) rfl rfl q1366 rfl dX2_nextToken_170 (v := au_i (s2 MO 7)) (by rfl) ?_
      refine au_callVp (n := 1) (kX2_byteAt G (s2 MO 7) mi s2 hi l2 r nx hF (by omega) hTp) (lw_V q1509 q1511 qs60 q134 q1512) rfl (by decide +kernel) (by decide) (T := TX2) (N := 35) rfl rfl rfl rfl (Nat.le_of_ble_eq_true rfl) (Nat.le_of_ble_eq_true rfl) (Nat.le_of_ble_eq_true rfl) (Nat.le_of_ble_eq_true rfl) (Nat.le_of_ble_eq_true rfl) dX2_nextToken_173 ?_
      refine au_callSp (n := 1) (kX2_isLetterByte G (byt (mi MTape) (mi MO 4) ((s2 MO 7))) _) (lw_S q1517 q1518 q134 q1519) (by decide +kernel) rfl rfl rfl (Nat.le_of_ble_eq_true rfl) (Nat.le_of_ble_eq_true rfl) (Nat.le_of_ble_eq_true rfl) (Nat.le_of_ble_eq_true rfl) (Nat.le_of_ble_eq_true rfl) dX2_nextToken_176 ?_
      refine au_if_eq (tgt := 310) dX2_nextToken_179 (by decide) (fun c179 => ?_) (fun c179 => ?_)
      · have c179 := au_b0 c179
        have hj : ¬ (s2 MO 7 < mi MO 4 ∧ leC (mi MTape (s2 MO 7)) = true) := fun z => c179 ((byt_f (by decide)).mpr z)
        refine hk s2 l2 (scn_n hj).symm ?_ (fun _ _ _ => rfl) (fun _ _ _ => rfl)
        rw [scn_n hj, show (s2 MO 7 - s2 MO 7).toNat = 0 by omega]
        rfl
      · have c179 := au_b1 c179
        have hj := (byt_f (f := leC) (T := mi MTape) (n := mi MO 4) (k := s2 MO 7) (by decide)).mp c179
        have hT := of_decide_eq_true hj.2
        have hb := byt_in (T := mi MTape) hj.1
        have hsh := pq_shr (w := l2 MO 11) ⟨hv.1, by omega⟩
        refine au_aload_n dX2_nextToken_182 rfl ?_
        refine au_aload_n dX2_nextToken_183 rfl ?_
        refine au_getf (C := RX2) (T := TX2) (N := 35) in_X2 (by decide) rfl 11 (by decide) rfl rfl q1370 rfl dX2_nextToken_184 (v := au_l (l2 MO 11)) (by rfl) ?_
        refine au_bipush dX2_nextToken_187 rfl rfl ?_
        refine au_lshr' dX2_nextToken_189 ?_
        refine au_lconst dX2_nextToken_190 rfl ?_
        refine au_lcmp dX2_nextToken_191 ?_
        refine au_if_eq (tgt := 201) dX2_nextToken_192 (by decide) (fun c192 => ?_) (fun c192 => ?_)
        · have c192 := au_cmp_eqt c192
          refine au_aload_n dX2_nextToken_201 rfl ?_
          refine au_getf (C := RX2) (T := TX2) (N := 35) in_X2 (by decide) rfl 11 (by decide) rfl rfl q1370 rfl dX2_nextToken_202 (v := au_l (l2 MO 11)) (by rfl) ?_
          refine au_bipush dX2_nextToken_205 rfl rfl ?_
          refine au_lshl' dX2_nextToken_207 ?_
          refine au_aload_n dX2_nextToken_208 rfl ?_
          refine au_aload_n dX2_nextToken_209 rfl ?_
          refine au_getf (C := RX2) (T := TX2) (N := 35) in_X2 (by decide) rfl 7 (by decide) rfl rfl q1366 rfl dX2_nextToken_210 (v := au_i (s2 MO 7)) (by rfl) ?_
          refine au_callVp (n := 1) (kX2_byteAt G (s2 MO 7) mi s2 hi l2 r nx hF (by omega) hTp) (lw_V q1509 q1511 qs60 q134 q1512) rfl (by decide +kernel) (by decide) (T := TX2) (N := 35) rfl rfl rfl rfl (Nat.le_of_ble_eq_true rfl) (Nat.le_of_ble_eq_true rfl) (Nat.le_of_ble_eq_true rfl) (Nat.le_of_ble_eq_true rfl) (Nat.le_of_ble_eq_true rfl) dX2_nextToken_213 ?_
          refine au_i2l dX2_nextToken_216 ?_
          refine au_lor' dX2_nextToken_217 ?_
          refine au_putf (a := MO) (C := RX2) (T := TX2) (N := 35) in_X2 tyX2_ok nmX2 (by decide) rfl 11 (by decide) rfl (by decide) rfl q1370 rfl rfl trivial (fun _ _ _ h => au_nf_l h) dX2_nextToken_218 (M' := (mi, s2, hi, (au_up l2 MO 11 (au_lor (au_lshl (l2 MO 11) 8) (byt (mi MTape) (mi MO 4) ((s2 MO 7))))), r, nx)) (by rfl) ?_
          refine au_aload_n dX2_nextToken_221 rfl ?_
          refine au_dup dX2_nextToken_222 rfl ?_
          refine au_getf (C := RX2) (T := TX2) (N := 35) in_X2 (by decide) rfl 7 (by decide) rfl rfl q1366 rfl dX2_nextToken_223 (v := au_i (s2 MO 7)) (by rfl) ?_
          refine au_iconst dX2_nextToken_226 rfl rfl ?_
          refine au_iadd dX2_nextToken_227 (by omega) (by omega) ?_
          refine au_putf (a := MO) (C := RX2) (T := TX2) (N := 35) in_X2 tyX2_ok nmX2 (by decide) rfl 7 (by decide) rfl (by decide) rfl q1366 rfl rfl trivial (fun _ _ _ h => au_nf_i h) dX2_nextToken_228 (M' := (mi, (au_up s2 MO 7 ((s2 MO 7) + 1)), hi, (au_up l2 MO 11 (au_lor (au_lshl (l2 MO 11) 8) (byt (mi MTape) (mi MO 4) ((s2 MO 7))))), r, nx)) (by rfl) ?_
          refine au_goto (tgt := 168) dX2_nextToken_231 (by decide) ?_
          have hpk : 0 ≤ pkS (l2 MO 11) (mi MTape (s2 MO 7)) ∧ pkS (l2 MO 11) (mi MTape (s2 MO 7)) ≤ 1152921504606846976 := pkS_bd hv (by omega)
          have hval : ∀ x : Int, (x = if l2 MO 11 / 281474976710656 = 0 then l2 MO 11 * 256 + mi MTape (s2 MO 7) else 1152921504606846976) → x = pkS (l2 MO 11) (mi MTape (s2 MO 7)) := fun x hx => hx
          generalize hx : au_up l2 MO 11 _ = l9
          have hx9 : l9 MO 11 = pkS (l2 MO 11) (mi MTape (s2 MO 7)) := by
            rw [← hx, up_at _ _ _ rfl]
            refine hval _ ?_
            first
            | (rw [if_pos (by rw [← hsh]; exact au_cmp_eqt (by assumption)), hb]
               exact pq_or ⟨hv.1, by have := (hsh.symm.trans (au_cmp_eqt (by assumption)) : l2 MO 11 / 281474976710656 = 0); omega⟩ (by omega))
            | (rw [if_neg (by rw [← hsh]; exact au_cmp_eqf (by assumption))])
          refine ih c _ l9 ?_ ?_ ?_ (by rw [hx9]; exact hpk) (fun s3 l3 e3 n3 f3 g3 => hk s3 l3 ?_ ?_ (fun a j h => (f3 a j h).trans (if_neg h)) (fun a j h => (g3 a j h).trans ?_))
          · rw [up_at _ _ _ rfl]; omega
          · rw [up_at _ _ _ rfl]; omega
          · rw [up_at _ _ _ rfl]; omega
          · rw [e3, up_at _ _ _ rfl, scn_s hj]
          · rw [n3, up_at _ _ _ rfl, scn_s hj, fld_s (scn_rng _ _ _ k _).1, hx9]
          · rw [← hx]; exact if_neg h
        · have c192 := au_cmp_eqf c192
          refine au_ldc2 q1520 rfl dX2_nextToken_195 ?_
          show au_Go G _ _ 198 [some (au_r MO), some (au_i c)] [au_l 1152921504606846976, au_r MO] (mi, s2, hi, l2, r, nx) 0 0
          refine au_goto (tgt := 218) dX2_nextToken_198 (by decide) ?_
          refine au_putf (a := MO) (C := RX2) (T := TX2) (N := 35) in_X2 tyX2_ok nmX2 (by decide) rfl 11 (by decide) rfl (by decide) rfl q1370 rfl rfl trivial (fun _ _ _ h => au_nf_l h) dX2_nextToken_218 (M' := (mi, s2, hi, (au_up l2 MO 11 1152921504606846976), r, nx)) (by rfl) ?_
          refine au_aload_n dX2_nextToken_221 rfl ?_
          refine au_dup dX2_nextToken_222 rfl ?_
          refine au_getf (C := RX2) (T := TX2) (N := 35) in_X2 (by decide) rfl 7 (by decide) rfl rfl q1366 rfl dX2_nextToken_223 (v := au_i (s2 MO 7)) (by rfl) ?_
          refine au_iconst dX2_nextToken_226 rfl rfl ?_
          refine au_iadd dX2_nextToken_227 (by omega) (by omega) ?_
          refine au_putf (a := MO) (C := RX2) (T := TX2) (N := 35) in_X2 tyX2_ok nmX2 (by decide) rfl 7 (by decide) rfl (by decide) rfl q1366 rfl rfl trivial (fun _ _ _ h => au_nf_i h) dX2_nextToken_228 (M' := (mi, (au_up s2 MO 7 ((s2 MO 7) + 1)), hi, (au_up l2 MO 11 1152921504606846976), r, nx)) (by rfl) ?_
          refine au_goto (tgt := 168) dX2_nextToken_231 (by decide) ?_
          have hpk : 0 ≤ pkS (l2 MO 11) (mi MTape (s2 MO 7)) ∧ pkS (l2 MO 11) (mi MTape (s2 MO 7)) ≤ 1152921504606846976 := pkS_bd hv (by omega)
          have hval : ∀ x : Int, (x = if l2 MO 11 / 281474976710656 = 0 then l2 MO 11 * 256 + mi MTape (s2 MO 7) else 1152921504606846976) → x = pkS (l2 MO 11) (mi MTape (s2 MO 7)) := fun x hx => hx
          generalize hx : au_up l2 MO 11 _ = l9
          have hx9 : l9 MO 11 = pkS (l2 MO 11) (mi MTape (s2 MO 7)) := by
            rw [← hx, up_at _ _ _ rfl]
            refine hval _ ?_
            first
            | (rw [if_pos (by rw [← hsh]; exact au_cmp_eqt (by assumption)), hb]
               exact pq_or ⟨hv.1, by have := (hsh.symm.trans (au_cmp_eqt (by assumption)) : l2 MO 11 / 281474976710656 = 0); omega⟩ (by omega))
            | (rw [if_neg (by rw [← hsh]; exact au_cmp_eqf (by assumption))])
          refine ih c _ l9 ?_ ?_ ?_ (by rw [hx9]; exact hpk) (fun s3 l3 e3 n3 f3 g3 => hk s3 l3 ?_ ?_ (fun a j h => (f3 a j h).trans (if_neg h)) (fun a j h => (g3 a j h).trans ?_))
          · rw [up_at _ _ _ rfl]; omega
          · rw [up_at _ _ _ rfl]; omega
          · rw [up_at _ _ _ rfl]; omega
          · rw [e3, up_at _ _ _ rfl, scn_s hj]
          · rw [n3, up_at _ _ _ rfl, scn_s hj, fld_s (scn_rng _ _ _ k _).1, hx9]
          · rw [← hx]; exact if_neg h
  refine hskip 301 si (by omega) (by omega) (by omega) (fun s3 e3 f3 => ?_)
  have hq : s3 MO 7 = lxP (mi MTape) (mi MO 4) p := by rw [e3, hat]; rfl
  have hq0 : p ≤ s3 MO 7 ∧ s3 MO 7 ≤ mi MO 4 := by
    have := scn_rng (mi MTape) (mi MO 4) wsC 301 p
    rw [e3, hat]
    exact ⟨this.1, this.2 h1⟩
  have hbd := byt_bd (k := s3 MO 7) hTp (by omega)
  refine au_aload_n dX2_nextToken_39 rfl ?_
  refine au_aload_n dX2_nextToken_40 rfl ?_
  refine au_getf (C := RX2) (T := TX2) (N := 35) in_X2 (by decide) rfl 7 (by decide) rfl rfl q1366 rfl dX2_nextToken_41 (v := au_i (s3 MO 7)) (by rfl) ?_
  refine au_putf (a := MO) (C := RX2) (T := TX2) (N := 35) in_X2 tyX2_ok nmX2 (by decide) rfl 8 (by decide) rfl (by decide) rfl q1367 rfl rfl trivial (fun _ _ _ h => au_nf_i h) dX2_nextToken_44 (M' := (mi, (au_up s3 MO 8 (s3 MO 7)), hi, sl, r, nx)) (by rfl) ?_
  refine au_aload_n dX2_nextToken_47 rfl ?_
  refine au_aload_n dX2_nextToken_48 rfl ?_
  refine au_getf (C := RX2) (T := TX2) (N := 35) in_X2 (by decide) rfl 7 (by decide) rfl rfl q1366 rfl dX2_nextToken_49 (v := au_i (s3 MO 7)) (by rfl) ?_
  refine au_callVp (n := 1) (kX2_byteAt G (s3 MO 7) mi (au_up s3 MO 8 (s3 MO 7)) hi sl r nx hF (by omega) hTp) (lw_V q1509 q1511 qs60 q134 q1512) rfl (by decide +kernel) (by decide) (T := TX2) (N := 35) rfl rfl rfl rfl (Nat.le_of_ble_eq_true rfl) (Nat.le_of_ble_eq_true rfl) (Nat.le_of_ble_eq_true rfl) (Nat.le_of_ble_eq_true rfl) (Nat.le_of_ble_eq_true rfl) dX2_nextToken_52 ?_
  refine au_istore_n dX2_nextToken_55 (show 1 < 2 by decide) ?_
  show au_Go G _ _ 56 [some (au_r MO), some (au_i (byt (mi MTape) (mi MO 4) ((s3 MO 7))))] [] (mi, (au_up s3 MO 8 (s3 MO 7)), hi, sl, r, nx) 0 0
  refine au_iload_n dX2_nextToken_56 rfl ?_
  refine au_if_ge (tgt := 68) dX2_nextToken_57 (by decide) (fun c57 => ?_) (fun c57 => ?_)
  · refine au_iload_n dX2_nextToken_68 rfl ?_
    refine au_callSp (n := 1) (kX2_isFigure G (byt (mi MTape) (mi MO 4) ((s3 MO 7))) _) (lw_S q1513 q1514 q134 q1515) (by decide +kernel) rfl rfl rfl (Nat.le_of_ble_eq_true rfl) (Nat.le_of_ble_eq_true rfl) (Nat.le_of_ble_eq_true rfl) (Nat.le_of_ble_eq_true rfl) (Nat.le_of_ble_eq_true rfl) dX2_nextToken_69 ?_
    refine au_if_eq (tgt := 151) dX2_nextToken_72 (by decide) (fun c72 => ?_) (fun c72 => ?_)
    · have c72 := au_b0 c72
      refine au_iload_n dX2_nextToken_151 rfl ?_
      refine au_callSp (n := 1) (kX2_isLetterByte G (byt (mi MTape) (mi MO 4) ((s3 MO 7))) _) (lw_S q1517 q1518 q134 q1519) (by decide +kernel) rfl rfl rfl (Nat.le_of_ble_eq_true rfl) (Nat.le_of_ble_eq_true rfl) (Nat.le_of_ble_eq_true rfl) (Nat.le_of_ble_eq_true rfl) (Nat.le_of_ble_eq_true rfl) dX2_nextToken_152 ?_
      refine au_if_eq (tgt := 234) dX2_nextToken_155 (by decide) (fun c155 => ?_) (fun c155 => ?_)
      · have c155 := au_b0 c155
        have hlt : s3 MO 7 < mi MO 4 := by
          by_cases z : s3 MO 7 < mi MO 4
          · exact z
          · rw [byt_out z] at c57; exact absurd c57 (by decide)
        have hT0 := (hTp.2 (s3 MO 7) (by omega) hlt).1
        have hb := byt_in (T := mi MTape) hlt
        have hd : ¬ diC (mi MTape (s3 MO 7)) = true := by rw [← hb]; exact c72
        have hw : ¬ leC (mi MTape (s3 MO 7)) = true := by rw [← hb]; exact c155
        generalize byt (mi MTape) (mi MO 4) (s3 MO 7) = c at hb ⊢
        generalize hs4 : au_up s3 MO 8 (s3 MO 7) = s4
        have g7 : s4 MO 7 = s3 MO 7 := by rw [← hs4]; simp [au_up]
        have g8 : s4 MO 8 = s3 MO 7 := by rw [← hs4]; simp [au_up]
        have f4 : ∀ (a : au_A) (j : Int), ¬ (a = MO ∧ 7 ≤ j ∧ j ≤ 10) → s4 a j = si a j := fun a j h => by
          rw [← hs4]
          simp only [au_up]
          rw [if_neg (fun z => h ⟨z.1, by omega⟩)]
          exact f3 a j (fun z => h ⟨z.1, by omega⟩)
        refine au_aload_n dX2_nextToken_234 rfl ?_
        refine au_iload_n dX2_nextToken_235 rfl ?_
        refine au_callSp (n := 1) (kX2_isSign G c _) (lw_S q1521 q1522 q134 q1523) (by decide +kernel) rfl rfl rfl (Nat.le_of_ble_eq_true rfl) (Nat.le_of_ble_eq_true rfl) (Nat.le_of_ble_eq_true rfl) (Nat.le_of_ble_eq_true rfl) (Nat.le_of_ble_eq_true rfl) dX2_nextToken_236 ?_
        refine au_if_eq (tgt := 246) dX2_nextToken_239 (by decide) (fun c239 => ?_) (fun c239 => ?_)
        · have c239 := au_b0 c239
          refine au_iconst dX2_nextToken_246 rfl rfl ?_
          refine au_putf (a := MO) (C := RX2) (T := TX2) (N := 35) in_X2 tyX2_ok nmX2 (by decide) rfl 9 (by decide) rfl (by decide) rfl q1368 rfl rfl trivial (fun _ _ _ h => au_nf_i h) dX2_nextToken_247 (M' := (mi, (au_up s4 MO 9 3), hi, sl, r, nx)) (by rfl) ?_
          refine au_aload_n dX2_nextToken_250 rfl ?_
          refine au_dup dX2_nextToken_251 rfl ?_
          refine au_getf (C := RX2) (T := TX2) (N := 35) in_X2 (by decide) rfl 7 (by decide) rfl rfl q1366 rfl dX2_nextToken_252 (v := au_i (s4 MO 7)) (by rfl) ?_
          refine au_iconst dX2_nextToken_255 rfl rfl ?_
          refine au_iadd dX2_nextToken_256 (by omega) (by omega) ?_
          refine au_putf (a := MO) (C := RX2) (T := TX2) (N := 35) in_X2 tyX2_ok nmX2 (by decide) rfl 7 (by decide) rfl (by decide) rfl q1366 rfl rfl trivial (fun _ _ _ h => au_nf_i h) dX2_nextToken_257 (M' := (mi, (au_up (au_up s4 MO 9 3) MO 7 ((s4 MO 7) + 1)), hi, sl, r, nx)) (by rfl) ?_
          refine au_iload_n dX2_nextToken_260 rfl ?_
          refine au_bipush dX2_nextToken_261 rfl rfl ?_
          refine au_icmp_eq (tgt := 272) dX2_nextToken_263 (by decide) (fun c263 => ?_) (fun c263 => ?_)
          · refine au_aload_n dX2_nextToken_272 rfl ?_
            refine au_aload_n dX2_nextToken_273 rfl ?_
            refine au_getf (C := RX2) (T := TX2) (N := 35) in_X2 (by decide) rfl 7 (by decide) rfl rfl q1366 rfl dX2_nextToken_274 (v := au_i ((s4 MO 7) + 1)) (by rfl) ?_
            refine au_callVp (n := 1) (kX2_byteAt G ((s4 MO 7) + 1) mi (au_up (au_up s4 MO 9 3) MO 7 ((s4 MO 7) + 1)) hi sl r nx hF (by omega) hTp) (lw_V q1509 q1511 qs60 q134 q1512) rfl (by decide +kernel) (by decide) (T := TX2) (N := 35) rfl rfl rfl rfl (Nat.le_of_ble_eq_true rfl) (Nat.le_of_ble_eq_true rfl) (Nat.le_of_ble_eq_true rfl) (Nat.le_of_ble_eq_true rfl) (Nat.le_of_ble_eq_true rfl) dX2_nextToken_277 ?_
            refine au_bipush dX2_nextToken_280 rfl rfl ?_
            refine au_icmp_ne (tgt := 310) dX2_nextToken_282 (by decide) (fun c282 => ?_) (fun c282 => ?_)
            · refine au_vret dX2_nextToken_310 rfl rfl (Nat.le_of_ble_eq_true rfl) (Nat.le_of_ble_eq_true rfl) ?_
              first
              | (have hE : ¬ eqN (mi MTape) (mi MO 4) (s3 MO 7) = true := fun z => by
                   have z := of_decide_eq_true z
                   first
                   | omega
                   | (have hz := byt_in (T := mi MTape) z.2.1
                      rw [g7] at c282
                      omega)
                 refine ⟨rfl, _, sl, rfl, LxM_sign hq hlt hT0 hd hw ?_ ?_ ?_, fun a j h => ?_, fun _ _ _ => rfl⟩
                 · rw [if_neg hE]; simp [au_up, g7]
                 · simp [au_up, g8]
                 · first
                   | (rw [if_neg hE, if_pos (show sgC' (mi MTape (s3 MO 7)) = true ∨ mi MTape (s3 MO 7) = 58 by rw [← hb]; exact c239), ← hb]; simp [au_up])
                   | (rw [if_neg hE, if_neg (show ¬ (sgC' (mi MTape (s3 MO 7)) = true ∨ mi MTape (s3 MO 7) = 58) by rw [← hb]; exact c239)]; simp [au_up])
                 · simp only [au_up]
                   repeat rw [if_neg (fun z => h ⟨z.1, by omega⟩)]
                   exact f4 a j h)
              | (have hb61 : s3 MO 7 + 1 < mi MO 4 ∧ mi MTape (s3 MO 7 + 1) = 61 := by
                   rw [g7] at c282
                   by_cases z : s3 MO 7 + 1 < mi MO 4
                   · rw [byt_in z] at c282; exact ⟨z, by omega⟩
                   · rw [byt_out z] at c282; omega
                 have hE : eqN (mi MTape) (mi MO 4) (s3 MO 7) = true := decide_eq_true ⟨by omega, hb61⟩
                 refine ⟨rfl, _, sl, rfl, LxM_sign hq hlt hT0 hd hw ?_ ?_ ?_, fun a j h => ?_, fun _ _ _ => rfl⟩
                 · rw [if_pos hE]; simp [au_up, g7]; omega
                 · simp [au_up, g8]
                 · rw [if_pos hE]
                   simp only [au_up]
                   simp
                   omega
                 · simp only [au_up]
                   repeat rw [if_neg (fun z => h ⟨z.1, by omega⟩)]
                   exact f4 a j h)
            · refine au_aload_n dX2_nextToken_285 rfl ?_
              refine au_iload_n dX2_nextToken_286 rfl ?_
              refine au_bipush dX2_nextToken_287 rfl rfl ?_
              refine au_icmp_ne (tgt := 296) dX2_nextToken_289 (by decide) (fun c289 => ?_) (fun c289 => ?_)
              · refine au_iconst dX2_nextToken_296 rfl rfl ?_
                refine au_putf (a := MO) (C := RX2) (T := TX2) (N := 35) in_X2 tyX2_ok nmX2 (by decide) rfl 9 (by decide) rfl (by decide) rfl q1368 rfl rfl trivial (fun _ _ _ h => au_nf_i h) dX2_nextToken_297 (M' := (mi, (au_up (au_up (au_up s4 MO 9 3) MO 7 ((s4 MO 7) + 1)) MO 9 5), hi, sl, r, nx)) (by rfl) ?_
                refine au_aload_n dX2_nextToken_300 rfl ?_
                refine au_dup dX2_nextToken_301 rfl ?_
                refine au_getf (C := RX2) (T := TX2) (N := 35) in_X2 (by decide) rfl 7 (by decide) rfl rfl q1366 rfl dX2_nextToken_302 (v := au_i ((s4 MO 7) + 1)) (by rfl) ?_
                refine au_iconst dX2_nextToken_305 rfl rfl ?_
                refine au_iadd dX2_nextToken_306 (by omega) (by omega) ?_
                refine au_putf (a := MO) (C := RX2) (T := TX2) (N := 35) in_X2 tyX2_ok nmX2 (by decide) rfl 7 (by decide) rfl (by decide) rfl q1366 rfl rfl trivial (fun _ _ _ h => au_nf_i h) dX2_nextToken_307 (M' := (mi, (au_up (au_up (au_up (au_up s4 MO 9 3) MO 7 ((s4 MO 7) + 1)) MO 9 5) MO 7 (((s4 MO 7) + 1) + 1)), hi, sl, r, nx)) (by rfl) ?_
                refine au_vret dX2_nextToken_310 rfl rfl (Nat.le_of_ble_eq_true rfl) (Nat.le_of_ble_eq_true rfl) ?_
                first
                | (have hE : ¬ eqN (mi MTape) (mi MO 4) (s3 MO 7) = true := fun z => by
                     have z := of_decide_eq_true z
                     first
                     | omega
                     | (have hz := byt_in (T := mi MTape) z.2.1
                        rw [g7] at c282
                        omega)
                   refine ⟨rfl, _, sl, rfl, LxM_sign hq hlt hT0 hd hw ?_ ?_ ?_, fun a j h => ?_, fun _ _ _ => rfl⟩
                   · rw [if_neg hE]; simp [au_up, g7]
                   · simp [au_up, g8]
                   · first
                     | (rw [if_neg hE, if_pos (show sgC' (mi MTape (s3 MO 7)) = true ∨ mi MTape (s3 MO 7) = 58 by rw [← hb]; exact c239), ← hb]; simp [au_up])
                     | (rw [if_neg hE, if_neg (show ¬ (sgC' (mi MTape (s3 MO 7)) = true ∨ mi MTape (s3 MO 7) = 58) by rw [← hb]; exact c239)]; simp [au_up])
                   · simp only [au_up]
                     repeat rw [if_neg (fun z => h ⟨z.1, by omega⟩)]
                     exact f4 a j h)
                | (have hb61 : s3 MO 7 + 1 < mi MO 4 ∧ mi MTape (s3 MO 7 + 1) = 61 := by
                     rw [g7] at c282
                     by_cases z : s3 MO 7 + 1 < mi MO 4
                     · rw [byt_in z] at c282; exact ⟨z, by omega⟩
                     · rw [byt_out z] at c282; omega
                   have hE : eqN (mi MTape) (mi MO 4) (s3 MO 7) = true := decide_eq_true ⟨by omega, hb61⟩
                   refine ⟨rfl, _, sl, rfl, LxM_sign hq hlt hT0 hd hw ?_ ?_ ?_, fun a j h => ?_, fun _ _ _ => rfl⟩
                   · rw [if_pos hE]; simp [au_up, g7]; omega
                   · simp [au_up, g8]
                   · rw [if_pos hE]
                     simp only [au_up]
                     simp
                     omega
                   · simp only [au_up]
                     repeat rw [if_neg (fun z => h ⟨z.1, by omega⟩)]
                     exact f4 a j h)
              · refine au_iconst dX2_nextToken_292 rfl rfl ?_
                refine au_goto (tgt := 297) dX2_nextToken_293 (by decide) ?_
                refine au_putf (a := MO) (C := RX2) (T := TX2) (N := 35) in_X2 tyX2_ok nmX2 (by decide) rfl 9 (by decide) rfl (by decide) rfl q1368 rfl rfl trivial (fun _ _ _ h => au_nf_i h) dX2_nextToken_297 (M' := (mi, (au_up (au_up (au_up s4 MO 9 3) MO 7 ((s4 MO 7) + 1)) MO 9 4), hi, sl, r, nx)) (by rfl) ?_
                refine au_aload_n dX2_nextToken_300 rfl ?_
                refine au_dup dX2_nextToken_301 rfl ?_
                refine au_getf (C := RX2) (T := TX2) (N := 35) in_X2 (by decide) rfl 7 (by decide) rfl rfl q1366 rfl dX2_nextToken_302 (v := au_i ((s4 MO 7) + 1)) (by rfl) ?_
                refine au_iconst dX2_nextToken_305 rfl rfl ?_
                refine au_iadd dX2_nextToken_306 (by omega) (by omega) ?_
                refine au_putf (a := MO) (C := RX2) (T := TX2) (N := 35) in_X2 tyX2_ok nmX2 (by decide) rfl 7 (by decide) rfl (by decide) rfl q1366 rfl rfl trivial (fun _ _ _ h => au_nf_i h) dX2_nextToken_307 (M' := (mi, (au_up (au_up (au_up (au_up s4 MO 9 3) MO 7 ((s4 MO 7) + 1)) MO 9 4) MO 7 (((s4 MO 7) + 1) + 1)), hi, sl, r, nx)) (by rfl) ?_
                refine au_vret dX2_nextToken_310 rfl rfl (Nat.le_of_ble_eq_true rfl) (Nat.le_of_ble_eq_true rfl) ?_
                first
                | (have hE : ¬ eqN (mi MTape) (mi MO 4) (s3 MO 7) = true := fun z => by
                     have z := of_decide_eq_true z
                     first
                     | omega
                     | (have hz := byt_in (T := mi MTape) z.2.1
                        rw [g7] at c282
                        omega)
                   refine ⟨rfl, _, sl, rfl, LxM_sign hq hlt hT0 hd hw ?_ ?_ ?_, fun a j h => ?_, fun _ _ _ => rfl⟩
                   · rw [if_neg hE]; simp [au_up, g7]
                   · simp [au_up, g8]
                   · first
                     | (rw [if_neg hE, if_pos (show sgC' (mi MTape (s3 MO 7)) = true ∨ mi MTape (s3 MO 7) = 58 by rw [← hb]; exact c239), ← hb]; simp [au_up])
                     | (rw [if_neg hE, if_neg (show ¬ (sgC' (mi MTape (s3 MO 7)) = true ∨ mi MTape (s3 MO 7) = 58) by rw [← hb]; exact c239)]; simp [au_up])
                   · simp only [au_up]
                     repeat rw [if_neg (fun z => h ⟨z.1, by omega⟩)]
                     exact f4 a j h)
                | (have hb61 : s3 MO 7 + 1 < mi MO 4 ∧ mi MTape (s3 MO 7 + 1) = 61 := by
                     rw [g7] at c282
                     by_cases z : s3 MO 7 + 1 < mi MO 4
                     · rw [byt_in z] at c282; exact ⟨z, by omega⟩
                     · rw [byt_out z] at c282; omega
                   have hE : eqN (mi MTape) (mi MO 4) (s3 MO 7) = true := decide_eq_true ⟨by omega, hb61⟩
                   refine ⟨rfl, _, sl, rfl, LxM_sign hq hlt hT0 hd hw ?_ ?_ ?_, fun a j h => ?_, fun _ _ _ => rfl⟩
                   · rw [if_pos hE]; simp [au_up, g7]; omega
                   · simp [au_up, g8]
                   · rw [if_pos hE]
                     simp only [au_up]
                     simp
                     omega
                   · simp only [au_up]
                     repeat rw [if_neg (fun z => h ⟨z.1, by omega⟩)]
                     exact f4 a j h)
          · refine au_iload_n dX2_nextToken_266 rfl ?_
            refine au_bipush dX2_nextToken_267 rfl rfl ?_
            refine au_icmp_ne (tgt := 310) dX2_nextToken_269 (by decide) (fun c269 => ?_) (fun c269 => ?_)
            · refine au_vret dX2_nextToken_310 rfl rfl (Nat.le_of_ble_eq_true rfl) (Nat.le_of_ble_eq_true rfl) ?_
              first
              | (have hE : ¬ eqN (mi MTape) (mi MO 4) (s3 MO 7) = true := fun z => by
                   have z := of_decide_eq_true z
                   first
                   | omega
                   | (have hz := byt_in (T := mi MTape) z.2.1
                      rw [g7] at c282
                      omega)
                 refine ⟨rfl, _, sl, rfl, LxM_sign hq hlt hT0 hd hw ?_ ?_ ?_, fun a j h => ?_, fun _ _ _ => rfl⟩
                 · rw [if_neg hE]; simp [au_up, g7]
                 · simp [au_up, g8]
                 · first
                   | (rw [if_neg hE, if_pos (show sgC' (mi MTape (s3 MO 7)) = true ∨ mi MTape (s3 MO 7) = 58 by rw [← hb]; exact c239), ← hb]; simp [au_up])
                   | (rw [if_neg hE, if_neg (show ¬ (sgC' (mi MTape (s3 MO 7)) = true ∨ mi MTape (s3 MO 7) = 58) by rw [← hb]; exact c239)]; simp [au_up])
                 · simp only [au_up]
                   repeat rw [if_neg (fun z => h ⟨z.1, by omega⟩)]
                   exact f4 a j h)
              | (have hb61 : s3 MO 7 + 1 < mi MO 4 ∧ mi MTape (s3 MO 7 + 1) = 61 := by
                   rw [g7] at c282
                   by_cases z : s3 MO 7 + 1 < mi MO 4
                   · rw [byt_in z] at c282; exact ⟨z, by omega⟩
                   · rw [byt_out z] at c282; omega
                 have hE : eqN (mi MTape) (mi MO 4) (s3 MO 7) = true := decide_eq_true ⟨by omega, hb61⟩
                 refine ⟨rfl, _, sl, rfl, LxM_sign hq hlt hT0 hd hw ?_ ?_ ?_, fun a j h => ?_, fun _ _ _ => rfl⟩
                 · rw [if_pos hE]; simp [au_up, g7]; omega
                 · simp [au_up, g8]
                 · rw [if_pos hE]
                   simp only [au_up]
                   simp
                   omega
                 · simp only [au_up]
                   repeat rw [if_neg (fun z => h ⟨z.1, by omega⟩)]
                   exact f4 a j h)
            · refine au_aload_n dX2_nextToken_272 rfl ?_
              refine au_aload_n dX2_nextToken_273 rfl ?_
              refine au_getf (C := RX2) (T := TX2) (N := 35) in_X2 (by decide) rfl 7 (by decide) rfl rfl q1366 rfl dX2_nextToken_274 (v := au_i ((s4 MO 7) + 1)) (by rfl) ?_
              refine au_callVp (n := 1) (kX2_byteAt G ((s4 MO 7) + 1) mi (au_up (au_up s4 MO 9 3) MO 7 ((s4 MO 7) + 1)) hi sl r nx hF (by omega) hTp) (lw_V q1509 q1511 qs60 q134 q1512) rfl (by decide +kernel) (by decide) (T := TX2) (N := 35) rfl rfl rfl rfl (Nat.le_of_ble_eq_true rfl) (Nat.le_of_ble_eq_true rfl) (Nat.le_of_ble_eq_true rfl) (Nat.le_of_ble_eq_true rfl) (Nat.le_of_ble_eq_true rfl) dX2_nextToken_277 ?_
              refine au_bipush dX2_nextToken_280 rfl rfl ?_
              refine au_icmp_ne (tgt := 310) dX2_nextToken_282 (by decide) (fun c282 => ?_) (fun c282 => ?_)
              · refine au_vret dX2_nextToken_310 rfl rfl (Nat.le_of_ble_eq_true rfl) (Nat.le_of_ble_eq_true rfl) ?_
                first
                | (have hE : ¬ eqN (mi MTape) (mi MO 4) (s3 MO 7) = true := fun z => by
                     have z := of_decide_eq_true z
                     first
                     | omega
                     | (have hz := byt_in (T := mi MTape) z.2.1
                        rw [g7] at c282
                        omega)
                   refine ⟨rfl, _, sl, rfl, LxM_sign hq hlt hT0 hd hw ?_ ?_ ?_, fun a j h => ?_, fun _ _ _ => rfl⟩
                   · rw [if_neg hE]; simp [au_up, g7]
                   · simp [au_up, g8]
                   · first
                     | (rw [if_neg hE, if_pos (show sgC' (mi MTape (s3 MO 7)) = true ∨ mi MTape (s3 MO 7) = 58 by rw [← hb]; exact c239), ← hb]; simp [au_up])
                     | (rw [if_neg hE, if_neg (show ¬ (sgC' (mi MTape (s3 MO 7)) = true ∨ mi MTape (s3 MO 7) = 58) by rw [← hb]; exact c239)]; simp [au_up])
                   · simp only [au_up]
                     repeat rw [if_neg (fun z => h ⟨z.1, by omega⟩)]
                     exact f4 a j h)
                | (have hb61 : s3 MO 7 + 1 < mi MO 4 ∧ mi MTape (s3 MO 7 + 1) = 61 := by
                     rw [g7] at c282
                     by_cases z : s3 MO 7 + 1 < mi MO 4
                     · rw [byt_in z] at c282; exact ⟨z, by omega⟩
                     · rw [byt_out z] at c282; omega
                   have hE : eqN (mi MTape) (mi MO 4) (s3 MO 7) = true := decide_eq_true ⟨by omega, hb61⟩
                   refine ⟨rfl, _, sl, rfl, LxM_sign hq hlt hT0 hd hw ?_ ?_ ?_, fun a j h => ?_, fun _ _ _ => rfl⟩
                   · rw [if_pos hE]; simp [au_up, g7]; omega
                   · simp [au_up, g8]
                   · rw [if_pos hE]
                     simp only [au_up]
                     simp
                     omega
                   · simp only [au_up]
                     repeat rw [if_neg (fun z => h ⟨z.1, by omega⟩)]
                     exact f4 a j h)
              · refine au_aload_n dX2_nextToken_285 rfl ?_
                refine au_iload_n dX2_nextToken_286 rfl ?_
                refine au_bipush dX2_nextToken_287 rfl rfl ?_
                refine au_icmp_ne (tgt := 296) dX2_nextToken_289 (by decide) (fun c289 => ?_) (fun c289 => ?_)
                · refine au_iconst dX2_nextToken_296 rfl rfl ?_
                  refine au_putf (a := MO) (C := RX2) (T := TX2) (N := 35) in_X2 tyX2_ok nmX2 (by decide) rfl 9 (by decide) rfl (by decide) rfl q1368 rfl rfl trivial (fun _ _ _ h => au_nf_i h) dX2_nextToken_297 (M' := (mi, (au_up (au_up (au_up s4 MO 9 3) MO 7 ((s4 MO 7) + 1)) MO 9 5), hi, sl, r, nx)) (by rfl) ?_
                  refine au_aload_n dX2_nextToken_300 rfl ?_
                  refine au_dup dX2_nextToken_301 rfl ?_
                  refine au_getf (C := RX2) (T := TX2) (N := 35) in_X2 (by decide) rfl 7 (by decide) rfl rfl q1366 rfl dX2_nextToken_302 (v := au_i ((s4 MO 7) + 1)) (by rfl) ?_
                  refine au_iconst dX2_nextToken_305 rfl rfl ?_
                  refine au_iadd dX2_nextToken_306 (by omega) (by omega) ?_
                  refine au_putf (a := MO) (C := RX2) (T := TX2) (N := 35) in_X2 tyX2_ok nmX2 (by decide) rfl 7 (by decide) rfl (by decide) rfl q1366 rfl rfl trivial (fun _ _ _ h => au_nf_i h) dX2_nextToken_307 (M' := (mi, (au_up (au_up (au_up (au_up s4 MO 9 3) MO 7 ((s4 MO 7) + 1)) MO 9 5) MO 7 (((s4 MO 7) + 1) + 1)), hi, sl, r, nx)) (by rfl) ?_
                  refine au_vret dX2_nextToken_310 rfl rfl (Nat.le_of_ble_eq_true rfl) (Nat.le_of_ble_eq_true rfl) ?_
                  first
                  | (have hE : ¬ eqN (mi MTape) (mi MO 4) (s3 MO 7) = true := fun z => by
                       have z := of_decide_eq_true z
                       first
                       | omega
                       | (have hz := byt_in (T := mi MTape) z.2.1
                          rw [g7] at c282
                          omega)
                     refine ⟨rfl, _, sl, rfl, LxM_sign hq hlt hT0 hd hw ?_ ?_ ?_, fun a j h => ?_, fun _ _ _ => rfl⟩
                     · rw [if_neg hE]; simp [au_up, g7]
                     · simp [au_up, g8]
                     · first
                       | (rw [if_neg hE, if_pos (show sgC' (mi MTape (s3 MO 7)) = true ∨ mi MTape (s3 MO 7) = 58 by rw [← hb]; exact c239), ← hb]; simp [au_up])
                       | (rw [if_neg hE, if_neg (show ¬ (sgC' (mi MTape (s3 MO 7)) = true ∨ mi MTape (s3 MO 7) = 58) by rw [← hb]; exact c239)]; simp [au_up])
                     · simp only [au_up]
                       repeat rw [if_neg (fun z => h ⟨z.1, by omega⟩)]
                       exact f4 a j h)
                  | (have hb61 : s3 MO 7 + 1 < mi MO 4 ∧ mi MTape (s3 MO 7 + 1) = 61 := by
                       rw [g7] at c282
                       by_cases z : s3 MO 7 + 1 < mi MO 4
                       · rw [byt_in z] at c282; exact ⟨z, by omega⟩
                       · rw [byt_out z] at c282; omega
                     have hE : eqN (mi MTape) (mi MO 4) (s3 MO 7) = true := decide_eq_true ⟨by omega, hb61⟩
                     refine ⟨rfl, _, sl, rfl, LxM_sign hq hlt hT0 hd hw ?_ ?_ ?_, fun a j h => ?_, fun _ _ _ => rfl⟩
                     · rw [if_pos hE]; simp [au_up, g7]; omega
                     · simp [au_up, g8]
                     · rw [if_pos hE]
                       simp only [au_up]
                       simp
                       omega
                     · simp only [au_up]
                       repeat rw [if_neg (fun z => h ⟨z.1, by omega⟩)]
                       exact f4 a j h)
                · refine au_iconst dX2_nextToken_292 rfl rfl ?_
                  refine au_goto (tgt := 297) dX2_nextToken_293 (by decide) ?_
                  refine au_putf (a := MO) (C := RX2) (T := TX2) (N := 35) in_X2 tyX2_ok nmX2 (by decide) rfl 9 (by decide) rfl (by decide) rfl q1368 rfl rfl trivial (fun _ _ _ h => au_nf_i h) dX2_nextToken_297 (M' := (mi, (au_up (au_up (au_up s4 MO 9 3) MO 7 ((s4 MO 7) + 1)) MO 9 4), hi, sl, r, nx)) (by rfl) ?_
                  refine au_aload_n dX2_nextToken_300 rfl ?_
                  refine au_dup dX2_nextToken_301 rfl ?_
                  refine au_getf (C := RX2) (T := TX2) (N := 35) in_X2 (by decide) rfl 7 (by decide) rfl rfl q1366 rfl dX2_nextToken_302 (v := au_i ((s4 MO 7) + 1)) (by rfl) ?_
                  refine au_iconst dX2_nextToken_305 rfl rfl ?_
                  refine au_iadd dX2_nextToken_306 (by omega) (by omega) ?_
                  refine au_putf (a := MO) (C := RX2) (T := TX2) (N := 35) in_X2 tyX2_ok nmX2 (by decide) rfl 7 (by decide) rfl (by decide) rfl q1366 rfl rfl trivial (fun _ _ _ h => au_nf_i h) dX2_nextToken_307 (M' := (mi, (au_up (au_up (au_up (au_up s4 MO 9 3) MO 7 ((s4 MO 7) + 1)) MO 9 4) MO 7 (((s4 MO 7) + 1) + 1)), hi, sl, r, nx)) (by rfl) ?_
                  refine au_vret dX2_nextToken_310 rfl rfl (Nat.le_of_ble_eq_true rfl) (Nat.le_of_ble_eq_true rfl) ?_
                  first
                  | (have hE : ¬ eqN (mi MTape) (mi MO 4) (s3 MO 7) = true := fun z => by
                       have z := of_decide_eq_true z
                       first
                       | omega
                       | (have hz := byt_in (T := mi MTape) z.2.1
                          rw [g7] at c282
                          omega)
                     refine ⟨rfl, _, sl, rfl, LxM_sign hq hlt hT0 hd hw ?_ ?_ ?_, fun a j h => ?_, fun _ _ _ => rfl⟩
                     · rw [if_neg hE]; simp [au_up, g7]
                     · simp [au_up, g8]
                     · first
                       | (rw [if_neg hE, if_pos (show sgC' (mi MTape (s3 MO 7)) = true ∨ mi MTape (s3 MO 7) = 58 by rw [← hb]; exact c239), ← hb]; simp [au_up])
                       | (rw [if_neg hE, if_neg (show ¬ (sgC' (mi MTape (s3 MO 7)) = true ∨ mi MTape (s3 MO 7) = 58) by rw [← hb]; exact c239)]; simp [au_up])
                     · simp only [au_up]
                       repeat rw [if_neg (fun z => h ⟨z.1, by omega⟩)]
                       exact f4 a j h)
                  | (have hb61 : s3 MO 7 + 1 < mi MO 4 ∧ mi MTape (s3 MO 7 + 1) = 61 := by
                       rw [g7] at c282
                       by_cases z : s3 MO 7 + 1 < mi MO 4
                       · rw [byt_in z] at c282; exact ⟨z, by omega⟩
                       · rw [byt_out z] at c282; omega
                     have hE : eqN (mi MTape) (mi MO 4) (s3 MO 7) = true := decide_eq_true ⟨by omega, hb61⟩
                     refine ⟨rfl, _, sl, rfl, LxM_sign hq hlt hT0 hd hw ?_ ?_ ?_, fun a j h => ?_, fun _ _ _ => rfl⟩
                     · rw [if_pos hE]; simp [au_up, g7]; omega
                     · simp [au_up, g8]
                     · rw [if_pos hE]
                       simp only [au_up]
                       simp
                       omega
                     · simp only [au_up]
                       repeat rw [if_neg (fun z => h ⟨z.1, by omega⟩)]
                       exact f4 a j h)
        · have c239 := au_b1 c239
          refine au_iload_n dX2_nextToken_242 rfl ?_
          refine au_goto (tgt := 247) dX2_nextToken_243 (by decide) ?_
          refine au_putf (a := MO) (C := RX2) (T := TX2) (N := 35) in_X2 tyX2_ok nmX2 (by decide) rfl 9 (by decide) rfl (by decide) rfl q1368 rfl rfl trivial (fun _ _ _ h => au_nf_i h) dX2_nextToken_247 (M' := (mi, (au_up s4 MO 9 c), hi, sl, r, nx)) (by rfl) ?_
          refine au_aload_n dX2_nextToken_250 rfl ?_
          refine au_dup dX2_nextToken_251 rfl ?_
          refine au_getf (C := RX2) (T := TX2) (N := 35) in_X2 (by decide) rfl 7 (by decide) rfl rfl q1366 rfl dX2_nextToken_252 (v := au_i (s4 MO 7)) (by rfl) ?_
          refine au_iconst dX2_nextToken_255 rfl rfl ?_
          refine au_iadd dX2_nextToken_256 (by omega) (by omega) ?_
          refine au_putf (a := MO) (C := RX2) (T := TX2) (N := 35) in_X2 tyX2_ok nmX2 (by decide) rfl 7 (by decide) rfl (by decide) rfl q1366 rfl rfl trivial (fun _ _ _ h => au_nf_i h) dX2_nextToken_257 (M' := (mi, (au_up (au_up s4 MO 9 c) MO 7 ((s4 MO 7) + 1)), hi, sl, r, nx)) (by rfl) ?_
          refine au_iload_n dX2_nextToken_260 rfl ?_
          refine au_bipush dX2_nextToken_261 rfl rfl ?_
          refine au_icmp_eq (tgt := 272) dX2_nextToken_263 (by decide) (fun c263 => ?_) (fun c263 => ?_)
          · refine au_aload_n dX2_nextToken_272 rfl ?_
            refine au_aload_n dX2_nextToken_273 rfl ?_
            refine au_getf (C := RX2) (T := TX2) (N := 35) in_X2 (by decide) rfl 7 (by decide) rfl rfl q1366 rfl dX2_nextToken_274 (v := au_i ((s4 MO 7) + 1)) (by rfl) ?_
            refine au_callVp (n := 1) (kX2_byteAt G ((s4 MO 7) + 1) mi (au_up (au_up s4 MO 9 c) MO 7 ((s4 MO 7) + 1)) hi sl r nx hF (by omega) hTp) (lw_V q1509 q1511 qs60 q134 q1512) rfl (by decide +kernel) (by decide) (T := TX2) (N := 35) rfl rfl rfl rfl (Nat.le_of_ble_eq_true rfl) (Nat.le_of_ble_eq_true rfl) (Nat.le_of_ble_eq_true rfl) (Nat.le_of_ble_eq_true rfl) (Nat.le_of_ble_eq_true rfl) dX2_nextToken_277 ?_
            refine au_bipush dX2_nextToken_280 rfl rfl ?_
            refine au_icmp_ne (tgt := 310) dX2_nextToken_282 (by decide) (fun c282 => ?_) (fun c282 => ?_)
            · refine au_vret dX2_nextToken_310 rfl rfl (Nat.le_of_ble_eq_true rfl) (Nat.le_of_ble_eq_true rfl) ?_
              first
              | (have hE : ¬ eqN (mi MTape) (mi MO 4) (s3 MO 7) = true := fun z => by
                   have z := of_decide_eq_true z
                   first
                   | omega
                   | (have hz := byt_in (T := mi MTape) z.2.1
                      rw [g7] at c282
                      omega)
                 refine ⟨rfl, _, sl, rfl, LxM_sign hq hlt hT0 hd hw ?_ ?_ ?_, fun a j h => ?_, fun _ _ _ => rfl⟩
                 · rw [if_neg hE]; simp [au_up, g7]
                 · simp [au_up, g8]
                 · first
                   | (rw [if_neg hE, if_pos (show sgC' (mi MTape (s3 MO 7)) = true ∨ mi MTape (s3 MO 7) = 58 by rw [← hb]; exact c239), ← hb]; simp [au_up])
                   | (rw [if_neg hE, if_neg (show ¬ (sgC' (mi MTape (s3 MO 7)) = true ∨ mi MTape (s3 MO 7) = 58) by rw [← hb]; exact c239)]; simp [au_up])
                 · simp only [au_up]
                   repeat rw [if_neg (fun z => h ⟨z.1, by omega⟩)]
                   exact f4 a j h)
              | (have hb61 : s3 MO 7 + 1 < mi MO 4 ∧ mi MTape (s3 MO 7 + 1) = 61 := by
                   rw [g7] at c282
                   by_cases z : s3 MO 7 + 1 < mi MO 4
                   · rw [byt_in z] at c282; exact ⟨z, by omega⟩
                   · rw [byt_out z] at c282; omega
                 have hE : eqN (mi MTape) (mi MO 4) (s3 MO 7) = true := decide_eq_true ⟨by omega, hb61⟩
                 refine ⟨rfl, _, sl, rfl, LxM_sign hq hlt hT0 hd hw ?_ ?_ ?_, fun a j h => ?_, fun _ _ _ => rfl⟩
                 · rw [if_pos hE]; simp [au_up, g7]; omega
                 · simp [au_up, g8]
                 · rw [if_pos hE]
                   simp only [au_up]
                   simp
                   omega
                 · simp only [au_up]
                   repeat rw [if_neg (fun z => h ⟨z.1, by omega⟩)]
                   exact f4 a j h)
            · refine au_aload_n dX2_nextToken_285 rfl ?_
              refine au_iload_n dX2_nextToken_286 rfl ?_
              refine au_bipush dX2_nextToken_287 rfl rfl ?_
              refine au_icmp_ne (tgt := 296) dX2_nextToken_289 (by decide) (fun c289 => ?_) (fun c289 => ?_)
              · refine au_iconst dX2_nextToken_296 rfl rfl ?_
                refine au_putf (a := MO) (C := RX2) (T := TX2) (N := 35) in_X2 tyX2_ok nmX2 (by decide) rfl 9 (by decide) rfl (by decide) rfl q1368 rfl rfl trivial (fun _ _ _ h => au_nf_i h) dX2_nextToken_297 (M' := (mi, (au_up (au_up (au_up s4 MO 9 c) MO 7 ((s4 MO 7) + 1)) MO 9 5), hi, sl, r, nx)) (by rfl) ?_
                refine au_aload_n dX2_nextToken_300 rfl ?_
                refine au_dup dX2_nextToken_301 rfl ?_
                refine au_getf (C := RX2) (T := TX2) (N := 35) in_X2 (by decide) rfl 7 (by decide) rfl rfl q1366 rfl dX2_nextToken_302 (v := au_i ((s4 MO 7) + 1)) (by rfl) ?_
                refine au_iconst dX2_nextToken_305 rfl rfl ?_
                refine au_iadd dX2_nextToken_306 (by omega) (by omega) ?_
                refine au_putf (a := MO) (C := RX2) (T := TX2) (N := 35) in_X2 tyX2_ok nmX2 (by decide) rfl 7 (by decide) rfl (by decide) rfl q1366 rfl rfl trivial (fun _ _ _ h => au_nf_i h) dX2_nextToken_307 (M' := (mi, (au_up (au_up (au_up (au_up s4 MO 9 c) MO 7 ((s4 MO 7) + 1)) MO 9 5) MO 7 (((s4 MO 7) + 1) + 1)), hi, sl, r, nx)) (by rfl) ?_
                refine au_vret dX2_nextToken_310 rfl rfl (Nat.le_of_ble_eq_true rfl) (Nat.le_of_ble_eq_true rfl) ?_
                first
                | (have hE : ¬ eqN (mi MTape) (mi MO 4) (s3 MO 7) = true := fun z => by
                     have z := of_decide_eq_true z
                     first
                     | omega
                     | (have hz := byt_in (T := mi MTape) z.2.1
                        rw [g7] at c282
                        omega)
                   refine ⟨rfl, _, sl, rfl, LxM_sign hq hlt hT0 hd hw ?_ ?_ ?_, fun a j h => ?_, fun _ _ _ => rfl⟩
                   · rw [if_neg hE]; simp [au_up, g7]
                   · simp [au_up, g8]
                   · first
                     | (rw [if_neg hE, if_pos (show sgC' (mi MTape (s3 MO 7)) = true ∨ mi MTape (s3 MO 7) = 58 by rw [← hb]; exact c239), ← hb]; simp [au_up])
                     | (rw [if_neg hE, if_neg (show ¬ (sgC' (mi MTape (s3 MO 7)) = true ∨ mi MTape (s3 MO 7) = 58) by rw [← hb]; exact c239)]; simp [au_up])
                   · simp only [au_up]
                     repeat rw [if_neg (fun z => h ⟨z.1, by omega⟩)]
                     exact f4 a j h)
                | (have hb61 : s3 MO 7 + 1 < mi MO 4 ∧ mi MTape (s3 MO 7 + 1) = 61 := by
                     rw [g7] at c282
                     by_cases z : s3 MO 7 + 1 < mi MO 4
                     · rw [byt_in z] at c282; exact ⟨z, by omega⟩
                     · rw [byt_out z] at c282; omega
                   have hE : eqN (mi MTape) (mi MO 4) (s3 MO 7) = true := decide_eq_true ⟨by omega, hb61⟩
                   refine ⟨rfl, _, sl, rfl, LxM_sign hq hlt hT0 hd hw ?_ ?_ ?_, fun a j h => ?_, fun _ _ _ => rfl⟩
                   · rw [if_pos hE]; simp [au_up, g7]; omega
                   · simp [au_up, g8]
                   · rw [if_pos hE]
                     simp only [au_up]
                     simp
                     omega
                   · simp only [au_up]
                     repeat rw [if_neg (fun z => h ⟨z.1, by omega⟩)]
                     exact f4 a j h)
              · refine au_iconst dX2_nextToken_292 rfl rfl ?_
                refine au_goto (tgt := 297) dX2_nextToken_293 (by decide) ?_
                refine au_putf (a := MO) (C := RX2) (T := TX2) (N := 35) in_X2 tyX2_ok nmX2 (by decide) rfl 9 (by decide) rfl (by decide) rfl q1368 rfl rfl trivial (fun _ _ _ h => au_nf_i h) dX2_nextToken_297 (M' := (mi, (au_up (au_up (au_up s4 MO 9 c) MO 7 ((s4 MO 7) + 1)) MO 9 4), hi, sl, r, nx)) (by rfl) ?_
                refine au_aload_n dX2_nextToken_300 rfl ?_
                refine au_dup dX2_nextToken_301 rfl ?_
                refine au_getf (C := RX2) (T := TX2) (N := 35) in_X2 (by decide) rfl 7 (by decide) rfl rfl q1366 rfl dX2_nextToken_302 (v := au_i ((s4 MO 7) + 1)) (by rfl) ?_
                refine au_iconst dX2_nextToken_305 rfl rfl ?_
                refine au_iadd dX2_nextToken_306 (by omega) (by omega) ?_
                refine au_putf (a := MO) (C := RX2) (T := TX2) (N := 35) in_X2 tyX2_ok nmX2 (by decide) rfl 7 (by decide) rfl (by decide) rfl q1366 rfl rfl trivial (fun _ _ _ h => au_nf_i h) dX2_nextToken_307 (M' := (mi, (au_up (au_up (au_up (au_up s4 MO 9 c) MO 7 ((s4 MO 7) + 1)) MO 9 4) MO 7 (((s4 MO 7) + 1) + 1)), hi, sl, r, nx)) (by rfl) ?_
                refine au_vret dX2_nextToken_310 rfl rfl (Nat.le_of_ble_eq_true rfl) (Nat.le_of_ble_eq_true rfl) ?_
                first
                | (have hE : ¬ eqN (mi MTape) (mi MO 4) (s3 MO 7) = true := fun z => by
                     have z := of_decide_eq_true z
                     first
                     | omega
                     | (have hz := byt_in (T := mi MTape) z.2.1
                        rw [g7] at c282
                        omega)
                   refine ⟨rfl, _, sl, rfl, LxM_sign hq hlt hT0 hd hw ?_ ?_ ?_, fun a j h => ?_, fun _ _ _ => rfl⟩
                   · rw [if_neg hE]; simp [au_up, g7]
                   · simp [au_up, g8]
                   · first
                     | (rw [if_neg hE, if_pos (show sgC' (mi MTape (s3 MO 7)) = true ∨ mi MTape (s3 MO 7) = 58 by rw [← hb]; exact c239), ← hb]; simp [au_up])
                     | (rw [if_neg hE, if_neg (show ¬ (sgC' (mi MTape (s3 MO 7)) = true ∨ mi MTape (s3 MO 7) = 58) by rw [← hb]; exact c239)]; simp [au_up])
                   · simp only [au_up]
                     repeat rw [if_neg (fun z => h ⟨z.1, by omega⟩)]
                     exact f4 a j h)
                | (have hb61 : s3 MO 7 + 1 < mi MO 4 ∧ mi MTape (s3 MO 7 + 1) = 61 := by
                     rw [g7] at c282
                     by_cases z : s3 MO 7 + 1 < mi MO 4
                     · rw [byt_in z] at c282; exact ⟨z, by omega⟩
                     · rw [byt_out z] at c282; omega
                   have hE : eqN (mi MTape) (mi MO 4) (s3 MO 7) = true := decide_eq_true ⟨by omega, hb61⟩
                   refine ⟨rfl, _, sl, rfl, LxM_sign hq hlt hT0 hd hw ?_ ?_ ?_, fun a j h => ?_, fun _ _ _ => rfl⟩
                   · rw [if_pos hE]; simp [au_up, g7]; omega
                   · simp [au_up, g8]
                   · rw [if_pos hE]
                     simp only [au_up]
                     simp
                     omega
                   · simp only [au_up]
                     repeat rw [if_neg (fun z => h ⟨z.1, by omega⟩)]
                     exact f4 a j h)
          · refine au_iload_n dX2_nextToken_266 rfl ?_
            refine au_bipush dX2_nextToken_267 rfl rfl ?_
            refine au_icmp_ne (tgt := 310) dX2_nextToken_269 (by decide) (fun c269 => ?_) (fun c269 => ?_)
            · refine au_vret dX2_nextToken_310 rfl rfl (Nat.le_of_ble_eq_true rfl) (Nat.le_of_ble_eq_true rfl) ?_
              first
              | (have hE : ¬ eqN (mi MTape) (mi MO 4) (s3 MO 7) = true := fun z => by
                   have z := of_decide_eq_true z
                   first
                   | omega
                   | (have hz := byt_in (T := mi MTape) z.2.1
                      rw [g7] at c282
                      omega)
                 refine ⟨rfl, _, sl, rfl, LxM_sign hq hlt hT0 hd hw ?_ ?_ ?_, fun a j h => ?_, fun _ _ _ => rfl⟩
                 · rw [if_neg hE]; simp [au_up, g7]
                 · simp [au_up, g8]
                 · first
                   | (rw [if_neg hE, if_pos (show sgC' (mi MTape (s3 MO 7)) = true ∨ mi MTape (s3 MO 7) = 58 by rw [← hb]; exact c239), ← hb]; simp [au_up])
                   | (rw [if_neg hE, if_neg (show ¬ (sgC' (mi MTape (s3 MO 7)) = true ∨ mi MTape (s3 MO 7) = 58) by rw [← hb]; exact c239)]; simp [au_up])
                 · simp only [au_up]
                   repeat rw [if_neg (fun z => h ⟨z.1, by omega⟩)]
                   exact f4 a j h)
              | (have hb61 : s3 MO 7 + 1 < mi MO 4 ∧ mi MTape (s3 MO 7 + 1) = 61 := by
                   rw [g7] at c282
                   by_cases z : s3 MO 7 + 1 < mi MO 4
                   · rw [byt_in z] at c282; exact ⟨z, by omega⟩
                   · rw [byt_out z] at c282; omega
                 have hE : eqN (mi MTape) (mi MO 4) (s3 MO 7) = true := decide_eq_true ⟨by omega, hb61⟩
                 refine ⟨rfl, _, sl, rfl, LxM_sign hq hlt hT0 hd hw ?_ ?_ ?_, fun a j h => ?_, fun _ _ _ => rfl⟩
                 · rw [if_pos hE]; simp [au_up, g7]; omega
                 · simp [au_up, g8]
                 · rw [if_pos hE]
                   simp only [au_up]
                   simp
                   omega
                 · simp only [au_up]
                   repeat rw [if_neg (fun z => h ⟨z.1, by omega⟩)]
                   exact f4 a j h)
            · refine au_aload_n dX2_nextToken_272 rfl ?_
              refine au_aload_n dX2_nextToken_273 rfl ?_
              refine au_getf (C := RX2) (T := TX2) (N := 35) in_X2 (by decide) rfl 7 (by decide) rfl rfl q1366 rfl dX2_nextToken_274 (v := au_i ((s4 MO 7) + 1)) (by rfl) ?_
              refine au_callVp (n := 1) (kX2_byteAt G ((s4 MO 7) + 1) mi (au_up (au_up s4 MO 9 c) MO 7 ((s4 MO 7) + 1)) hi sl r nx hF (by omega) hTp) (lw_V q1509 q1511 qs60 q134 q1512) rfl (by decide +kernel) (by decide) (T := TX2) (N := 35) rfl rfl rfl rfl (Nat.le_of_ble_eq_true rfl) (Nat.le_of_ble_eq_true rfl) (Nat.le_of_ble_eq_true rfl) (Nat.le_of_ble_eq_true rfl) (Nat.le_of_ble_eq_true rfl) dX2_nextToken_277 ?_
              refine au_bipush dX2_nextToken_280 rfl rfl ?_
              refine au_icmp_ne (tgt := 310) dX2_nextToken_282 (by decide) (fun c282 => ?_) (fun c282 => ?_)
              · refine au_vret dX2_nextToken_310 rfl rfl (Nat.le_of_ble_eq_true rfl) (Nat.le_of_ble_eq_true rfl) ?_
                first
                | (have hE : ¬ eqN (mi MTape) (mi MO 4) (s3 MO 7) = true := fun z => by
                     have z := of_decide_eq_true z
                     first
                     | omega
                     | (have hz := byt_in (T := mi MTape) z.2.1
                        rw [g7] at c282
                        omega)
                   refine ⟨rfl, _, sl, rfl, LxM_sign hq hlt hT0 hd hw ?_ ?_ ?_, fun a j h => ?_, fun _ _ _ => rfl⟩
                   · rw [if_neg hE]; simp [au_up, g7]
                   · simp [au_up, g8]
                   · first
                     | (rw [if_neg hE, if_pos (show sgC' (mi MTape (s3 MO 7)) = true ∨ mi MTape (s3 MO 7) = 58 by rw [← hb]; exact c239), ← hb]; simp [au_up])
                     | (rw [if_neg hE, if_neg (show ¬ (sgC' (mi MTape (s3 MO 7)) = true ∨ mi MTape (s3 MO 7) = 58) by rw [← hb]; exact c239)]; simp [au_up])
                   · simp only [au_up]
                     repeat rw [if_neg (fun z => h ⟨z.1, by omega⟩)]
                     exact f4 a j h)
                | (have hb61 : s3 MO 7 + 1 < mi MO 4 ∧ mi MTape (s3 MO 7 + 1) = 61 := by
                     rw [g7] at c282
                     by_cases z : s3 MO 7 + 1 < mi MO 4
                     · rw [byt_in z] at c282; exact ⟨z, by omega⟩
                     · rw [byt_out z] at c282; omega
                   have hE : eqN (mi MTape) (mi MO 4) (s3 MO 7) = true := decide_eq_true ⟨by omega, hb61⟩
                   refine ⟨rfl, _, sl, rfl, LxM_sign hq hlt hT0 hd hw ?_ ?_ ?_, fun a j h => ?_, fun _ _ _ => rfl⟩
                   · rw [if_pos hE]; simp [au_up, g7]; omega
                   · simp [au_up, g8]
                   · rw [if_pos hE]
                     simp only [au_up]
                     simp
                     omega
                   · simp only [au_up]
                     repeat rw [if_neg (fun z => h ⟨z.1, by omega⟩)]
                     exact f4 a j h)
              · refine au_aload_n dX2_nextToken_285 rfl ?_
                refine au_iload_n dX2_nextToken_286 rfl ?_
                refine au_bipush dX2_nextToken_287 rfl rfl ?_
                refine au_icmp_ne (tgt := 296) dX2_nextToken_289 (by decide) (fun c289 => ?_) (fun c289 => ?_)
                · refine au_iconst dX2_nextToken_296 rfl rfl ?_
                  refine au_putf (a := MO) (C := RX2) (T := TX2) (N := 35) in_X2 tyX2_ok nmX2 (by decide) rfl 9 (by decide) rfl (by decide) rfl q1368 rfl rfl trivial (fun _ _ _ h => au_nf_i h) dX2_nextToken_297 (M' := (mi, (au_up (au_up (au_up s4 MO 9 c) MO 7 ((s4 MO 7) + 1)) MO 9 5), hi, sl, r, nx)) (by rfl) ?_
                  refine au_aload_n dX2_nextToken_300 rfl ?_
                  refine au_dup dX2_nextToken_301 rfl ?_
                  refine au_getf (C := RX2) (T := TX2) (N := 35) in_X2 (by decide) rfl 7 (by decide) rfl rfl q1366 rfl dX2_nextToken_302 (v := au_i ((s4 MO 7) + 1)) (by rfl) ?_
                  refine au_iconst dX2_nextToken_305 rfl rfl ?_
                  refine au_iadd dX2_nextToken_306 (by omega) (by omega) ?_
                  refine au_putf (a := MO) (C := RX2) (T := TX2) (N := 35) in_X2 tyX2_ok nmX2 (by decide) rfl 7 (by decide) rfl (by decide) rfl q1366 rfl rfl trivial (fun _ _ _ h => au_nf_i h) dX2_nextToken_307 (M' := (mi, (au_up (au_up (au_up (au_up s4 MO 9 c) MO 7 ((s4 MO 7) + 1)) MO 9 5) MO 7 (((s4 MO 7) + 1) + 1)), hi, sl, r, nx)) (by rfl) ?_
                  refine au_vret dX2_nextToken_310 rfl rfl (Nat.le_of_ble_eq_true rfl) (Nat.le_of_ble_eq_true rfl) ?_
                  first
                  | (have hE : ¬ eqN (mi MTape) (mi MO 4) (s3 MO 7) = true := fun z => by
                       have z := of_decide_eq_true z
                       first
                       | omega
                       | (have hz := byt_in (T := mi MTape) z.2.1
                          rw [g7] at c282
                          omega)
                     refine ⟨rfl, _, sl, rfl, LxM_sign hq hlt hT0 hd hw ?_ ?_ ?_, fun a j h => ?_, fun _ _ _ => rfl⟩
                     · rw [if_neg hE]; simp [au_up, g7]
                     · simp [au_up, g8]
                     · first
                       | (rw [if_neg hE, if_pos (show sgC' (mi MTape (s3 MO 7)) = true ∨ mi MTape (s3 MO 7) = 58 by rw [← hb]; exact c239), ← hb]; simp [au_up])
                       | (rw [if_neg hE, if_neg (show ¬ (sgC' (mi MTape (s3 MO 7)) = true ∨ mi MTape (s3 MO 7) = 58) by rw [← hb]; exact c239)]; simp [au_up])
                     · simp only [au_up]
                       repeat rw [if_neg (fun z => h ⟨z.1, by omega⟩)]
                       exact f4 a j h)
                  | (have hb61 : s3 MO 7 + 1 < mi MO 4 ∧ mi MTape (s3 MO 7 + 1) = 61 := by
                       rw [g7] at c282
                       by_cases z : s3 MO 7 + 1 < mi MO 4
                       · rw [byt_in z] at c282; exact ⟨z, by omega⟩
                       · rw [byt_out z] at c282; omega
                     have hE : eqN (mi MTape) (mi MO 4) (s3 MO 7) = true := decide_eq_true ⟨by omega, hb61⟩
                     refine ⟨rfl, _, sl, rfl, LxM_sign hq hlt hT0 hd hw ?_ ?_ ?_, fun a j h => ?_, fun _ _ _ => rfl⟩
                     · rw [if_pos hE]; simp [au_up, g7]; omega
                     · simp [au_up, g8]
                     · rw [if_pos hE]
                       simp only [au_up]
                       simp
                       omega
                     · simp only [au_up]
                       repeat rw [if_neg (fun z => h ⟨z.1, by omega⟩)]
                       exact f4 a j h)
                · refine au_iconst dX2_nextToken_292 rfl rfl ?_
                  refine au_goto (tgt := 297) dX2_nextToken_293 (by decide) ?_
                  refine au_putf (a := MO) (C := RX2) (T := TX2) (N := 35) in_X2 tyX2_ok nmX2 (by decide) rfl 9 (by decide) rfl (by decide) rfl q1368 rfl rfl trivial (fun _ _ _ h => au_nf_i h) dX2_nextToken_297 (M' := (mi, (au_up (au_up (au_up s4 MO 9 c) MO 7 ((s4 MO 7) + 1)) MO 9 4), hi, sl, r, nx)) (by rfl) ?_
                  refine au_aload_n dX2_nextToken_300 rfl ?_
                  refine au_dup dX2_nextToken_301 rfl ?_
                  refine au_getf (C := RX2) (T := TX2) (N := 35) in_X2 (by decide) rfl 7 (by decide) rfl rfl q1366 rfl dX2_nextToken_302 (v := au_i ((s4 MO 7) + 1)) (by rfl) ?_
                  refine au_iconst dX2_nextToken_305 rfl rfl ?_
                  refine au_iadd dX2_nextToken_306 (by omega) (by omega) ?_
                  refine au_putf (a := MO) (C := RX2) (T := TX2) (N := 35) in_X2 tyX2_ok nmX2 (by decide) rfl 7 (by decide) rfl (by decide) rfl q1366 rfl rfl trivial (fun _ _ _ h => au_nf_i h) dX2_nextToken_307 (M' := (mi, (au_up (au_up (au_up (au_up s4 MO 9 c) MO 7 ((s4 MO 7) + 1)) MO 9 4) MO 7 (((s4 MO 7) + 1) + 1)), hi, sl, r, nx)) (by rfl) ?_
                  refine au_vret dX2_nextToken_310 rfl rfl (Nat.le_of_ble_eq_true rfl) (Nat.le_of_ble_eq_true rfl) ?_
                  first
                  | (have hE : ¬ eqN (mi MTape) (mi MO 4) (s3 MO 7) = true := fun z => by
                       have z := of_decide_eq_true z
                       first
                       | omega
                       | (have hz := byt_in (T := mi MTape) z.2.1
                          rw [g7] at c282
                          omega)
                     refine ⟨rfl, _, sl, rfl, LxM_sign hq hlt hT0 hd hw ?_ ?_ ?_, fun a j h => ?_, fun _ _ _ => rfl⟩
                     · rw [if_neg hE]; simp [au_up, g7]
                     · simp [au_up, g8]
                     · first
                       | (rw [if_neg hE, if_pos (show sgC' (mi MTape (s3 MO 7)) = true ∨ mi MTape (s3 MO 7) = 58 by rw [← hb]; exact c239), ← hb]; simp [au_up])
                       | (rw [if_neg hE, if_neg (show ¬ (sgC' (mi MTape (s3 MO 7)) = true ∨ mi MTape (s3 MO 7) = 58) by rw [← hb]; exact c239)]; simp [au_up])
                     · simp only [au_up]
                       repeat rw [if_neg (fun z => h ⟨z.1, by omega⟩)]
                       exact f4 a j h)
                  | (have hb61 : s3 MO 7 + 1 < mi MO 4 ∧ mi MTape (s3 MO 7 + 1) = 61 := by
                       rw [g7] at c282
                       by_cases z : s3 MO 7 + 1 < mi MO 4
                       · rw [byt_in z] at c282; exact ⟨z, by omega⟩
                       · rw [byt_out z] at c282; omega
                     have hE : eqN (mi MTape) (mi MO 4) (s3 MO 7) = true := decide_eq_true ⟨by omega, hb61⟩
                     refine ⟨rfl, _, sl, rfl, LxM_sign hq hlt hT0 hd hw ?_ ?_ ?_, fun a j h => ?_, fun _ _ _ => rfl⟩
                     · rw [if_pos hE]; simp [au_up, g7]; omega
                     · simp [au_up, g8]
                     · rw [if_pos hE]
                       simp only [au_up]
                       simp
                       omega
                     · simp only [au_up]
                       repeat rw [if_neg (fun z => h ⟨z.1, by omega⟩)]
                       exact f4 a j h)
      · have c155 := au_b1 c155
        refine au_aload_n dX2_nextToken_158 rfl ?_
        refine au_iconst dX2_nextToken_159 rfl rfl ?_
        refine au_putf (a := MO) (C := RX2) (T := TX2) (N := 35) in_X2 tyX2_ok nmX2 (by decide) rfl 9 (by decide) rfl (by decide) rfl q1368 rfl rfl trivial (fun _ _ _ h => au_nf_i h) dX2_nextToken_160 (M' := (mi, (au_up (au_up s3 MO 8 (s3 MO 7)) MO 9 2), hi, sl, r, nx)) (by rfl) ?_
        refine au_aload_n dX2_nextToken_163 rfl ?_
        refine au_lconst dX2_nextToken_164 rfl ?_
        refine au_putf (a := MO) (C := RX2) (T := TX2) (N := 35) in_X2 tyX2_ok nmX2 (by decide) rfl 11 (by decide) rfl (by decide) rfl q1370 rfl rfl trivial (fun _ _ _ h => au_nf_l h) dX2_nextToken_165 (M' := (mi, (au_up (au_up s3 MO 8 (s3 MO 7)) MO 9 2), hi, (au_up sl MO 11 0), r, nx)) (by rfl) ?_
        have hlt : s3 MO 7 < mi MO 4 := by
          by_cases z : s3 MO 7 < mi MO 4
          · exact z
          · rw [byt_out z] at c57; exact absurd c57 (by decide)
        have hb := byt_in (T := mi MTape) hlt
        have hd : ¬ diC (mi MTape (s3 MO 7)) = true := by rw [← hb]; exact c72
        have hw : leC (mi MTape (s3 MO 7)) = true := by rw [← hb]; exact c155
        generalize hs2 : au_up (au_up s3 MO 8 (s3 MO 7)) MO 9 (2 : Int) = s2
        generalize hl2 : au_up sl MO 11 (0 : Int) = l2
        have g7 : s2 MO 7 = s3 MO 7 := by rw [← hs2]; simp [au_up]
        have g8 : s2 MO 8 = s3 MO 7 := by rw [← hs2]; simp [au_up]
        have g9 : s2 MO 9 = 2 := by rw [← hs2]; simp [au_up]
        have g11 : l2 MO 11 = 0 := by rw [← hl2]; simp [au_up]
        refine hwrd 301 _ s2 l2 (by omega) (by omega) (by omega) (by omega) (fun s4 l4 e4 n4 f4 k4 => ?_)
        refine au_vret dX2_nextToken_310 rfl rfl (Nat.le_refl _) (Nat.le_refl _) ⟨rfl, s4, l4, rfl, LxM_word hq hlt hd hw (by rw [e4, g7]) (by rw [f4 _ _ (by simp), g8]) (by rw [f4 _ _ (by simp), g9]) (by rw [n4, g7, g11]), fun a j h => ?_, fun a j h => ?_⟩
        · rw [f4 a j (fun z => h ⟨z.1, by omega⟩), ← hs2]
          simp only [au_up]
          repeat rw [if_neg (fun z => h ⟨z.1, by omega⟩)]
          exact f3 a j (fun z => h ⟨z.1, by omega⟩)
        · rw [k4 a j h, ← hl2]
          exact if_neg h
    · have c72 := au_b1 c72
      refine au_aload_n dX2_nextToken_75 rfl ?_
      refine au_iconst dX2_nextToken_76 rfl rfl ?_
      refine au_putf (a := MO) (C := RX2) (T := TX2) (N := 35) in_X2 tyX2_ok nmX2 (by decide) rfl 9 (by decide) rfl (by decide) rfl q1368 rfl rfl trivial (fun _ _ _ h => au_nf_i h) dX2_nextToken_77 (M' := (mi, (au_up (au_up s3 MO 8 (s3 MO 7)) MO 9 1), hi, sl, r, nx)) (by rfl) ?_
      refine au_aload_n dX2_nextToken_80 rfl ?_
      refine au_iconst dX2_nextToken_81 rfl rfl ?_
      refine au_putf (a := MO) (C := RX2) (T := TX2) (N := 35) in_X2 tyX2_ok nmX2 (by decide) rfl 10 (by decide) rfl (by decide) rfl q1369 rfl rfl trivial (fun _ _ _ h => au_nf_i h) dX2_nextToken_82 (M' := (mi, (au_up (au_up (au_up s3 MO 8 (s3 MO 7)) MO 9 1) MO 10 0), hi, sl, r, nx)) (by rfl) ?_
      have hlt : s3 MO 7 < mi MO 4 := by
        by_cases z : s3 MO 7 < mi MO 4
        · exact z
        · rw [byt_out z] at c57; exact absurd c57 (by decide)
      have hb := byt_in (T := mi MTape) hlt
      have hd : diC (mi MTape (s3 MO 7)) = true := by rw [← hb]; exact c72
      generalize hs2 : au_up (au_up (au_up s3 MO 8 (s3 MO 7)) MO 9 1) MO 10 (0 : Int) = s2
      have g7 : s2 MO 7 = s3 MO 7 := by rw [← hs2]; simp [au_up]
      have g8 : s2 MO 8 = s3 MO 7 := by rw [← hs2]; simp [au_up]
      have g9 : s2 MO 9 = 1 := by rw [← hs2]; simp [au_up]
      have g10 : s2 MO 10 = 0 := by rw [← hs2]; simp [au_up]
      refine hnum 301 _ s2 (by omega) (by omega) (by omega) (by omega) (fun s4 e4 b4 n4 f4 => ?_)
      refine au_vret dX2_nextToken_310 rfl rfl (Nat.le_refl _) (Nat.le_refl _) ⟨rfl, s4, sl, rfl, LxM_num hq hlt hd (by rw [e4, g7]) (by rw [f4 _ _ (by simp), g8]) (by rw [f4 _ _ (by simp), g9]) (by rw [n4, g7, g10]; rfl) b4, fun a j h => ?_, fun _ _ _ => rfl⟩
      rw [f4 a j (fun z => h ⟨z.1, by omega⟩), ← hs2]
      simp only [au_up]
      repeat rw [if_neg (fun z => h ⟨z.1, by omega⟩)]
      exact f3 a j (fun z => h ⟨z.1, by omega⟩)
  · refine au_aload_n dX2_nextToken_60 rfl ?_
    refine au_iconst dX2_nextToken_61 rfl rfl ?_
    refine au_putf (a := MO) (C := RX2) (T := TX2) (N := 35) in_X2 tyX2_ok nmX2 (by decide) rfl 9 (by decide) rfl (by decide) rfl q1368 rfl rfl trivial (fun _ _ _ h => au_nf_i h) dX2_nextToken_62 (M' := (mi, (au_up (au_up s3 MO 8 (s3 MO 7)) MO 9 0), hi, sl, r, nx)) (by rfl) ?_
    have hge : ¬ s3 MO 7 < mi MO 4 := fun z => by
      rw [byt_in z] at c57
      have := hTp.2 _ (by omega) z
      omega
    refine au_goto (tgt := 310) dX2_nextToken_65 (by decide) ?_
    refine au_vret dX2_nextToken_310 rfl rfl (Nat.le_refl _) (Nat.le_refl _) ⟨rfl, _, sl, rfl, LxM_end hq hge (by simp [au_up]) (by simp [au_up]) (by simp [au_up]), fun a j h => ?_, fun _ _ _ => rfl⟩
    simp only [au_up]
    repeat rw [if_neg (fun z => h ⟨z.1, by omega⟩)]
    exact f3 a j (fun z => h ⟨z.1, by omega⟩)
