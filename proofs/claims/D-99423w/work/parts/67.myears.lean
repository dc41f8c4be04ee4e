/-! THE MODEL: years, days to come, the image (printed by tools/m67.py) -/
set_option maxRecDepth 100000
set_option maxHeartbeats 4000000

theorem up_back {mi : au_A → Int → Int} (h : mi MO 23 = 1) : au_up (au_up mi MO 23 0) MO 23 1 = mi := by
  funext c j
  unfold au_up
  by_cases q : c = MO ∧ j = 23
  · rw [if_pos q, q.1, q.2, h]
  · rw [if_neg q, if_neg q]
theorem rowS_up_comm (mi : au_A → Int → Int) {a b : au_A} (R : Int → Int) (j v : Int) (h : b ≠ a) : au_up (rowS mi a R) b j v = rowS (au_up mi b j v) a R := by
  funext c k
  unfold au_up rowS
  by_cases q : c = a
  · rw [if_pos q, if_neg (fun z => h (z.1.symm.trans q)), if_pos q]
  · rw [if_neg q, if_neg q]
section HNE
variable {n : Int} {B Pr : Int → Int} {Lw : au_Lw}
/-- who doesn't go up any more doesn't go up again -/
theorem act1_hne (hB : Bs B n) {s : au_D} (h : RowOK s.1 n B) {k a : Int} (hk : 0 ≤ k) (hk2 : k < s.1 2) (ha : 0 ≤ a) (ha2 : a < 10) (h4 : s.1 (3 + 7 * a + 4) ≠ 0) : (act1 n B Pr Lw s k).1 (3 + 7 * a + 4) ≠ 0 := by
  by_cases e : a = k
  · by_cases hc : s.1 (3 + 7 * k + 4) = 2 ∨ waF s.1 k
    · rw [act1_skip hc]; exact h4
    · rw [e] at h4 ⊢
      rw [act1_dn hc h4]
      show dnF n B Pr Lw s.1 k (3 + 7 * k + 4) ≠ 0
      have x4 := d1F_w (n := n) (B := B) (Pr := Pr) (Lw := Lw) s.1 k (w := 4) (by decide) (by decide)
      rw [if_neg (by decide), if_neg (by decide)] at x4
      unfold dnF
      split
      · have hr := h.1.2.2.2.2 k hk hk2
        have hz := towards_bd hB hr.2.2.1.1 hr.1.1 hr.1.2 ((h.2 k hk hk2).2.2 (by have := hr.2.2.2.2.1; have h2 : ¬ s.1 (3 + 7 * k + 4) = 2 := fun q => hc (Or.inl q); omega))
        have e83 : ∀ v, up1 (d1F n B Pr Lw s.1 k) (3 + 7 * k + 4) v 83 = s.1 83 := fun v => (up1_ne _ _ (by have := h.1.2.2.1.2; omega)).trans ((up1_ne _ _ (by have := h.1.2.2.1.2; omega)).trans (up1_ne _ _ (by have := h.1.2.2.1.2; omega)))
        have h83 := h.1.2.2.2.1
        rw [wrF_lo _ _ _ (by rw [e83]; exact h83.1) (by rw [e83]; exact h83.2) (by have := h.1.2.2.1.2; omega), up1_self]
        decide
      · rw [x4]; exact h4
  · have o := act1_ok (Pr := Pr) (Lw := Lw) hB h hk hk2
    rw [o.2.1.ap ha ha2 e 4 (by decide) (by decide)]; exact h4
theorem actN_hne (hB : Bs B n) {s : au_D} (h : RowOK s.1 n B) {a : Int} (ha : 0 ≤ a) (ha2 : a < 10) (h4 : s.1 (3 + 7 * a + 4) ≠ 0) : ∀ k : Nat, (k : Int) ≤ s.1 2 → (actN n B Pr Lw k s).1 (3 + 7 * a + 4) ≠ 0 := by
  intro k
  induction k with
  | zero => intro _; exact h4
  | succ k ih =>
    intro hk
    have j := actN_kp (Pr := Pr) (Lw := Lw) hB h k (by omega)
    exact act1_hne hB j.1 (by omega) (by rw [j.2.1]; omega) ha ha2 (ih (by omega))
theorem mrg1_hne {s : au_D} (h : RowOK s.1 n B) {b c : Int} (hb : 0 ≤ b) (hbc : b < c) (hc2 : c < s.1 2) {a : Int} (ha : 0 ≤ a) (ha2 : a < 10) (h4 : s.1 (3 + 7 * a + 4) ≠ 0) : (mrg1 s b c).1 (3 + 7 * a + 4) ≠ 0 := by
  by_cases hm : mtF s.1 b c
  · rw [mrg1_y hm]
    obtain ⟨-, -, -, k4, k5⟩ := mgF_ok h hb hbc hc2
    show mgF s.1 b c (3 + 7 * a + 4) ≠ 0
    by_cases e : a = c
    · rw [e, k5]; decide
    · rw [k4 a 4 ha ha2 (by decide) (by decide) (by decide) (fun z => e z.1)]; exact h4
  · rw [mrg1_n hm]; exact h4
theorem mrgB_hne {s : au_D} (h : RowOK s.1 n B) {b : Int} (hb : 0 ≤ b) {a : Int} (ha : 0 ≤ a) (ha2 : a < 10) (h4 : s.1 (3 + 7 * a + 4) ≠ 0) : ∀ k : Nat, b + 1 + (k : Int) ≤ s.1 2 → (mrgB b k s).1 (3 + 7 * a + 4) ≠ 0 := by
  intro k
  induction k with
  | zero => intro _; exact h4
  | succ k ih =>
    intro hk
    have j := mrgB_kp h hb k (by omega)
    exact mrg1_hne (n := n) (B := B) j.1 hb (by omega) (by rw [j.2.1]; omega) ha ha2 (ih (by omega))
theorem mrgN_hne {s : au_D} (h : RowOK s.1 n B) {m : Nat} (hm : (m : Int) = s.1 2) {a : Int} (ha : 0 ≤ a) (ha2 : a < 10) (h4 : s.1 (3 + 7 * a + 4) ≠ 0) : ∀ k : Nat, k ≤ m → (mrgN m k s).1 (3 + 7 * a + 4) ≠ 0 := by
  intro k
  induction k with
  | zero => intro _; exact h4
  | succ k ih =>
    intro hk
    have j := mrgN_kp h hm k (by omega)
    exact mrgB_hne (n := n) (B := B) j.1 (by omega) ha ha2 (ih (by omega)) (m - 1 - k) (by rw [j.2.1]; omega)
theorem pasF_hne (hB : Bs B n) {R : Int → Int} (h : RowOK R n B) {a : Int} (ha : 0 ≤ a) (ha2 : a < 10) (h4 : R (3 + 7 * a + 4) ≠ 0) : (pasF n B Pr Lw R).1 (3 + 7 * a + 4) ≠ 0 := by
  have r2 := h.1.2.2.1
  have i := actN_kp (Pr := Pr) (Lw := Lw) hB (s := (R, 0, 0)) h (R 2).toNat (by show _ ≤ R 2; omega)
  have i4 := actN_hne (Pr := Pr) (Lw := Lw) hB (s := (R, 0, 0)) h ha ha2 h4 (R 2).toNat (by show _ ≤ R 2; omega)
  have k4 := mrgN_hne (n := n) (B := B) i.1 (m := (R 2).toNat) (by rw [i.2.1]; show _ = R 2; omega) ha ha2 i4 (R 2).toNat (Nat.le_refl _)
  intro q
  refine k4 (Eq.trans ?_ q)
  exact (up1_ne _ _ (by omega)).symm
end HNE

theorem kX2_happens (G : au_G) (x n : Int) (B Pr : Int → Int) (Lw : au_Lw) (R : Int → Int) (A : Int → Int) (mi si hi sl : au_A → Int → Int) (r : au_A → Int → Option au_A) (nx : Nat) (hF : Fix r) (hW : mi MO 23 = 1) (hE : EnA (mi MT) A n B Pr Lw) (hM : MRel 1 A R) (hR : RowOK R n B) (hx : 0 ≤ x) : au_Ctr G yX2_happens cX2_happens 3 none 7 0 0 [au_r MO, au_i x] (rowS mi MA A, si, hi, sl, r, nx) (fun rv M' => rv = none ∧ ∃ (A' : Int → Int) (sj slj : au_A → Int → Int), M' = (rowS mi MA A', sj, hi, slj, r, nx) ∧ MRel 1 A' (hpF n B Pr Lw x R).1 ∧ FrW 1 A A') := by
  refine au_of (by decide) (Nat.le_of_ble_eq_true rfl) ?_
  have hB := hE.2.2.1
  have hb1 := hB.1
  have hb0 := hB.2.1
  have hn : 0 ≤ n ∧ n ≤ 10 := ⟨hb1, hb0⟩
  obtain ⟨⟨r0, r0b⟩, ⟨r1, r1b⟩, ⟨r2, r2b⟩, ⟨r83, r83b⟩, rA⟩ := id hR.1
  obtain ⟨gN, gE, gP⟩ := hE.g mi
  show au_Go G _ _ 0 [some (au_r MO), some (au_i x), none] [] (rowS mi MA A, si, hi, sl, r, nx) 0 0
  refine au_iload_n dX2_happens_0 rfl ?_
  refine au_iconst dX2_happens_1 rfl rfl ?_
  refine au_irem dX2_happens_2 (by omega) (by omega) ?_
  refine au_iconst dX2_happens_3 rfl rfl ?_
  refine au_icmp_le (tgt := 25) dX2_happens_4 (by decide) (fun c4 => ?_) (fun c4 => ?_)
  · refine au_aload_n dX2_happens_25 rfl ?_
    refine au_getf (C := RX2) (T := TX2) (N := 35) in_X2 (by decide) rfl 0 (by decide) rfl rfl q1359 rfl dX2_happens_26 (v := au_r MA) (congrArg au_q (fx_MO_0 hF)) ?_
    refine au_iconst dX2_happens_29 rfl rfl ?_
    refine au_iald dX2_happens_30 rfl (by omega) (by show _ < ((4544 : Nat) : Int); omega) (v := au_i (n)) (congrArg au_i (((au_gi_m (au_reg_MA _)).trans (show rowS mi MA A MA 0 = A 0 from (rowS_self _ _ _ _).trans (rfl))).trans (hE.1))) ?_
    refine au_if_ne (tgt := 35) dX2_happens_31 (by decide) (fun c31 => ?_) (fun c31 => ?_)
    · have hm0 := Int.emod_nonneg x c31
      have hm1 := Int.emod_lt_of_pos x (show 0 < n by omega)
      refine au_iload_n dX2_happens_35 rfl ?_
      refine au_aload_n dX2_happens_36 rfl ?_
      refine au_getf (C := RX2) (T := TX2) (N := 35) in_X2 (by decide) rfl 0 (by decide) rfl rfl q1359 rfl dX2_happens_37 (v := au_r MA) (congrArg au_q (fx_MO_0 hF)) ?_
      refine au_iconst dX2_happens_40 rfl rfl ?_
      refine au_iald dX2_happens_41 rfl (by omega) (by show _ < ((4544 : Nat) : Int); omega) (v := au_i (n)) (congrArg au_i (((au_gi_m (au_reg_MA _)).trans (show rowS mi MA A MA 0 = A 0 from (rowS_self _ _ _ _).trans (rfl))).trans (hE.1))) ?_
      refine au_irem dX2_happens_42 (by omega) (by omega) ?_
      refine au_istore_n dX2_happens_43 (show 2 < 3 by decide) ?_
      show au_Go G _ _ 44 [some (au_r MO), some (au_i x), some (au_i (x % n))] [] ((rowS mi MA A), si, hi, sl, r, nx) 0 0
      refine au_iload_n dX2_happens_44 rfl ?_
      refine au_iconst dX2_happens_45 rfl rfl ?_
      refine au_irem dX2_happens_46 (by omega) (by omega) ?_
      refine au_iconst dX2_happens_47 rfl rfl ?_
      refine au_icmp_ne (tgt := 84) dX2_happens_48 (by decide) (fun c48 => ?_) (fun c48 => ?_)
      · refine au_aload_n dX2_happens_84 rfl ?_
        refine au_iload_n dX2_happens_85 rfl ?_
        refine au_iconst dX2_happens_86 rfl rfl ?_
        refine au_callVp (n := 2) (kX2_canWrong G (x % n) 0 n B R A mi si hi sl r nx hF gN gE hB hM.1) (lw_V q1658 q1660 qs86 q134 q1661) rfl (by decide +kernel) (by decide) (T := TX2) (N := 35) rfl rfl rfl rfl (Nat.le_of_ble_eq_true rfl) (Nat.le_of_ble_eq_true rfl) (Nat.le_of_ble_eq_true rfl) (Nat.le_of_ble_eq_true rfl) (Nat.le_of_ble_eq_true rfl) dX2_happens_87 ?_
        refine au_if_eq (tgt := 105) dX2_happens_90 (by decide) (fun c90 => ?_) (fun c90 => ?_)
        · have c90 := au_b0 c90
          refine au_vret dX2_happens_105 rfl rfl (Nat.le_of_ble_eq_true rfl) (Nat.le_of_ble_eq_true rfl) ?_
          first
          | exact ⟨rfl, A2, si, sl, rfl, by rw [show hpF n B Pr Lw x R = _ from hpF_p (by omega) (by omega) c17]; exact hM2, hf2⟩
          | exact ⟨rfl, A, si, sl, rfl, by rw [show hpF n B Pr Lw x R = _ from hpF_pn (by omega) (by omega) (by omega)]; exact hM, FrW.rf 1 A⟩
          | exact ⟨rfl, A, si, sl, rfl, by rw [show hpF n B Pr Lw x R = _ from hpF_n0 c31 (by omega)]; exact hM, FrW.rf 1 A⟩
          | exact ⟨rfl, A, si, sl, rfl, by rw [show hpF n B Pr Lw x R = _ from hpF_wn c31 (by omega) c90]; exact hM, FrW.rf 1 A⟩
          | exact ⟨rfl, A2, si, sl, rfl, by rw [show hpF n B Pr Lw x R = _ from hpF_w c31 (by omega) c90]; exact hM2, hf2⟩
          | (have ev : ∀ v, v = (if x % 4 = 0 then 0 else R 0 + x % 4) → MRel 1 (up1 A (10 + x % n) v) (awF R (x % n) (x % 4)) := fun v hv => by
               unfold awF
               rw [← hv]
               exact hM.away v (by omega) (by omega)
             have eh : hpF n B Pr Lw x R = _ := hpF_a c31 c48 ⟨hm0, hm1⟩
             refine ⟨rfl, _, _, _, rfl, ?_, FrW.up 1 A _ (by omega) (by omega) (by omega)⟩
             rw [eh]
             exact ev _ (by first | rw [if_pos c62] | rw [if_neg c62]))
        · have c90 := au_b1 c90
          refine au_aload_n dX2_happens_93 rfl ?_
          refine au_iload_n dX2_happens_94 rfl ?_
          refine au_iconst dX2_happens_95 rfl rfl ?_
          refine au_iconst dX2_happens_96 rfl rfl ?_
          refine au_iload_n dX2_happens_97 rfl ?_
          refine au_bipush dX2_happens_98 rfl rfl ?_
          refine au_irem dX2_happens_100 (by omega) (by omega) ?_
          refine au_iadd dX2_happens_101 (by omega) (by omega) ?_
          refine au_callV (n := 3) (kX2_wrongNow G (x % n) 0 (1 + (x % 20)) 1 R A mi si hi sl r nx hF hM r2 c90.2.2.2) (lw_V q1670 q1672 qs89 q134 q1673) rfl (by decide +kernel) (by decide) (T := TX2) (N := 35) rfl rfl rfl rfl (Nat.le_of_ble_eq_true rfl) (Nat.le_of_ble_eq_true rfl) (Nat.le_of_ble_eq_true rfl) (Nat.le_of_ble_eq_true rfl) (Nat.le_of_ble_eq_true rfl) dX2_happens_102 (fun rv_ M_ hp_ => ?_)
          obtain ⟨rfl, A2, rfl, hM2, hf2⟩ := hp_
          show au_Go G _ _ 105 [some (au_r MO), some (au_i x), some (au_i (x % n))] [] ((rowS mi MA A2), si, hi, sl, r, nx) 0 0
          refine au_vret dX2_happens_105 rfl rfl (Nat.le_of_ble_eq_true rfl) (Nat.le_of_ble_eq_true rfl) ?_
          first
          | exact ⟨rfl, A2, si, sl, rfl, by rw [show hpF n B Pr Lw x R = _ from hpF_p (by omega) (by omega) c17]; exact hM2, hf2⟩
          | exact ⟨rfl, A, si, sl, rfl, by rw [show hpF n B Pr Lw x R = _ from hpF_pn (by omega) (by omega) (by omega)]; exact hM, FrW.rf 1 A⟩
          | exact ⟨rfl, A, si, sl, rfl, by rw [show hpF n B Pr Lw x R = _ from hpF_n0 c31 (by omega)]; exact hM, FrW.rf 1 A⟩
          | exact ⟨rfl, A, si, sl, rfl, by rw [show hpF n B Pr Lw x R = _ from hpF_wn c31 (by omega) c90]; exact hM, FrW.rf 1 A⟩
          | exact ⟨rfl, A2, si, sl, rfl, by rw [show hpF n B Pr Lw x R = _ from hpF_w c31 (by omega) c90]; exact hM2, hf2⟩
          | (have ev : ∀ v, v = (if x % 4 = 0 then 0 else R 0 + x % 4) → MRel 1 (up1 A (10 + x % n) v) (awF R (x % n) (x % 4)) := fun v hv => by
               unfold awF
               rw [← hv]
               exact hM.away v (by omega) (by omega)
             have eh : hpF n B Pr Lw x R = _ := hpF_a c31 c48 ⟨hm0, hm1⟩
             refine ⟨rfl, _, _, _, rfl, ?_, FrW.up 1 A _ (by omega) (by omega) (by omega)⟩
             rw [eh]
             exact ev _ (by first | rw [if_pos c62] | rw [if_neg c62]))
      · refine au_aload_n dX2_happens_51 rfl ?_
        refine au_getf (C := RX2) (T := TX2) (N := 35) in_X2 (by decide) rfl 0 (by decide) rfl rfl q1359 rfl dX2_happens_52 (v := au_r MA) (congrArg au_q (fx_MO_0 hF)) ?_
        refine au_bipush dX2_happens_55 rfl rfl ?_
        refine au_iload_n dX2_happens_57 rfl ?_
        refine au_iadd dX2_happens_58 (by omega) (by omega) ?_
        refine au_iload_n dX2_happens_59 rfl ?_
        refine au_iconst dX2_happens_60 rfl rfl ?_
        refine au_irem dX2_happens_61 (by omega) (by omega) ?_
        refine au_if_ne (tgt := 69) dX2_happens_62 (by decide) (fun c62 => ?_) (fun c62 => ?_)
        · refine au_aload_n dX2_happens_69 rfl ?_
          refine au_getf (C := RX2) (T := TX2) (N := 35) in_X2 (by decide) rfl 0 (by decide) rfl rfl q1359 rfl dX2_happens_70 (v := au_r MA) (congrArg au_q (fx_MO_0 hF)) ?_
          refine au_bipush dX2_happens_73 rfl rfl ?_
          refine au_iald dX2_happens_75 rfl (by omega) (by show _ < ((4544 : Nat) : Int); omega) (v := au_i (R 0)) (congrArg au_i (((au_gi_m (au_reg_MA _)).trans (show rowS mi MA A MA 6 = A 6 from (rowS_self _ _ _ _).trans (rfl))).trans (hM.1.1))) ?_
          refine au_iload_n dX2_happens_76 rfl ?_
          refine au_iconst dX2_happens_77 rfl rfl ?_
          refine au_irem dX2_happens_78 (by omega) (by omega) ?_
          refine au_iadd dX2_happens_79 (by omega) (by omega) ?_
          refine au_iast dX2_happens_80 rfl (by decide) (by omega) (by show _ < ((4544 : Nat) : Int); omega) (M' := ((au_up (rowS mi MA A) MA (10 + (x % n)) ((R 0) + (x % 4))), si, hi, sl, r, nx)) (au_wv_m (au_reg_MA _)) ?_
          rw [au_up_row (rowS mi MA A) MA (10 + (x % n)) ((R 0) + (x % 4)), rowS_selfF, rowS_rowS]
          refine au_goto (tgt := 105) dX2_happens_81 (by decide) ?_
          refine au_vret dX2_happens_105 rfl rfl (Nat.le_of_ble_eq_true rfl) (Nat.le_of_ble_eq_true rfl) ?_
          first
          | exact ⟨rfl, A2, si, sl, rfl, by rw [show hpF n B Pr Lw x R = _ from hpF_p (by omega) (by omega) c17]; exact hM2, hf2⟩
          | exact ⟨rfl, A, si, sl, rfl, by rw [show hpF n B Pr Lw x R = _ from hpF_pn (by omega) (by omega) (by omega)]; exact hM, FrW.rf 1 A⟩
          | exact ⟨rfl, A, si, sl, rfl, by rw [show hpF n B Pr Lw x R = _ from hpF_n0 c31 (by omega)]; exact hM, FrW.rf 1 A⟩
          | exact ⟨rfl, A, si, sl, rfl, by rw [show hpF n B Pr Lw x R = _ from hpF_wn c31 (by omega) c90]; exact hM, FrW.rf 1 A⟩
          | exact ⟨rfl, A2, si, sl, rfl, by rw [show hpF n B Pr Lw x R = _ from hpF_w c31 (by omega) c90]; exact hM2, hf2⟩
          | (have ev : ∀ v, v = (if x % 4 = 0 then 0 else R 0 + x % 4) → MRel 1 (up1 A (10 + x % n) v) (awF R (x % n) (x % 4)) := fun v hv => by
               unfold awF
               rw [← hv]
               exact hM.away v (by omega) (by omega)
             have eh : hpF n B Pr Lw x R = _ := hpF_a c31 c48 ⟨hm0, hm1⟩
             refine ⟨rfl, _, _, _, rfl, ?_, FrW.up 1 A _ (by omega) (by omega) (by omega)⟩
             rw [eh]
             exact ev _ (by first | rw [if_pos c62] | rw [if_neg c62]))
        · refine au_iconst dX2_happens_65 rfl rfl ?_
          refine au_goto (tgt := 80) dX2_happens_66 (by decide) ?_
          refine au_iast dX2_happens_80 rfl (by decide) (by omega) (by show _ < ((4544 : Nat) : Int); omega) (M' := ((au_up (rowS mi MA A) MA (10 + (x % n)) 0), si, hi, sl, r, nx)) (au_wv_m (au_reg_MA _)) ?_
          rw [au_up_row (rowS mi MA A) MA (10 + (x % n)) 0, rowS_selfF, rowS_rowS]
          refine au_goto (tgt := 105) dX2_happens_81 (by decide) ?_
          refine au_vret dX2_happens_105 rfl rfl (Nat.le_of_ble_eq_true rfl) (Nat.le_of_ble_eq_true rfl) ?_
          first
          | exact ⟨rfl, A2, si, sl, rfl, by rw [show hpF n B Pr Lw x R = _ from hpF_p (by omega) (by omega) c17]; exact hM2, hf2⟩
          | exact ⟨rfl, A, si, sl, rfl, by rw [show hpF n B Pr Lw x R = _ from hpF_pn (by omega) (by omega) (by omega)]; exact hM, FrW.rf 1 A⟩
          | exact ⟨rfl, A, si, sl, rfl, by rw [show hpF n B Pr Lw x R = _ from hpF_n0 c31 (by omega)]; exact hM, FrW.rf 1 A⟩
          | exact ⟨rfl, A, si, sl, rfl, by rw [show hpF n B Pr Lw x R = _ from hpF_wn c31 (by omega) c90]; exact hM, FrW.rf 1 A⟩
          | exact ⟨rfl, A2, si, sl, rfl, by rw [show hpF n B Pr Lw x R = _ from hpF_w c31 (by omega) c90]; exact hM2, hf2⟩
          | (have ev : ∀ v, v = (if x % 4 = 0 then 0 else R 0 + x % 4) → MRel 1 (up1 A (10 + x % n) v) (awF R (x % n) (x % 4)) := fun v hv => by
               unfold awF
               rw [← hv]
               exact hM.away v (by omega) (by omega)
             have eh : hpF n B Pr Lw x R = _ := hpF_a c31 c48 ⟨hm0, hm1⟩
             refine ⟨rfl, _, _, _, rfl, ?_, FrW.up 1 A _ (by omega) (by omega) (by omega)⟩
             rw [eh]
             exact ev _ (by first | rw [if_pos c62] | rw [if_neg c62]))
    · refine au_vret dX2_happens_34 rfl rfl (Nat.le_of_ble_eq_true rfl) (Nat.le_of_ble_eq_true rfl) ?_
      first
      | exact ⟨rfl, A2, si, sl, rfl, by rw [show hpF n B Pr Lw x R = _ from hpF_p (by omega) (by omega) c17]; exact hM2, hf2⟩
      | exact ⟨rfl, A, si, sl, rfl, by rw [show hpF n B Pr Lw x R = _ from hpF_pn (by omega) (by omega) (by omega)]; exact hM, FrW.rf 1 A⟩
      | exact ⟨rfl, A, si, sl, rfl, by rw [show hpF n B Pr Lw x R = _ from hpF_n0 c31 (by omega)]; exact hM, FrW.rf 1 A⟩
      | exact ⟨rfl, A, si, sl, rfl, by rw [show hpF n B Pr Lw x R = _ from hpF_wn c31 (by omega) c90]; exact hM, FrW.rf 1 A⟩
      | exact ⟨rfl, A2, si, sl, rfl, by rw [show hpF n B Pr Lw x R = _ from hpF_w c31 (by omega) c90]; exact hM2, hf2⟩
      | (have ev : ∀ v, v = (if x % 4 = 0 then 0 else R 0 + x % 4) → MRel 1 (up1 A (10 + x % n) v) (awF R (x % n) (x % 4)) := fun v hv => by
           unfold awF
           rw [← hv]
           exact hM.away v (by omega) (by omega)
         have eh : hpF n B Pr Lw x R = _ := hpF_a c31 c48 ⟨hm0, hm1⟩
         refine ⟨rfl, _, _, _, rfl, ?_, FrW.up 1 A _ (by omega) (by omega) (by omega)⟩
         rw [eh]
         exact ev _ (by first | rw [if_pos c62] | rw [if_neg c62]))
  · refine au_aload_n dX2_happens_7 rfl ?_
    refine au_getf (C := RX2) (T := TX2) (N := 35) in_X2 (by decide) rfl 0 (by decide) rfl rfl q1359 rfl dX2_happens_8 (v := au_r MA) (congrArg au_q (fx_MO_0 hF)) ?_
    refine au_bipush dX2_happens_11 rfl rfl ?_
    refine au_iald dX2_happens_13 rfl (by omega) (by show _ < ((4544 : Nat) : Int); omega) (v := au_i (R 0)) (congrArg au_i (((au_gi_m (au_reg_MA _)).trans (show rowS mi MA A MA 6 = A 6 from (rowS_self _ _ _ _).trans (rfl))).trans (hM.1.1))) ?_
    refine au_sipush dX2_happens_14 rfl rfl ?_
    refine au_icmp_ge (tgt := 24) dX2_happens_17 (by decide) (fun c17 => ?_) (fun c17 => ?_)
    · refine au_vret dX2_happens_24 rfl rfl (Nat.le_of_ble_eq_true rfl) (Nat.le_of_ble_eq_true rfl) ?_
      first
      | exact ⟨rfl, A2, si, sl, rfl, by rw [show hpF n B Pr Lw x R = _ from hpF_p (by omega) (by omega) c17]; exact hM2, hf2⟩
      | exact ⟨rfl, A, si, sl, rfl, by rw [show hpF n B Pr Lw x R = _ from hpF_pn (by omega) (by omega) (by omega)]; exact hM, FrW.rf 1 A⟩
      | exact ⟨rfl, A, si, sl, rfl, by rw [show hpF n B Pr Lw x R = _ from hpF_n0 c31 (by omega)]; exact hM, FrW.rf 1 A⟩
      | exact ⟨rfl, A, si, sl, rfl, by rw [show hpF n B Pr Lw x R = _ from hpF_wn c31 (by omega) c90]; exact hM, FrW.rf 1 A⟩
      | exact ⟨rfl, A2, si, sl, rfl, by rw [show hpF n B Pr Lw x R = _ from hpF_w c31 (by omega) c90]; exact hM2, hf2⟩
      | (have ev : ∀ v, v = (if x % 4 = 0 then 0 else R 0 + x % 4) → MRel 1 (up1 A (10 + x % n) v) (awF R (x % n) (x % 4)) := fun v hv => by
           unfold awF
           rw [← hv]
           exact hM.away v (by omega) (by omega)
         have eh : hpF n B Pr Lw x R = _ := hpF_a c31 c48 ⟨hm0, hm1⟩
         refine ⟨rfl, _, _, _, rfl, ?_, FrW.up 1 A _ (by omega) (by omega) (by omega)⟩
         rw [eh]
         exact ev _ (by first | rw [if_pos c62] | rw [if_neg c62]))
    · have c17 : R 0 < 9999 := by omega
      refine au_aload_n dX2_happens_20 rfl ?_
      refine au_callV (n := 0) (kX2_pass G 1 n B Pr Lw R A mi si hi sl r nx hF hW (Or.inr rfl) hE hM hR c17) (lw_V q1706 q1708 qs95 q134 q1709) rfl (by decide +kernel) (by decide) (T := TX2) (N := 35) rfl rfl rfl rfl (Nat.le_of_ble_eq_true rfl) (Nat.le_of_ble_eq_true rfl) (Nat.le_of_ble_eq_true rfl) (Nat.le_of_ble_eq_true rfl) (Nat.le_of_ble_eq_true rfl) dX2_happens_21 (fun rv_ M_ hp_ => ?_)
      obtain ⟨rfl, A2, s2, l2, rfl, hM2, hf2, hd2, hp2, hs2⟩ := hp_
      show au_Go G _ _ 24 [some (au_r MO), some (au_i x), none] [] ((rowS mi MA A2), s2, hi, l2, r, nx) 0 0
      refine au_vret dX2_happens_24 rfl rfl (Nat.le_of_ble_eq_true rfl) (Nat.le_of_ble_eq_true rfl) ?_
      first
      | exact ⟨rfl, A2, s2, l2, rfl, by rw [show hpF n B Pr Lw x R = _ from hpF_p (by omega) (by omega) c17]; exact hM2, hf2⟩
      | exact ⟨rfl, A, s2, l2, rfl, by rw [show hpF n B Pr Lw x R = _ from hpF_pn (by omega) (by omega) (by omega)]; exact hM, FrW.rf 1 A⟩
      | exact ⟨rfl, A, s2, l2, rfl, by rw [show hpF n B Pr Lw x R = _ from hpF_n0 c31 (by omega)]; exact hM, FrW.rf 1 A⟩
      | exact ⟨rfl, A, s2, l2, rfl, by rw [show hpF n B Pr Lw x R = _ from hpF_wn c31 (by omega) c90]; exact hM, FrW.rf 1 A⟩
      | exact ⟨rfl, A2, s2, l2, rfl, by rw [show hpF n B Pr Lw x R = _ from hpF_w c31 (by omega) c90]; exact hM2, hf2⟩
      | (have ev : ∀ v, v = (if x % 4 = 0 then 0 else R 0 + x % 4) → MRel 1 (up1 A (10 + x % n) v) (awF R (x % n) (x % 4)) := fun v hv => by
           unfold awF
           rw [← hv]
           exact hM.away v (by omega) (by omega)
         have eh : hpF n B Pr Lw x R = _ := hpF_a c31 c48 ⟨hm0, hm1⟩
         refine ⟨rfl, _, _, _, rfl, ?_, FrW.up 1 A _ (by omega) (by omega) (by omega)⟩
         rw [eh]
         exact ev _ (by first | rw [if_pos c62] | rw [if_neg c62]))
theorem kX2_years (G : au_G) (Lw : au_Lw) (sd z : Int) (n : Int) (B Pr Co R : Int → Int) (ns : Int) (S : Nat → Int → Int) (A : Int → Int) (mi si hi sl : au_A → Int → Int) (r : au_A → Int → Option au_A) (nx : Nat) (hF : Fix r) (hW : mi MO 23 = 1) (hY : MY A (n, B, Pr, Co, R, ns, S)) (hK : YOK (n, B, Pr, Co, R, ns, S)) (hE : EnA (mi MT) A n B Pr Lw) : au_Ctr G yX2_years cX2_years 5 (some .int) 8 0 0 [au_r MO, au_i sd, au_i z] (rowS mi MA A, si, hi, sl, r, nx) (PoM hi r nx mi A (some (au_i (yrY Lw (n, B, Pr, Co, R, ns, S) sd z).1)) (yrY Lw (n, B, Pr, Co, R, ns, S) sd z).2) := by
  refine au_of (by decide) (Nat.le_of_ble_eq_true rfl) ?_
  obtain ⟨jN, jE, jPr, jCo, hM, h3, hS⟩ := id hY
  obtain ⟨jB, jP9, jC0, jR, jns, jSR⟩ := id hK
  have hN : A 0 = n := jN
  have hBo : ∀ o, 0 ≤ o → o < 10 → A (90 + o) = B o := jE
  have hCo : ∀ o, 0 ≤ o → o < 10 → A (110 + o) = Co o := jCo
  have hM : MRel 1 A R := hM
  have h3 : A 3 = ns := h3
  have hS : ∀ k : Nat, k < 30 → MSt A k (S k) := hS
  have hB : Bs B n := jB
  have hns : 0 ≤ ns ∧ ns ≤ 30 := jns
  have hb1 := hB.1
  have hb0 := hB.2.1
  have hn : 0 ≤ n ∧ n ≤ 10 := ⟨hb1, hb0⟩
  have hR : RowOK R n B := jR
  obtain ⟨⟨r0, r0b⟩, ⟨r1, r1b⟩, ⟨r2, r2b⟩, ⟨r83, r83b⟩, rA⟩ := id hR.1
  have gN : rowS mi MA A MA 0 = n := (rowS_self _ _ _ _).trans hN
  have gE : ∀ o, 0 ≤ o → o < 10 → rowS mi MA A MA (90 + o) = B o := fun o a b => (rowS_self _ _ _ _).trans (hBo o a b)
  have g8 : rowS mi MA A MA 8 = R 2 := (rowS_self _ _ _ _).trans hM.1.2.2.1
  show au_Go G _ _ 0 [some (au_r MO), some (au_i sd), some (au_i z), none, none] [] (rowS mi MA A, si, hi, sl, r, nx) 0 0
  refine au_iload_n dX2_years_0 rfl ?_
  refine au_iconst dX2_years_1 rfl rfl ?_
  refine au_sipush dX2_years_2 rfl rfl ?_
  refine au_callSp (n := 3) (kX2_isIn G sd 0 9999 ((rowS mi MA A), si, hi, sl, r, nx)) (lw_S q1475 q1476 q134 q1477) (by decide +kernel) rfl rfl rfl (Nat.le_of_ble_eq_true rfl) (Nat.le_of_ble_eq_true rfl) (Nat.le_of_ble_eq_true rfl) (Nat.le_of_ble_eq_true rfl) (Nat.le_of_ble_eq_true rfl) dX2_years_5 ?_
  refine au_if_eq (tgt := 21) dX2_years_8 (by decide) (fun c8 => ?_) (fun c8 => ?_)
  · have c8 := au_b0 c8
    refine au_iconst dX2_years_21 rfl rfl ?_
    refine au_iret dX2_years_22 rfl rfl (Nat.le_of_ble_eq_true rfl) (Nat.le_of_ble_eq_true rfl) ?_
    first
    | exact PoM.of (show yrY Lw (n, B, Pr, Co, R, ns, S) sd z = _ from if_neg (fun q => c8 q.1)) hY (FrM.rf A) rfl
    | exact PoM.of (show yrY Lw (n, B, Pr, Co, R, ns, S) sd z = _ from if_neg (fun q => c18 q.2)) hY (FrM.rf A) rfl
  · have c8 := au_b1 c8
    refine au_iload_n dX2_years_11 rfl ?_
    refine au_iconst dX2_years_12 rfl rfl ?_
    refine au_bipush dX2_years_13 rfl rfl ?_
    refine au_callSp (n := 3) (kX2_isIn G z 1 40 ((rowS mi MA A), si, hi, sl, r, nx)) (lw_S q1475 q1476 q134 q1477) (by decide +kernel) rfl rfl rfl (Nat.le_of_ble_eq_true rfl) (Nat.le_of_ble_eq_true rfl) (Nat.le_of_ble_eq_true rfl) (Nat.le_of_ble_eq_true rfl) (Nat.le_of_ble_eq_true rfl) dX2_years_15 ?_
    refine au_if_ne (tgt := 23) dX2_years_18 (by decide) (fun c18 => ?_) (fun c18 => ?_)
    · have c18 := au_b1 c18
      refine au_aload_n dX2_years_23 rfl ?_
      refine au_callV (n := 0) (kX2_keep G ns S R A mi si hi sl r nx hF hM h3 hS hns) (lw_V q1666 q1668 qs88 q134 q1669) rfl (by decide +kernel) (by decide) (T := TX2) (N := 35) rfl rfl rfl rfl (Nat.le_of_ble_eq_true rfl) (Nat.le_of_ble_eq_true rfl) (Nat.le_of_ble_eq_true rfl) (Nat.le_of_ble_eq_true rfl) (Nat.le_of_ble_eq_true rfl) dX2_years_24 (fun rv_ M_ hp_ => ?_)
      obtain ⟨rfl, A1, rfl, hk3, hkS, hkf⟩ := hp_
      have hY1 := hY.keep hk3 hkS hkf
      have hM1 : MRel 1 A1 R := hY1.2.2.2.2.1
      show au_Go G _ _ 27 [some (au_r MO), some (au_i sd), some (au_i z), none, none] [] ((rowS mi MA A1), si, hi, sl, r, nx) 0 0
      refine au_aload_n dX2_years_27 rfl ?_
      refine au_getf (C := RX2) (T := TX2) (N := 35) in_X2 (by decide) rfl 0 (by decide) rfl rfl q1359 rfl dX2_years_28 (v := au_r MA) (congrArg au_q (fx_MO_0 hF)) ?_
      refine au_bipush dX2_years_31 rfl rfl ?_
      refine au_iload_n dX2_years_33 rfl ?_
      refine au_iconst dX2_years_34 rfl rfl ?_
      refine au_imul dX2_years_35 (by omega) (by omega) ?_
      refine au_sipush dX2_years_36 rfl rfl ?_
      refine au_iadd dX2_years_39 (by omega) (by omega) ?_
      refine au_iast dX2_years_40 rfl (by decide) (by omega) (by show _ < ((4544 : Nat) : Int); omega) (M' := ((au_up (rowS mi MA A1) MA 7 ((sd * 2) + 181)), si, hi, sl, r, nx)) (au_wv_m (au_reg_MA _)) ?_
      rw [au_up_row (rowS mi MA A1) MA 7 ((sd * 2) + 181), rowS_selfF, rowS_rowS]
      refine au_iconst dX2_years_41 rfl rfl ?_
      refine au_istore_n dX2_years_42 (show 3 < 5 by decide) ?_
      show au_Go G _ _ 43 [some (au_r MO), some (au_i sd), some (au_i z), some (au_i 0), none] [] ((rowS mi MA (up1 A1 7 ((sd * 2) + 181))), si, hi, sl, r, nx) 0 0
      have hMp : MRel 1 (up1 A1 7 (sd * 2 + 181)) (up1 R 1 (sd * 2 + 181)) := hM1.drawn _
      have hfp : FrW 1 A1 (up1 A1 7 (sd * 2 + 181)) := FrW.up 1 A1 _ (by decide) (by decide) (by decide)
      have hYp := hY1.row hMp hfp
      have hE1 : EnA (mi MT) (up1 A1 7 (sd * 2 + 181)) n B Pr Lw := (hE.to hkf.M hY1 (hK.keep hR)).fr hfp
      obtain ⟨Ap, hAp⟩ : ∃ z, z = up1 A1 7 (sd * 2 + 181) := ⟨_, rfl⟩
      rw [← hAp] at hMp hfp hYp hE1 ⊢
      have hl : ∀ (f : Nat) (e : Nat) (Rj : Int → Int) (j : Int) (x4 : Option au_V) (Aj : Int → Int) (sj lj : au_A → Int → Int), j + (e : Int) = z → RowOK Rj n B → MRel 1 Aj Rj → FrW 1 Ap Aj → EnA (mi MT) Aj n B Pr Lw → (yrN n B Pr Lw e Rj).1 = (yrN n B Pr Lw z.toNat (up1 R 1 (sd * 2 + 181))).1 → e < f → 0 ≤ j → au_Go G (yX2_years.cls, cX2_years, 5, (some .int), au_rm 8 0 0, yX2_years.name) (au_QM G (au_rm 8 0 0) (PoM hi r nx mi A (some (au_i (yrY Lw (n, B, Pr, Co, R, ns, S) sd z).1)) (yrY Lw (n, B, Pr, Co, R, ns, S) sd z).2)) 43 [some (au_r MO), some (au_i sd), some (au_i z), some (au_i j), x4] [] (rowS mi MA Aj, sj, hi, lj, r, nx) 0 0 := by
        intro f
        induction f with
        | zero => intro e Rj j x4 Aj sj lj h1 hRj hMj hFj hEj hv hf hj; exfalso; omega
        | succ f ih =>
          intro e Rj j x4 Aj sj lj h1 hRj hMj hFj hEj hv hf hj
          refine au_iload_n dX2_years_43 rfl ?_
          refine au_iload_n dX2_years_44 rfl ?_
          refine au_icmp_ge (tgt := 73) dX2_years_45 (by decide) (fun c45 => ?_) (fun c45 => ?_)
          · have he : e = 0 := by omega
            subst he
            have hRv : Rj = _ := hv
            refine au_aload_n dX2_years_73 rfl ?_
            refine au_getf (C := RX2) (T := TX2) (N := 35) in_X2 (by decide) rfl 0 (by decide) rfl rfl q1359 rfl dX2_years_74 (v := au_r MA) (congrArg au_q (fx_MO_0 hF)) ?_
            refine au_bipush dX2_years_77 rfl rfl ?_
            refine au_iald dX2_years_79 rfl (by omega) (by show _ < ((4544 : Nat) : Int); omega) (v := au_i (Rj 0)) (congrArg au_i (((au_gi_m (au_reg_MA _)).trans (show rowS mi MA Aj MA 6 = Aj 6 from (rowS_self _ _ _ _).trans (rfl))).trans (hMj.1.1))) ?_
            refine au_iret dX2_years_80 rfl rfl (Nat.le_of_ble_eq_true rfl) (Nat.le_of_ble_eq_true rfl) ?_
            rw [hRv] at hMj ⊢
            exact PoM.of (show yrY Lw (n, B, Pr, Co, R, ns, S) sd z = _ from if_pos ⟨⟨by omega, by omega⟩, by omega, by omega⟩) (hYp.row hMj hFj) (hkf.M.tr (hfp.M.tr hFj.M)) rfl
          · obtain ⟨e, rfl⟩ : ∃ e', e = e' + 1 := ⟨e - 1, by omega⟩
            rw [yrN_s e] at hv
            have hok := hpF_ok (Pr := Pr) (Lw := Lw) hB hRj.drF (x := Rj 1) hRj.1.2.1.1
            refine au_aload_n dX2_years_48 rfl ?_
            refine au_getf (C := RX2) (T := TX2) (N := 35) in_X2 (by decide) rfl 0 (by decide) rfl rfl q1359 rfl dX2_years_49 (v := au_r MA) (congrArg au_q (fx_MO_0 hF)) ?_
            refine au_bipush dX2_years_52 rfl rfl ?_
            refine au_iald dX2_years_54 rfl (by omega) (by show _ < ((4544 : Nat) : Int); omega) (v := au_i (Rj 1)) (congrArg au_i (((au_gi_m (au_reg_MA _)).trans (show rowS mi MA Aj MA 7 = Aj 7 from (rowS_self _ _ _ _).trans (rfl))).trans (hMj.1.2.1))) ?_
            refine au_istore dX2_years_55 (show 4 < 5 by decide) ?_
            show au_Go G _ _ 57 [some (au_r MO), some (au_i sd), some (au_i z), some (au_i j), some (au_i (Rj 1))] [] ((rowS mi MA Aj), sj, hi, lj, r, nx) 0 0
            refine au_aload_n dX2_years_57 rfl ?_
            refine au_callV (n := 0) (kX2_anew G Rj Aj mi sj hi lj r nx hF hMj.1 hRj.1.2.1.1 hRj.1.2.1.2) (lw_V q1767 q1769 qs105 q134 q1770) rfl (by decide +kernel) (by decide) (T := TX2) (N := 35) rfl rfl rfl rfl (Nat.le_of_ble_eq_true rfl) (Nat.le_of_ble_eq_true rfl) (Nat.le_of_ble_eq_true rfl) (Nat.le_of_ble_eq_true rfl) (Nat.le_of_ble_eq_true rfl) dX2_years_58 (fun rv_ M_ hp_ => ?_)
            obtain ⟨rfl, rfl⟩ := hp_
            have hM3 : MRel 1 _ (drF Rj) := hMj.drawn _
            have hf3 : FrW 1 Aj _ := FrW.up 1 Aj ((Rj 1 * 421 + 307) % 30539) (j := 7) (by decide) (by decide) (by decide)
            show au_Go G _ _ 61 [some (au_r MO), some (au_i sd), some (au_i z), some (au_i j), some (au_i (Rj 1))] [] ((rowS mi MA (up1 Aj 7 ((Rj 1 * 421 + 307) % 30539))), sj, hi, lj, r, nx) 0 0
            refine au_aload_n dX2_years_61 rfl ?_
            refine au_iload dX2_years_62 rfl ?_
            refine au_callV (n := 1) (kX2_happens G (Rj 1) n B Pr Lw (drF Rj) (up1 Aj 7 ((Rj 1 * 421 + 307) % 30539)) mi sj hi lj r nx hF hW (hEj.fr hf3) hM3 hRj.drF hRj.1.2.1.1) (lw_V q1811 q1813 qs112 q134 q1814) rfl (by decide +kernel) (by decide) (T := TX2) (N := 35) rfl rfl rfl rfl (Nat.le_of_ble_eq_true rfl) (Nat.le_of_ble_eq_true rfl) (Nat.le_of_ble_eq_true rfl) (Nat.le_of_ble_eq_true rfl) (Nat.le_of_ble_eq_true rfl) dX2_years_64 (fun rv_ M_ hp_ => ?_)
            obtain ⟨rfl, A4, s4, l4, rfl, hM4, hf4⟩ := hp_
            show au_Go G _ _ 67 [some (au_r MO), some (au_i sd), some (au_i z), some (au_i j), some (au_i (Rj 1))] [] ((rowS mi MA A4), s4, hi, l4, r, nx) 0 0
            refine au_iinc dX2_years_67 rfl (show 3 < 5 by decide) (by omega) (by omega) (by decide) (by decide) ?_
            show au_Go G _ _ 70 [some (au_r MO), some (au_i sd), some (au_i z), some (au_i (j + 1)), some (au_i (Rj 1))] [] ((rowS mi MA A4), s4, hi, l4, r, nx) 0 0
            refine au_goto (tgt := 43) dX2_years_70 (by decide) ?_
            exact ih e _ _ _ _ _ _ (by omega) hok.1 hM4 (hFj.tr (hf3.tr hf4)) ((hEj.fr hf3).fr hf4) hv (by omega) (by omega)
      exact hl (z.toNat + 1) z.toNat (up1 R 1 (sd * 2 + 181)) 0 none Ap si sl (by omega) (hR.draw (by omega) (by omega)) hMp (FrW.rf 1 Ap) hE1 rfl (by omega) (by omega)
    · have c18 := au_b0 c18
      refine au_iconst dX2_years_21 rfl rfl ?_
      refine au_iret dX2_years_22 rfl rfl (Nat.le_of_ble_eq_true rfl) (Nat.le_of_ble_eq_true rfl) ?_
      first
      | exact PoM.of (show yrY Lw (n, B, Pr, Co, R, ns, S) sd z = _ from if_neg (fun q => c8 q.1)) hY (FrM.rf A) rfl
      | exact PoM.of (show yrY Lw (n, B, Pr, Co, R, ns, S) sd z = _ from if_neg (fun q => c18 q.2)) hY (FrM.rf A) rfl
theorem kX2_setAside (G : au_G) (A : Int → Int) (mi si hi sl : au_A → Int → Int) (r : au_A → Int → Option au_A) (nx : Nat) (hF : Fix r) : au_Ctr G yX2_setAside cX2_setAside 2 none 0 0 0 [au_r MO] (rowS mi MA A, si, hi, sl, r, nx) (fun rv M' => rv = none ∧ ∃ sj : au_A → Int → Int, M' = (rowS (au_up mi MO 23 0) MA A, sj, hi, sl, r, nx) ∧ (∀ j, 6 ≤ j → j < 90 → sj MAside j = A j) ∧ ∀ a, a ≠ MAside → sj a = si a) := by
  refine au_of (by decide) (Nat.le_of_ble_eq_true rfl) ?_
  show au_Go G _ _ 0 [some (au_r MO), none] [] (rowS mi MA A, si, hi, sl, r, nx) 0 0
  refine au_bipush dX2_setAside_0 rfl rfl ?_
  refine au_istore_n dX2_setAside_2 (show 1 < 2 by decide) ?_
  show au_Go G _ _ 3 [some (au_r MO), some (au_i 6)] [] ((rowS mi MA A), si, hi, sl, r, nx) 0 0
  have hl : ∀ (f : Nat) (j : Int) (sj : au_A → Int → Int), 6 ≤ j → j ≤ 90 → (∀ q, 6 ≤ q → q < j → sj MAside q = A q) → (∀ a, a ≠ MAside → sj a = si a) → 90 - j < (f : Int) → au_Go G (yX2_setAside.cls, cX2_setAside, 2, none, au_rm 0 0 0, yX2_setAside.name) (au_QM G (au_rm 0 0 0) (fun rv M' => rv = none ∧ ∃ sj : au_A → Int → Int, M' = (rowS (au_up mi MO 23 0) MA A, sj, hi, sl, r, nx) ∧ (∀ j, 6 ≤ j → j < 90 → sj MAside j = A j) ∧ ∀ a, a ≠ MAside → sj a = si a)) 3 [some (au_r MO), some (au_i j)] [] (rowS mi MA A, sj, hi, sl, r, nx) 0 0 := by
    intro f
    induction f with
    | zero => intro j sj j0 j1 h1 h2 hf; exfalso; omega
    | succ f ih =>
      intro j sj j0 j1 h1 h2 hf
      refine au_iload_n dX2_setAside_3 rfl ?_
      refine au_bipush dX2_setAside_4 rfl rfl ?_
      refine au_icmp_ge (tgt := 27) dX2_setAside_6 (by decide) (fun c6 => ?_) (fun c6 => ?_)
      · refine au_aload_n dX2_setAside_27 rfl ?_
        refine au_iconst dX2_setAside_28 rfl rfl ?_
        refine au_putf (a := MO) (C := RX2) (T := TX2) (N := 35) in_X2 tyX2_ok nmX2 (by decide) rfl 23 (by decide) rfl (by decide) rfl q1382 rfl rfl trivial (fun _ _ _ h => au_nf_z (by simp) h) dX2_setAside_29 (M' := ((au_up (rowS mi MA A) MO 23 0), sj, hi, sl, r, nx)) (by rfl) ?_
        exact au_vret dX2_setAside_32 rfl rfl (Nat.le_of_ble_eq_true rfl) (Nat.le_of_ble_eq_true rfl) (⟨rfl, sj, by rw [rowS_up_comm _ _ _ _ (by decide)], fun q q0 q1 => h1 q q0 (by omega), h2⟩)
      · refine au_aload_n dX2_setAside_9 rfl ?_
        refine au_getf (C := RX2) (T := TX2) (N := 35) in_X2 (by decide) rfl 26 (by decide) rfl rfl q1385 rfl dX2_setAside_10 (v := au_r MAside) (congrArg au_q (fx_MO_26 hF)) ?_
        refine au_iload_n dX2_setAside_13 rfl ?_
        refine au_aload_n dX2_setAside_14 rfl ?_
        refine au_getf (C := RX2) (T := TX2) (N := 35) in_X2 (by decide) rfl 0 (by decide) rfl rfl q1359 rfl dX2_setAside_15 (v := au_r MA) (congrArg au_q (fx_MO_0 hF)) ?_
        refine au_iload_n dX2_setAside_18 rfl ?_
        refine au_iald dX2_setAside_19 rfl (by omega) (by show _ < ((4544 : Nat) : Int); omega) (v := au_i (A j)) (congrArg au_i ((au_gi_m (au_reg_MA _)).trans (show rowS mi MA A MA j = A j from (rowS_self _ _ _ _).trans (rfl)))) ?_
        refine au_iast dX2_setAside_20 rfl (by decide) (by omega) (by show _ < ((90 : Nat) : Int); omega) (M' := ((rowS mi MA A), (au_up sj MAside j (A j)), hi, sl, r, nx)) (by rfl) ?_
        refine au_iinc dX2_setAside_21 rfl (show 1 < 2 by decide) (by omega) (by omega) (by decide) (by decide) ?_
        show au_Go G _ _ 24 [some (au_r MO), some (au_i (j + 1))] [] ((rowS mi MA A), (au_up sj MAside j (A j)), hi, sl, r, nx) 0 0
        refine au_goto (tgt := 3) dX2_setAside_24 (by decide) ?_
        refine ih _ _ (by omega) (by omega) (fun q q0 q1 => ?_) (fun a ha => ?_) (by omega)
        · by_cases e : q = j
          · rw [e]; exact au_up_self _ _ _ _
          · rw [au_up_ne _ _ (fun z => e z.2)]; exact h1 q q0 (by omega)
        · rw [au_up_neF _ _ _ ha]; exact h2 a ha
  exact hl 85 6 si (by decide) (by decide) (fun q q0 q1 => by omega) (fun _ _ => rfl) (by decide)
theorem kX2_putBack (G : au_G) (A : Int → Int) (mi si hi sl : au_A → Int → Int) (r : au_A → Int → Option au_A) (nx : Nat) (hF : Fix r) : au_Ctr G yX2_putBack cX2_putBack 2 none 0 0 0 [au_r MO] (rowS mi MA A, si, hi, sl, r, nx) (fun rv M' => rv = none ∧ M' = (rowS (au_up mi MO 23 1) MA (fun j => if 6 ≤ j ∧ j < 90 then si MAside j else A j), si, hi, sl, r, nx)) := by
  refine au_of (by decide) (Nat.le_of_ble_eq_true rfl) ?_
  show au_Go G _ _ 0 [some (au_r MO), none] [] (rowS mi MA A, si, hi, sl, r, nx) 0 0
  refine au_bipush dX2_putBack_0 rfl rfl ?_
  refine au_istore_n dX2_putBack_2 (show 1 < 2 by decide) ?_
  show au_Go G _ _ 3 [some (au_r MO), some (au_i 6)] [] ((rowS mi MA A), si, hi, sl, r, nx) 0 0
  have hl : ∀ (f : Nat) (j : Int) (Aj : Int → Int), 6 ≤ j → j ≤ 90 → (∀ q, Aj q = if 6 ≤ q ∧ q < j then si MAside q else A q) → 90 - j < (f : Int) → au_Go G (yX2_putBack.cls, cX2_putBack, 2, none, au_rm 0 0 0, yX2_putBack.name) (au_QM G (au_rm 0 0 0) (fun rv M' => rv = none ∧ M' = (rowS (au_up mi MO 23 1) MA (fun j => if 6 ≤ j ∧ j < 90 then si MAside j else A j), si, hi, sl, r, nx))) 3 [some (au_r MO), some (au_i j)] [] (rowS mi MA Aj, si, hi, sl, r, nx) 0 0 := by
    intro f
    induction f with
    | zero => intro j Aj j0 j1 h1 hf; exfalso; omega
    | succ f ih =>
      intro j Aj j0 j1 h1 hf
      refine au_iload_n dX2_putBack_3 rfl ?_
      refine au_bipush dX2_putBack_4 rfl rfl ?_
      refine au_icmp_ge (tgt := 27) dX2_putBack_6 (by decide) (fun c6 => ?_) (fun c6 => ?_)
      · refine au_aload_n dX2_putBack_27 rfl ?_
        refine au_iconst dX2_putBack_28 rfl rfl ?_
        refine au_putf (a := MO) (C := RX2) (T := TX2) (N := 35) in_X2 tyX2_ok nmX2 (by decide) rfl 23 (by decide) rfl (by decide) rfl q1382 rfl rfl trivial (fun _ _ _ h => au_nf_z (by simp) h) dX2_putBack_29 (M' := ((au_up (rowS mi MA Aj) MO 23 1), si, hi, sl, r, nx)) (by rfl) ?_
        refine au_vret dX2_putBack_32 rfl rfl (Nat.le_of_ble_eq_true rfl) (Nat.le_of_ble_eq_true rfl) ?_
        have eA : Aj = (fun j => if 6 ≤ j ∧ j < 90 then si MAside j else A j) := by
          funext q
          rw [h1 q, show j = 90 by omega]
        exact ⟨rfl, by rw [rowS_up_comm _ _ _ _ (by decide), eA]⟩
      · refine au_aload_n dX2_putBack_9 rfl ?_
        refine au_getf (C := RX2) (T := TX2) (N := 35) in_X2 (by decide) rfl 0 (by decide) rfl rfl q1359 rfl dX2_putBack_10 (v := au_r MA) (congrArg au_q (fx_MO_0 hF)) ?_
        refine au_iload_n dX2_putBack_13 rfl ?_
        refine au_aload_n dX2_putBack_14 rfl ?_
        refine au_getf (C := RX2) (T := TX2) (N := 35) in_X2 (by decide) rfl 26 (by decide) rfl rfl q1385 rfl dX2_putBack_15 (v := au_r MAside) (congrArg au_q (fx_MO_26 hF)) ?_
        refine au_iload_n dX2_putBack_18 rfl ?_
        refine au_iald dX2_putBack_19 rfl (by omega) (by show _ < ((90 : Nat) : Int); omega) (v := au_i (si MAside j)) (by rfl) ?_
        refine au_iast dX2_putBack_20 rfl (by decide) (by omega) (by show _ < ((4544 : Nat) : Int); omega) (M' := ((au_up (rowS mi MA Aj) MA j (si MAside j)), si, hi, sl, r, nx)) (au_wv_m (au_reg_MA _)) ?_
        rw [au_up_row (rowS mi MA Aj) MA j (si MAside j), rowS_selfF, rowS_rowS]
        refine au_iinc dX2_putBack_21 rfl (show 1 < 2 by decide) (by omega) (by omega) (by decide) (by decide) ?_
        show au_Go G _ _ 24 [some (au_r MO), some (au_i (j + 1))] [] ((rowS mi MA (up1 Aj j (si MAside j))), si, hi, sl, r, nx) 0 0
        refine au_goto (tgt := 3) dX2_putBack_24 (by decide) ?_
        refine ih _ _ (by omega) (by omega) (fun q => ?_) (by omega)
        unfold up1
        by_cases e : q = j
        · rw [if_pos e, if_pos (by omega), e]
        · rw [if_neg e, h1]
          by_cases e2 : 6 ≤ q ∧ q < j
          · rw [if_pos e2, if_pos (by omega)]
          · rw [if_neg e2, if_neg (by omega)]
  exact hl 85 6 A (by decide) (by decide) (fun q => by rw [if_neg (by omega)]) (by decide)
theorem kX2_foretold (G : au_G) (Lw : au_Lw) (z a w : Int) (n : Int) (B Pr Co R : Int → Int) (ns : Int) (S : Nat → Int → Int) (A : Int → Int) (mi si hi sl : au_A → Int → Int) (r : au_A → Int → Option au_A) (nx : Nat) (hF : Fix r) (hW : mi MO 23 = 1) (hY : MY A (n, B, Pr, Co, R, ns, S)) (hK : YOK (n, B, Pr, Co, R, ns, S)) (hE : EnA (mi MT) A n B Pr Lw) : au_Ctr G yX2_foretold cX2_foretold 5 (some .int) 7 0 0 [au_r MO, au_i z, au_i a, au_i w] (rowS mi MA A, si, hi, sl, r, nx) (PoM hi r nx mi A (some (au_i (ftV n B Pr Lw R z a w))) (n, B, Pr, Co, R, ns, S)) := by
  refine au_of (by decide) (Nat.le_of_ble_eq_true rfl) ?_
  obtain ⟨jN, jE, jPr, jCo, hM, h3, hS⟩ := id hY
  obtain ⟨jB, jP9, jC0, jR, jns, jSR⟩ := id hK
  have hN : A 0 = n := jN
  have hBo : ∀ o, 0 ≤ o → o < 10 → A (90 + o) = B o := jE
  have hCo : ∀ o, 0 ≤ o → o < 10 → A (110 + o) = Co o := jCo
  have hM : MRel 1 A R := hM
  have h3 : A 3 = ns := h3
  have hS : ∀ k : Nat, k < 30 → MSt A k (S k) := hS
  have hB : Bs B n := jB
  have hns : 0 ≤ ns ∧ ns ≤ 30 := jns
  have hb1 := hB.1
  have hb0 := hB.2.1
  have hn : 0 ≤ n ∧ n ≤ 10 := ⟨hb1, hb0⟩
  have hR : RowOK R n B := jR
  obtain ⟨⟨r0, r0b⟩, ⟨r1, r1b⟩, ⟨r2, r2b⟩, ⟨r83, r83b⟩, rA⟩ := id hR.1
  have gN : rowS mi MA A MA 0 = n := (rowS_self _ _ _ _).trans hN
  have gE : ∀ o, 0 ≤ o → o < 10 → rowS mi MA A MA (90 + o) = B o := fun o a b => (rowS_self _ _ _ _).trans (hBo o a b)
  have g8 : rowS mi MA A MA 8 = R 2 := (rowS_self _ _ _ _).trans hM.1.2.2.1
  show au_Go G _ _ 0 [some (au_r MO), some (au_i z), some (au_i a), some (au_i w), none] [] (rowS mi MA A, si, hi, sl, r, nx) 0 0
  refine au_iload_n dX2_foretold_0 rfl ?_
  refine au_iconst dX2_foretold_1 rfl rfl ?_
  refine au_bipush dX2_foretold_2 rfl rfl ?_
  refine au_callSp (n := 3) (kX2_isIn G z 1 60 ((rowS mi MA A), si, hi, sl, r, nx)) (lw_S q1475 q1476 q134 q1477) (by decide +kernel) rfl rfl rfl (Nat.le_of_ble_eq_true rfl) (Nat.le_of_ble_eq_true rfl) (Nat.le_of_ble_eq_true rfl) (Nat.le_of_ble_eq_true rfl) (Nat.le_of_ble_eq_true rfl) dX2_foretold_4 ?_
  refine au_if_eq (tgt := 27) dX2_foretold_7 (by decide) (fun c7 => ?_) (fun c7 => ?_)
  · have c7 := au_b0 c7
    refine au_iconst dX2_foretold_27 rfl rfl ?_
    refine au_iret dX2_foretold_28 rfl rfl (Nat.le_of_ble_eq_true rfl) (Nat.le_of_ble_eq_true rfl) ?_
    refine ⟨?_, A, si, sl, rfl, hY, FrM.rf A⟩
    unfold ftV
    first
    | (rw [if_neg (fun q => c7 q.1)]; done)
    | (rw [if_neg (fun q => c15 q.2.1)]; done)
    | (rw [if_neg (fun q => c24 q.2.2)]; done)
  · have c7 := au_b1 c7
    refine au_aload_n dX2_foretold_10 rfl ?_
    refine au_iload_n dX2_foretold_11 rfl ?_
    refine au_callVp (n := 1) (kX2_isApology G a (rowS mi MA A) si hi sl r nx hF (R 2) g8 ⟨r2, r2b⟩) (lw_V q1690 q1692 qs92 q134 q1693) rfl (by decide +kernel) (by decide) (T := TX2) (N := 35) rfl rfl rfl rfl (Nat.le_of_ble_eq_true rfl) (Nat.le_of_ble_eq_true rfl) (Nat.le_of_ble_eq_true rfl) (Nat.le_of_ble_eq_true rfl) (Nat.le_of_ble_eq_true rfl) dX2_foretold_12 ?_
    refine au_if_eq (tgt := 27) dX2_foretold_15 (by decide) (fun c15 => ?_) (fun c15 => ?_)
    · have c15 := au_b0 c15
      refine au_iconst dX2_foretold_27 rfl rfl ?_
      refine au_iret dX2_foretold_28 rfl rfl (Nat.le_of_ble_eq_true rfl) (Nat.le_of_ble_eq_true rfl) ?_
      refine ⟨?_, A, si, sl, rfl, hY, FrM.rf A⟩
      unfold ftV
      first
      | (rw [if_neg (fun q => c7 q.1)]; done)
      | (rw [if_neg (fun q => c15 q.2.1)]; done)
      | (rw [if_neg (fun q => c24 q.2.2)]; done)
    · have c15 := au_b1 c15
      refine au_iload_n dX2_foretold_18 rfl ?_
      refine au_iconst dX2_foretold_19 rfl rfl ?_
      refine au_iconst dX2_foretold_20 rfl rfl ?_
      refine au_callSp (n := 3) (kX2_isIn G w 0 2 ((rowS mi MA A), si, hi, sl, r, nx)) (lw_S q1475 q1476 q134 q1477) (by decide +kernel) rfl rfl rfl (Nat.le_of_ble_eq_true rfl) (Nat.le_of_ble_eq_true rfl) (Nat.le_of_ble_eq_true rfl) (Nat.le_of_ble_eq_true rfl) (Nat.le_of_ble_eq_true rfl) dX2_foretold_21 ?_
      refine au_if_ne (tgt := 29) dX2_foretold_24 (by decide) (fun c24 => ?_) (fun c24 => ?_)
      · have c24 := au_b1 c24
        refine au_aload_n dX2_foretold_29 rfl ?_
        refine au_callV (n := 0) (kX2_setAside G A mi si hi sl r nx hF) (lw_V q1865 q1867 qs115 q134 q1868) rfl (by decide +kernel) (by decide) (T := TX2) (N := 35) rfl rfl rfl rfl (Nat.le_of_ble_eq_true rfl) (Nat.le_of_ble_eq_true rfl) (Nat.le_of_ble_eq_true rfl) (Nat.le_of_ble_eq_true rfl) (Nat.le_of_ble_eq_true rfl) dX2_foretold_30 (fun rv_ M_ hp_ => ?_)
        obtain ⟨rfl, s1, rfl, hs1, hs2⟩ := hp_
        show au_Go G _ _ 33 [some (au_r MO), some (au_i z), some (au_i a), some (au_i w), none] [] ((rowS (au_up mi MO 23 0) MA A), s1, hi, sl, r, nx) 0 0
        refine au_iconst dX2_foretold_33 rfl rfl ?_
        refine au_istore dX2_foretold_34 (show 4 < 5 by decide) ?_
        show au_Go G _ _ 36 [some (au_r MO), some (au_i z), some (au_i a), some (au_i w), some (au_i 0)] [] ((rowS (au_up mi MO 23 0) MA A), s1, hi, sl, r, nx) 0 0
        have hl : ∀ (f : Nat) (e : Nat) (Rj : Int → Int) (j : Int) (Aj : Int → Int) (sj lj : au_A → Int → Int), j + (e : Int) = z → RowOK Rj n B → MRel 0 Aj Rj → FrW 0 A Aj → EnA (mi MT) Aj n B Pr Lw → sj MAside = s1 MAside → (tfN n B Pr Lw e Rj).1 = (tfN n B Pr Lw z.toNat R).1 → e < f → 0 ≤ j → au_Go G (yX2_foretold.cls, cX2_foretold, 5, (some .int), au_rm 7 0 0, yX2_foretold.name) (au_QM G (au_rm 7 0 0) (PoM hi r nx mi A (some (au_i (ftV n B Pr Lw R z a w))) (n, B, Pr, Co, R, ns, S))) 36 [some (au_r MO), some (au_i z), some (au_i a), some (au_i w), some (au_i j)] [] (rowS (au_up mi MO 23 0) MA Aj, sj, hi, lj, r, nx) 0 0 := by
          intro f
          induction f with
          | zero => intro e Rj j Aj sj lj h1 hRj hMj hFj hEj hSj hv hf hj; exfalso; omega
          | succ f ih =>
            intro e Rj j Aj sj lj h1 hRj hMj hFj hEj hSj hv hf hj
            refine au_iload dX2_foretold_36 rfl ?_
            refine au_iload_n dX2_foretold_38 rfl ?_
            refine au_icmp_ge (tgt := 65) dX2_foretold_39 (by decide) (fun c39 => ?_) (fun c39 => ?_)
            · have he : e = 0 := by omega
              subst he
              have hRv : Rj = _ := hv
              refine au_aload_n dX2_foretold_65 rfl ?_
              refine au_iload_n dX2_foretold_66 rfl ?_
              refine au_iconst dX2_foretold_67 rfl rfl ?_
              refine au_iload_n dX2_foretold_68 rfl ?_
              refine au_iadd dX2_foretold_69 (by omega) (by omega) ?_
              refine au_callVp (n := 2) (kX2_getR G a (2 + w) Rj Aj (au_up mi MO 23 0) sj hi lj r nx hF hMj.1 (by omega) (by omega) (by omega) (by omega)) (lw_V q1694 q1696 qs93 q134 q1697) rfl (by decide +kernel) (by decide) (T := TX2) (N := 35) rfl rfl rfl rfl (Nat.le_of_ble_eq_true rfl) (Nat.le_of_ble_eq_true rfl) (Nat.le_of_ble_eq_true rfl) (Nat.le_of_ble_eq_true rfl) (Nat.le_of_ble_eq_true rfl) dX2_foretold_70 ?_
              refine au_istore dX2_foretold_73 (show 4 < 5 by decide) ?_
              show au_Go G _ _ 75 [some (au_r MO), some (au_i z), some (au_i a), some (au_i w), some (au_i (Rj (3 + 7 * a + (2 + w))))] [] ((rowS (au_up mi MO 23 0) MA Aj), sj, hi, lj, r, nx) 0 0
              refine au_aload_n dX2_foretold_75 rfl ?_
              refine au_callV (n := 0) (kX2_putBack G Aj (au_up mi MO 23 0) sj hi lj r nx hF) (lw_V q1869 q1871 qs116 q134 q1872) rfl (by decide +kernel) (by decide) (T := TX2) (N := 35) rfl rfl rfl rfl (Nat.le_of_ble_eq_true rfl) (Nat.le_of_ble_eq_true rfl) (Nat.le_of_ble_eq_true rfl) (Nat.le_of_ble_eq_true rfl) (Nat.le_of_ble_eq_true rfl) dX2_foretold_76 (fun rv_ M_ hp_ => ?_)
              obtain ⟨rfl, rfl⟩ := hp_
              have eA : (fun j => if 6 ≤ j ∧ j < 90 then sj MAside j else Aj j) = A := by
                funext q
                by_cases e : 6 ≤ q ∧ q < 90
                · show (if 6 ≤ q ∧ q < 90 then _ else _) = _
                  rw [if_pos e, hSj]; exact hs1 q e.1 e.2
                · show (if 6 ≤ q ∧ q < 90 then _ else _) = _
                  rw [if_neg e]
                  by_cases e2 : q = 9
                  · omega
                  · by_cases e3 : 4484 ≤ q ∧ q < 4544
                    · exact (hFj.2 rfl).2 q e3.1
                    · exact hFj.1 q (by omega)
              rw [eA, up_back hW]
              show au_Go G _ _ 79 [some (au_r MO), some (au_i z), some (au_i a), some (au_i w), some (au_i (Rj (3 + 7 * a + (2 + w))))] [] ((rowS mi MA A), sj, hi, lj, r, nx) 0 0
              refine au_iload dX2_foretold_79 rfl ?_
              refine au_iret dX2_foretold_81 rfl rfl (Nat.le_of_ble_eq_true rfl) (Nat.le_of_ble_eq_true rfl) ?_
              refine ⟨?_, A, _, _, rfl, hY, FrM.rf A⟩
              unfold ftV
              rw [if_pos ⟨c7, c15, c24⟩, ← hRv]
            · obtain ⟨e, rfl⟩ : ∃ e', e = e' + 1 := ⟨e - 1, by omega⟩
              refine au_aload_n dX2_foretold_42 rfl ?_
              refine au_getf (C := RX2) (T := TX2) (N := 35) in_X2 (by decide) rfl 0 (by decide) rfl rfl q1359 rfl dX2_foretold_43 (v := au_r MA) (congrArg au_q (fx_MO_0 hF)) ?_
              refine au_bipush dX2_foretold_46 rfl rfl ?_
              refine au_iald dX2_foretold_48 rfl (by omega) (by show _ < ((4544 : Nat) : Int); omega) (v := au_i (Rj 0)) (congrArg au_i (((au_gi_m (au_reg_MA _)).trans (show rowS (au_up mi MO 23 0) MA Aj MA 6 = Aj 6 from (rowS_self _ _ _ _).trans (rfl))).trans (hMj.1.1))) ?_
              refine au_sipush dX2_foretold_49 rfl rfl ?_
              refine au_icmp_ge (tgt := 59) dX2_foretold_52 (by decide) (fun c52 => ?_) (fun c52 => ?_)
              · refine au_iinc dX2_foretold_59 rfl (show 4 < 5 by decide) (by omega) (by omega) (by decide) (by decide) ?_
                show au_Go G _ _ 62 [some (au_r MO), some (au_i z), some (au_i a), some (au_i w), some (au_i (j + 1))] [] ((rowS (au_up mi MO 23 0) MA Aj), sj, hi, lj, r, nx) 0 0
                refine au_goto (tgt := 36) dX2_foretold_62 (by decide) ?_
                have hn0 : ¬ Rj 0 < 9999 := by omega
                rw [tfN_n (e + 1) hn0] at hv
                exact ih e _ _ _ _ _ (by omega) hRj hMj hFj hEj hSj (by rw [tfN_n e hn0]; exact hv) (by omega) (by omega)
              · have h0 : Rj 0 < 9999 := by omega
                rw [tfN_s e h0] at hv
                have hpk := pasF_ok (Pr := Pr) (Lw := Lw) hB hRj h0
                refine au_aload_n dX2_foretold_55 rfl ?_
                refine au_callV (n := 0) (kX2_pass G 0 n B Pr Lw Rj Aj (au_up mi MO 23 0) sj hi lj r nx hF (au_up_self _ _ _ _) (Or.inl rfl) hEj hMj hRj h0) (lw_V q1706 q1708 qs95 q134 q1709) rfl (by decide +kernel) (by decide) (T := TX2) (N := 35) rfl rfl rfl rfl (Nat.le_of_ble_eq_true rfl) (Nat.le_of_ble_eq_true rfl) (Nat.le_of_ble_eq_true rfl) (Nat.le_of_ble_eq_true rfl) (Nat.le_of_ble_eq_true rfl) dX2_foretold_56 (fun rv_ M_ hp_ => ?_)
                obtain ⟨rfl, A2, s2, l2, rfl, hM2, hf2, hd2, hp2, hs3⟩ := hp_
                show au_Go G _ _ 59 [some (au_r MO), some (au_i z), some (au_i a), some (au_i w), some (au_i j)] [] ((rowS (au_up mi MO 23 0) MA A2), s2, hi, l2, r, nx) 0 0
                refine au_iinc dX2_foretold_59 rfl (show 4 < 5 by decide) (by omega) (by omega) (by decide) (by decide) ?_
                show au_Go G _ _ 62 [some (au_r MO), some (au_i z), some (au_i a), some (au_i w), some (au_i (j + 1))] [] ((rowS (au_up mi MO 23 0) MA A2), s2, hi, l2, r, nx) 0 0
                refine au_goto (tgt := 36) dX2_foretold_62 (by decide) ?_
                exact ih e _ _ _ _ _ (by omega) hpk.1 hM2 (hFj.tr hf2) (hEj.fr hf2) (hs3.trans hSj) hv (by omega) (by omega)
        exact hl (z.toNat + 1) z.toNat R 0 A s1 sl (by omega) hR ⟨hM.1, fun q => absurd q (by decide)⟩ (FrW.rf 0 A) hE rfl rfl (by omega) (by omega)
      · have c24 := au_b0 c24
        refine au_iconst dX2_foretold_27 rfl rfl ?_
        refine au_iret dX2_foretold_28 rfl rfl (Nat.le_of_ble_eq_true rfl) (Nat.le_of_ble_eq_true rfl) ?_
        refine ⟨?_, A, si, sl, rfl, hY, FrM.rf A⟩
        unfold ftV
        first
        | (rw [if_neg (fun q => c7 q.1)]; done)
        | (rw [if_neg (fun q => c15 q.2.1)]; done)
        | (rw [if_neg (fun q => c24 q.2.2)]; done)
theorem kX2_pardoned (G : au_G) (Lw : au_Lw) (a : Int) (n : Int) (B Pr Co R : Int → Int) (ns : Int) (S : Nat → Int → Int) (A : Int → Int) (mi si hi sl : au_A → Int → Int) (r : au_A → Int → Option au_A) (nx : Nat) (hF : Fix r) (hW : mi MO 23 = 1) (hY : MY A (n, B, Pr, Co, R, ns, S)) (hK : YOK (n, B, Pr, Co, R, ns, S)) (hE : EnA (mi MT) A n B Pr Lw) : au_Ctr G yX2_pardoned cX2_pardoned 4 (some .int) 7 0 0 [au_r MO, au_i a] (rowS mi MA A, si, hi, sl, r, nx) (PoM hi r nx mi A (some (au_i (pdV n B Pr Lw R a))) (n, B, Pr, Co, R, ns, S)) := by
  refine au_of (by decide) (Nat.le_of_ble_eq_true rfl) ?_
  obtain ⟨jN, jE, jPr, jCo, hM, h3, hS⟩ := id hY
  obtain ⟨jB, jP9, jC0, jR, jns, jSR⟩ := id hK
  have hN : A 0 = n := jN
  have hBo : ∀ o, 0 ≤ o → o < 10 → A (90 + o) = B o := jE
  have hCo : ∀ o, 0 ≤ o → o < 10 → A (110 + o) = Co o := jCo
  have hM : MRel 1 A R := hM
  have h3 : A 3 = ns := h3
  have hS : ∀ k : Nat, k < 30 → MSt A k (S k) := hS
  have hB : Bs B n := jB
  have hns : 0 ≤ ns ∧ ns ≤ 30 := jns
  have hb1 := hB.1
  have hb0 := hB.2.1
  have hn : 0 ≤ n ∧ n ≤ 10 := ⟨hb1, hb0⟩
  have hR : RowOK R n B := jR
  obtain ⟨⟨r0, r0b⟩, ⟨r1, r1b⟩, ⟨r2, r2b⟩, ⟨r83, r83b⟩, rA⟩ := id hR.1
  have gN : rowS mi MA A MA 0 = n := (rowS_self _ _ _ _).trans hN
  have gE : ∀ o, 0 ≤ o → o < 10 → rowS mi MA A MA (90 + o) = B o := fun o a b => (rowS_self _ _ _ _).trans (hBo o a b)
  have g8 : rowS mi MA A MA 8 = R 2 := (rowS_self _ _ _ _).trans hM.1.2.2.1
  show au_Go G _ _ 0 [some (au_r MO), some (au_i a), none, none] [] (rowS mi MA A, si, hi, sl, r, nx) 0 0
  refine au_aload_n dX2_pardoned_0 rfl ?_
  refine au_iload_n dX2_pardoned_1 rfl ?_
  refine au_callVp (n := 1) (kX2_isApology G a (rowS mi MA A) si hi sl r nx hF (R 2) g8 ⟨r2, r2b⟩) (lw_V q1690 q1692 qs92 q134 q1693) rfl (by decide +kernel) (by decide) (T := TX2) (N := 35) rfl rfl rfl rfl (Nat.le_of_ble_eq_true rfl) (Nat.le_of_ble_eq_true rfl) (Nat.le_of_ble_eq_true rfl) (Nat.le_of_ble_eq_true rfl) (Nat.le_of_ble_eq_true rfl) dX2_pardoned_2 ?_
  refine au_if_ne (tgt := 10) dX2_pardoned_5 (by decide) (fun c5 => ?_) (fun c5 => ?_)
  · have c5 := au_b1 c5
    refine au_aload_n dX2_pardoned_10 rfl ?_
    refine au_callV (n := 0) (kX2_setAside G A mi si hi sl r nx hF) (lw_V q1865 q1867 qs115 q134 q1868) rfl (by decide +kernel) (by decide) (T := TX2) (N := 35) rfl rfl rfl rfl (Nat.le_of_ble_eq_true rfl) (Nat.le_of_ble_eq_true rfl) (Nat.le_of_ble_eq_true rfl) (Nat.le_of_ble_eq_true rfl) (Nat.le_of_ble_eq_true rfl) dX2_pardoned_11 (fun rv_ M_ hp_ => ?_)
    obtain ⟨rfl, s1, rfl, hs1, hs2⟩ := hp_
    show au_Go G _ _ 14 [some (au_r MO), some (au_i a), none, none] [] ((rowS (au_up mi MO 23 0) MA A), s1, hi, sl, r, nx) 0 0
    refine au_aload_n dX2_pardoned_14 rfl ?_
    refine au_iconst dX2_pardoned_15 rfl rfl ?_
    refine au_putf (a := MO) (C := RX2) (T := TX2) (N := 35) in_X2 tyX2_ok nmX2 (by decide) rfl 25 (by decide) rfl (by decide) rfl q1384 rfl rfl trivial (fun _ _ _ h => au_nf_i h) dX2_pardoned_16 (M' := ((rowS (au_up mi MO 23 0) MA A), (au_up s1 MO 25 0), hi, sl, r, nx)) (by rfl) ?_
    refine au_iconst dX2_pardoned_19 rfl rfl ?_
    refine au_istore_n dX2_pardoned_20 (show 2 < 4 by decide) ?_
    show au_Go G _ _ 21 [some (au_r MO), some (au_i a), some (au_i (-1)), none] [] ((rowS (au_up mi MO 23 0) MA A), (au_up s1 MO 25 0), hi, sl, r, nx) 0 0
    refine au_iconst dX2_pardoned_21 rfl rfl ?_
    refine au_istore_n dX2_pardoned_22 (show 3 < 4 by decide) ?_
    show au_Go G _ _ 23 [some (au_r MO), some (au_i a), some (au_i (-1)), some (au_i 1)] [] ((rowS (au_up mi MO 23 0) MA A), (au_up s1 MO 25 0), hi, sl, r, nx) 0 0
    have ca := c5
    have h70 : ∀ (fd j : Int) (Aj : Int → Int) (sj lj : au_A → Int → Int), fd = (pdN n B Pr Lw a 60 1 R).1 → FrW 0 A Aj → sj MAside = s1 MAside → au_Go G (yX2_pardoned.cls, cX2_pardoned, 4, (some .int), au_rm 7 0 0, yX2_pardoned.name) (au_QM G (au_rm 7 0 0) (PoM hi r nx mi A (some (au_i (pdV n B Pr Lw R a))) (n, B, Pr, Co, R, ns, S))) 70 [some (au_r MO), some (au_i a), some (au_i fd), some (au_i j)] [] (rowS (au_up mi MO 23 0) MA Aj, sj, hi, lj, r, nx) 0 0 := by
      intro fd j Aj sj lj hfd hFj hSj
      refine au_aload_n dX2_pardoned_70 rfl ?_
      refine au_callV (n := 0) (kX2_putBack G Aj (au_up mi MO 23 0) sj hi lj r nx hF) (lw_V q1869 q1871 qs116 q134 q1872) rfl (by decide +kernel) (by decide) (T := TX2) (N := 35) rfl rfl rfl rfl (Nat.le_of_ble_eq_true rfl) (Nat.le_of_ble_eq_true rfl) (Nat.le_of_ble_eq_true rfl) (Nat.le_of_ble_eq_true rfl) (Nat.le_of_ble_eq_true rfl) dX2_pardoned_71 (fun rv_ M_ hp_ => ?_)
      obtain ⟨rfl, rfl⟩ := hp_
      have eA : (fun j => if 6 ≤ j ∧ j < 90 then sj MAside j else Aj j) = A := by
        funext q
        by_cases e : 6 ≤ q ∧ q < 90
        · show (if 6 ≤ q ∧ q < 90 then _ else _) = _
          rw [if_pos e, hSj]; exact hs1 q e.1 e.2
        · show (if 6 ≤ q ∧ q < 90 then _ else _) = _
          rw [if_neg e]
          by_cases e2 : q = 9
          · omega
          · by_cases e3 : 4484 ≤ q ∧ q < 4544
            · exact (hFj.2 rfl).2 q e3.1
            · exact hFj.1 q (by omega)
      rw [eA, up_back hW]
      show au_Go G _ _ 74 [some (au_r MO), some (au_i a), some (au_i fd), some (au_i j)] [] ((rowS mi MA A), sj, hi, lj, r, nx) 0 0
      refine au_iload_n dX2_pardoned_74 rfl ?_
      refine au_iret dX2_pardoned_75 rfl rfl (Nat.le_of_ble_eq_true rfl) (Nat.le_of_ble_eq_true rfl) ?_
      refine ⟨?_, A, _, _, rfl, hY, FrM.rf A⟩
      unfold pdV
      rw [if_pos ca, ← hfd]
    have hq : ∀ (fd j : Int) (Aj : Int → Int) (sj lj : au_A → Int → Int), fd = (pdN n B Pr Lw a 60 1 R).1 → 0 ≤ fd → FrW 0 A Aj → sj MAside = s1 MAside → au_Go G (yX2_pardoned.cls, cX2_pardoned, 4, (some .int), au_rm 7 0 0, yX2_pardoned.name) (au_QM G (au_rm 7 0 0) (PoM hi r nx mi A (some (au_i (pdV n B Pr Lw R a))) (n, B, Pr, Co, R, ns, S))) 23 [some (au_r MO), some (au_i a), some (au_i fd), some (au_i j)] [] (rowS (au_up mi MO 23 0) MA Aj, sj, hi, lj, r, nx) 0 0 := by
      intro fd j Aj sj lj hfd hfd0 hFj hSj
      refine au_iload_n dX2_pardoned_23 rfl ?_
      refine au_bipush dX2_pardoned_24 rfl rfl ?_
      refine au_icmp_gt (tgt := 70) dX2_pardoned_26 (by decide) (fun c26 => ?_) (fun c26 => ?_)
      · exact h70 _ _ _ _ _ hfd hFj hSj
      · refine au_iload_n dX2_pardoned_29 rfl ?_
        refine au_iconst dX2_pardoned_30 rfl rfl ?_
        refine au_icmp_ne (tgt := 70) dX2_pardoned_31 (by decide) (fun c31 => ?_) (fun c31 => ?_)
        · exact h70 _ _ _ _ _ hfd hFj hSj
        · exfalso; omega
    have hl : ∀ (f : Nat) (e : Nat) (Rj : Int → Int) (j : Int) (Aj : Int → Int) (sj lj : au_A → Int → Int), j + (e : Int) = 61 → RowOK Rj n B → MRel 0 Aj Rj → FrW 0 A Aj → EnA (mi MT) Aj n B Pr Lw → sj MAside = s1 MAside → (∃ p : Nat, p < 1024 ∧ sj MO 25 = (p : Int) ∧ p.testBit a.toNat = false) → ((Rj (3 + 7 * a + 4) = 0 ∧ (pdN n B Pr Lw a e j Rj).1 = (pdN n B Pr Lw a 60 1 R).1) ∨ (¬ Rj (3 + 7 * a + 4) = 0 ∧ (-1 : Int) = (pdN n B Pr Lw a 60 1 R).1)) → e < f → 1 ≤ j → au_Go G (yX2_pardoned.cls, cX2_pardoned, 4, (some .int), au_rm 7 0 0, yX2_pardoned.name) (au_QM G (au_rm 7 0 0) (PoM hi r nx mi A (some (au_i (pdV n B Pr Lw R a))) (n, B, Pr, Co, R, ns, S))) 23 [some (au_r MO), some (au_i a), some (au_i (-1)), some (au_i j)] [] (rowS (au_up mi MO 23 0) MA Aj, sj, hi, lj, r, nx) 0 0 := by
      intro f
      induction f with
      | zero => intro e Rj j Aj sj lj h1 hRj hMj hFj hEj hSj hbit hv hf hj; exfalso; omega
      | succ f ih =>
        intro e Rj j Aj sj lj h1 hRj hMj hFj hEj hSj hbit hv hf hj
        refine au_iload_n dX2_pardoned_23 rfl ?_
        refine au_bipush dX2_pardoned_24 rfl rfl ?_
        refine au_icmp_gt (tgt := 70) dX2_pardoned_26 (by decide) (fun c26 => ?_) (fun c26 => ?_)
        · refine h70 _ _ _ _ _ ?_ hFj hSj
          rcases hv with ⟨hu, hv⟩ | ⟨hu, hv⟩
          · first
            | (rw [show e = 0 by omega] at hv; exact hv)
            | (rw [pdN_n e a j (fun q => absurd q.1 (by omega))] at hv; exact hv)
          · exact hv
        · refine au_iload_n dX2_pardoned_29 rfl ?_
          refine au_iconst dX2_pardoned_30 rfl rfl ?_
          refine au_icmp_ne (tgt := 70) dX2_pardoned_31 (by decide) (fun c31 => ?_) (fun c31 => ?_)
          · exact absurd c31 (by decide)
          · refine au_aload_n dX2_pardoned_34 rfl ?_
            refine au_getf (C := RX2) (T := TX2) (N := 35) in_X2 (by decide) rfl 0 (by decide) rfl rfl q1359 rfl dX2_pardoned_35 (v := au_r MA) (congrArg au_q (fx_MO_0 hF)) ?_
            refine au_bipush dX2_pardoned_38 rfl rfl ?_
            refine au_iald dX2_pardoned_40 rfl (by omega) (by show _ < ((4544 : Nat) : Int); omega) (v := au_i (Rj 0)) (congrArg au_i (((au_gi_m (au_reg_MA _)).trans (show rowS (au_up mi MO 23 0) MA Aj MA 6 = Aj 6 from (rowS_self _ _ _ _).trans (rfl))).trans (hMj.1.1))) ?_
            refine au_sipush dX2_pardoned_41 rfl rfl ?_
            refine au_icmp_ge (tgt := 70) dX2_pardoned_44 (by decide) (fun c44 => ?_) (fun c44 => ?_)
            · refine h70 _ _ _ _ _ ?_ hFj hSj
              rcases hv with ⟨hu, hv⟩ | ⟨hu, hv⟩
              · first
                | (rw [show e = 0 by omega] at hv; exact hv)
                | (rw [pdN_n e a j (fun q => absurd q.1 (by omega))] at hv; exact hv)
              · exact hv
            · obtain ⟨e, rfl⟩ : ∃ e', e = e' + 1 := ⟨e - 1, by omega⟩
              have h0 : Rj 0 < 9999 := by omega
              have hpk := pasF_ok (Pr := Pr) (Lw := Lw) hB hRj h0
              obtain ⟨p, hp1024, hpe, hpb⟩ := hbit
              refine au_aload_n dX2_pardoned_47 rfl ?_
              refine au_callV (n := 0) (kX2_pass G 0 n B Pr Lw Rj Aj (au_up mi MO 23 0) sj hi lj r nx hF (au_up_self _ _ _ _) (Or.inl rfl) hEj hMj hRj h0) (lw_V q1706 q1708 qs95 q134 q1709) rfl (by decide +kernel) (by decide) (T := TX2) (N := 35) rfl rfl rfl rfl (Nat.le_of_ble_eq_true rfl) (Nat.le_of_ble_eq_true rfl) (Nat.le_of_ble_eq_true rfl) (Nat.le_of_ble_eq_true rfl) (Nat.le_of_ble_eq_true rfl) dX2_pardoned_48 (fun rv_ M_ hp_ => ?_)
              obtain ⟨rfl, A2, s2, l2, rfl, hM2, hf2, hd2, hp2, hs3⟩ := hp_
              show au_Go G _ _ 51 [some (au_r MO), some (au_i a), some (au_i (-1)), some (au_i j)] [] ((rowS (au_up mi MO 23 0) MA A2), s2, hi, l2, r, nx) 0 0
              obtain ⟨p', hp', hpe', hpb'⟩ := hp2 p hp1024 hpe
              have hpa := hpb' a.toNat (by omega)
              rw [show ((a.toNat : Nat) : Int) = a by omega] at hpa
              have hha : hs (s2 MO 25) a ↔ (Rj (3 + 7 * a + 4) = 0 ∧ (pasF n B Pr Lw Rj).1 (3 + 7 * a + 4) = 1) := by
                rw [hpe']
                refine (au_has_int ca.1 (by omega) (by omega)).trans (hpa.trans ?_)
                rw [hpb]
                exact ⟨fun q => q.elim (fun w => absurd w (by decide)) id, Or.inr⟩
              refine au_aload_n dX2_pardoned_51 rfl ?_
              refine au_getf (C := RX2) (T := TX2) (N := 35) in_X2 (by decide) rfl 25 (by decide) rfl rfl q1384 rfl dX2_pardoned_52 (v := au_i (s2 MO 25)) (by rfl) ?_
              refine au_iload_n dX2_pardoned_55 rfl ?_
              refine au_callSp (n := 2) (kX2_has G (s2 MO 25) a (rowS (au_up mi MO 23 0) MA A2, s2, hi, l2, r, nx)) (lw_S q1482 q1483 q134 q1484) (by decide +kernel) rfl rfl rfl (Nat.le_of_ble_eq_true rfl) (Nat.le_of_ble_eq_true rfl) (Nat.le_of_ble_eq_true rfl) (Nat.le_of_ble_eq_true rfl) (Nat.le_of_ble_eq_true rfl) dX2_pardoned_56 ?_
              refine au_if_eq (tgt := 64) dX2_pardoned_59 (by decide) (fun c59 => ?_) (fun c59 => ?_)
              · have c59 := au_b0 c59
                refine au_iinc dX2_pardoned_64 rfl (show 3 < 4 by decide) (by omega) (by omega) (by decide) (by decide) ?_
                show au_Go G _ _ 67 [some (au_r MO), some (au_i a), some (au_i (-1)), some (au_i (j + 1))] [] ((rowS (au_up mi MO 23 0) MA A2), s2, hi, l2, r, nx) 0 0
                refine au_goto (tgt := 23) dX2_pardoned_67 (by decide) ?_
                have hnb : ∃ p : Nat, p < 1024 ∧ s2 MO 25 = (p : Int) ∧ p.testBit a.toNat = false := ⟨p', hp', hpe', by
                  cases hb : p'.testBit a.toNat with
                  | false => rfl
                  | true => exact absurd (hha.mpr (by rcases hpa.mp hb with w | w; (rw [hpb] at w; cases w); exact w)) c59⟩
                rcases hv with ⟨hu, hv⟩ | ⟨hu, hv⟩
                · have hn1 : ¬ (pasF n B Pr Lw Rj).1 (3 + 7 * a + 4) = 1 := fun z => c59 (hha.mpr ⟨hu, z⟩)
                  rw [pdN_o e a j ⟨h0, hu⟩ hn1] at hv
                  by_cases hu2 : (pasF n B Pr Lw Rj).1 (3 + 7 * a + 4) = 0
                  · exact ih e _ _ _ _ _ (by omega) hpk.1 hM2 (hFj.tr hf2) (hEj.fr hf2) (hs3.trans hSj) hnb (Or.inl ⟨hu2, hv⟩) (by omega) (by omega)
                  · refine ih e _ _ _ _ _ (by omega) hpk.1 hM2 (hFj.tr hf2) (hEj.fr hf2) (hs3.trans hSj) hnb (Or.inr ⟨hu2, ?_⟩) (by omega) (by omega)
                    rw [← hv, pdN_n e a (j + 1) (fun q => hu2 q.2)]
                · exact ih e _ _ _ _ _ (by omega) hpk.1 hM2 (hFj.tr hf2) (hEj.fr hf2) (hs3.trans hSj) hnb (Or.inr ⟨pasF_hne hB hRj ca.1 (by omega) hu, hv⟩) (by omega) (by omega)
              · have c59 := au_b1 c59
                refine au_iload_n dX2_pardoned_62 rfl ?_
                refine au_istore_n dX2_pardoned_63 (show 2 < 4 by decide) ?_
                show au_Go G _ _ 64 [some (au_r MO), some (au_i a), some (au_i j), some (au_i j)] [] ((rowS (au_up mi MO 23 0) MA A2), s2, hi, l2, r, nx) 0 0
                refine au_iinc dX2_pardoned_64 rfl (show 3 < 4 by decide) (by omega) (by omega) (by decide) (by decide) ?_
                show au_Go G _ _ 67 [some (au_r MO), some (au_i a), some (au_i j), some (au_i (j + 1))] [] ((rowS (au_up mi MO 23 0) MA A2), s2, hi, l2, r, nx) 0 0
                refine au_goto (tgt := 23) dX2_pardoned_67 (by decide) ?_
                have hyes := hha.mp c59
                rcases hv with ⟨hu, hv⟩ | ⟨hu, hv⟩
                · rw [pdN_y e a j ⟨h0, hyes.1⟩ hyes.2] at hv
                  exact hq _ _ _ _ _ hv (by omega) (hFj.tr hf2) (hs3.trans hSj)
                · exact absurd hyes.1 hu
    refine hl 61 60 R 1 A _ sl (by omega) hR ⟨hM.1, fun q => absurd q (by decide)⟩ (FrW.rf 0 A) hE (au_up_neF _ _ _ (by decide)) ⟨0, by decide, au_up_self _ _ _ _, Nat.zero_testBit _⟩ ?_ (by omega) (by omega)
    by_cases hu : R (3 + 7 * a + 4) = 0
    · exact Or.inl ⟨hu, rfl⟩
    · exact Or.inr ⟨hu, by rw [pdN_n 60 a 1 (fun q => hu q.2)]⟩
  · have c5 := au_b0 c5
    refine au_iconst dX2_pardoned_8 rfl rfl ?_
    refine au_iret dX2_pardoned_9 rfl rfl (Nat.le_of_ble_eq_true rfl) (Nat.le_of_ble_eq_true rfl) ?_
    refine ⟨?_, A, si, sl, rfl, hY, FrM.rf A⟩
    unfold pdV
    rw [if_neg c5]
