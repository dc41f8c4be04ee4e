/-! THE MODEL: doings, years (printed by tools/m66.py) -/
set_option maxRecDepth 100000
set_option maxHeartbeats 4000000

theorem au_up_rowA (mi : au_A → Int → Int) (a : au_A) (R : Int → Int) (j v : Int) : au_up (rowS mi a R) a j v = rowS mi a (up1 R j v) := by
  rw [au_up_row, rowS_selfF, rowS_rowS]
theorem ofM_conv {hi sl si : au_A → Int → Int} {r : au_A → Int → Option au_A} {nx : Nat} {mi : au_A → Int → Int} {A : Int → Int} {n : Int} {B Pr Co R : Int → Int} {ns : Int} {S : Nat → Int → Int} {b q : Int} {rv : Option au_V} {M' : au_M} (hY : MY A (n, B, Pr, Co, R, ns, S)) (hK : YOK (n, B, Pr, Co, R, ns, S))
    (h : (ofP n b q ∧ rv = some (au_i n) ∧ M' = (au_up (au_up (au_up (au_up (rowS mi MA A) MA (90 + n) b) MA (100 + n) q) MA (110 + n) 0) MA 0 (n + 1), si, hi, sl, r, nx)) ∨ (¬ ofP n b q ∧ rv = some (au_i (-1)) ∧ M' = (rowS mi MA A, si, hi, sl, r, nx))) :
    PoM hi r nx mi A (some (au_i (ofY (n, B, Pr, Co, R, ns, S) b q).1)) (ofY (n, B, Pr, Co, R, ns, S) b q).2 rv M' := by
  rcases h with ⟨hc, rfl, rfl⟩ | ⟨hc, rfl, rfl⟩
  · have h0 : 0 ≤ n := hK.1.1
    have hC0 : ∀ o, n ≤ o → o < 10 → Co o = 0 := hK.2.2.1
    obtain ⟨h1, h2, h3, h4, h5, h6, h7⟩ := hY
    have h10 := hc.2.2
    rw [au_up_rowA, au_up_rowA, au_up_rowA, au_up_rowA]
    have e : ∀ j, j ≠ 0 → j ≠ 90 + n → j ≠ 100 + n → j ≠ 110 + n → up1 (up1 (up1 (up1 A (90 + n) b) (100 + n) q) (110 + n) 0) 0 (n + 1) j = A j := fun j j0 j1 j2 j3 => by
      rw [up1_ne _ _ j0, up1_ne _ _ j3, up1_ne _ _ j2, up1_ne _ _ j1]
    refine PoM.of (w := n) (y := (n + 1, up1 B n b, up1 Pr n q, Co, R, ns, S)) (if_pos hc) ⟨up1_self _ _ _, fun o o0 o1 => ?_, fun o o0 o1 => ?_, fun o o0 o1 => ?_, ?_, ?_, fun k hk => ⟨fun j a b => ?_, fun j a b => ?_, (h7 k hk).2.2⟩⟩ (fun j z => e j (by omega) (by omega) (by omega) (by omega)) rfl
    · by_cases z : o = n
      · rw [z, up1_ne _ _ (by omega), up1_ne _ _ (by omega), up1_ne _ _ (by omega), up1_self]
        exact (up1_self _ _ _).symm
      · rw [e _ (by omega) (by omega) (by omega) (by omega)]
        exact (h2 o o0 o1).trans (up1_ne _ _ z).symm
    · by_cases z : o = n
      · rw [z, up1_ne _ _ (by omega), up1_ne _ _ (by omega), up1_self]
        exact (up1_self _ _ _).symm
      · rw [e _ (by omega) (by omega) (by omega) (by omega)]
        exact (h3 o o0 o1).trans (up1_ne _ _ z).symm
    · by_cases z : o = n
      · rw [z, up1_ne _ _ (by omega), up1_self]
        exact (hC0 n (Int.le_refl n) h10).symm
      · rw [e _ (by omega) (by omega) (by omega) (by omega)]
        exact h4 o o0 o1
    · have h5 : MRel 1 A R := h5
      exact ⟨h5.1.of (fun j a b c => e j (by omega) (by omega) (by omega) (by omega)) (fun _ _ _ => rfl), fun q => ⟨(h5.2 q).1.of (e 9 (by decide) (by omega) (by omega) (by omega)) (fun j a b => e j (by omega) (by omega) (by omega) (by omega)) (fun _ _ _ => rfl), (h5.2 q).2⟩⟩
    · rw [e 3 (by decide) (by omega) (by omega) (by omega)]; exact h6
    · rw [e _ (by omega) (by omega) (by omega) (by omega)]; exact (h7 k hk).1 j a b
    · rw [e _ (by omega) (by omega) (by omega) (by omega)]; exact (h7 k hk).2.1 j a b
  · exact PoM.of (if_neg hc) hY (FrM.rf A) rfl
theorem coM_conv {hi sl si : au_A → Int → Int} {r : au_A → Int → Option au_A} {nx : Nat} {mi : au_A → Int → Int} {A : Int → Int} {n : Int} {B Pr Co R : Int → Int} {ns : Int} {S : Nat → Int → Int} {o t : Int} {rv : Option au_V} {M' : au_M} (hY : MY A (n, B, Pr, Co, R, ns, S)) (hn : n ≤ 10)
    (h : (coP n Co o t ∧ rv = some (au_i 1) ∧ M' = (au_up (au_up (rowS mi MA A) MA (110 + o) (au_or (Co o) (au_shl 1 t))) MA (110 + t) (au_or (Co t) (au_shl 1 o)), si, hi, sl, r, nx)) ∨ (¬ coP n Co o t ∧ rv = some (au_i 0) ∧ M' = (rowS mi MA A, si, hi, sl, r, nx))) :
    PoM hi r nx mi A (some (au_i (coY (n, B, Pr, Co, R, ns, S) o t).1)) (coY (n, B, Pr, Co, R, ns, S) o t).2 rv M' := by
  rcases h with ⟨hc, rfl, rfl⟩ | ⟨hc, rfl, rfl⟩
  · obtain ⟨h1, h2, h3, h4, h5, h6, h7⟩ := hY
    obtain ⟨c1, c2, c3, -⟩ := id hc
    rw [au_up_rowA, au_up_rowA]
    have e : ∀ j, j ≠ 110 + o → j ≠ 110 + t → up1 (up1 A (110 + o) (au_or (Co o) (au_shl 1 t))) (110 + t) (au_or (Co t) (au_shl 1 o)) j = A j := fun j j0 j1 => by
      rw [up1_ne _ _ j1, up1_ne _ _ j0]
    refine PoM.of (w := 1) (y := (n, B, Pr, up1 (up1 Co o (au_or (Co o) (au_shl 1 t))) t (au_or (Co t) (au_shl 1 o)), R, ns, S)) (if_pos hc) ⟨?_, fun z z0 z1 => ?_, fun z z0 z1 => ?_, fun z z0 z1 => ?_, ?_, ?_, fun k hk => ⟨fun j a b => ?_, fun j a b => ?_, (h7 k hk).2.2⟩⟩ (fun j z => e j (by omega) (by omega)) rfl
    · rw [e 0 (by omega) (by omega)]; exact h1
    · rw [e _ (by omega) (by omega)]; exact h2 z z0 z1
    · rw [e _ (by omega) (by omega)]; exact h3 z z0 z1
    · show _ = up1 (up1 Co o _) t _ z
      by_cases y : z = t
      · rw [y, up1_self, up1_self]
      · rw [up1_ne _ _ (show 110 + z ≠ 110 + t by omega), up1_ne _ _ y]
        by_cases y2 : z = o
        · rw [y2, up1_self, up1_self]
        · rw [up1_ne _ _ (show 110 + z ≠ 110 + o by omega), up1_ne _ _ y2]; exact h4 z z0 z1
    · have h5 : MRel 1 A R := h5
      exact ⟨h5.1.of (fun j a b c => e j (by omega) (by omega)) (fun _ _ _ => rfl), fun q => ⟨(h5.2 q).1.of (e 9 (by omega) (by omega)) (fun j a b => e j (by omega) (by omega)) (fun _ _ _ => rfl), (h5.2 q).2⟩⟩
    · rw [e 3 (by omega) (by omega)]; exact h6
    · rw [e _ (by omega) (by omega)]; exact (h7 k hk).1 j a b
    · rw [e _ (by omega) (by omega)]; exact (h7 k hk).2.1 j a b
  · exact PoM.of (if_neg hc) hY (FrM.rf A) rfl
/-- clauses of a text that aren't laws: with their numbers -/
def doN : Nat → List (Option au_Do) → List au_Do
  | _, [] => []
  | k, none :: t => doN (k + 1) t
  | k, some e :: t => (e.1, e.2.1, e.2.2.1, e.2.2.2.1, (k : Int)) :: doN (k + 1) t
/-- a clause as the model keeps it -/
def ClAt (T : Int → Int) (x : Int) : Option au_Do → Prop
  | none => 0 ≤ T x ∧ T x ≤ 2
  | some e => T x = e.1 - 200 ∧ T (x + 1) = e.2.1 ∧ (e.1 ≠ 208 → T (x + 2) = e.2.2.1) ∧ (e.1 = 205 → T (x + 3) = e.2.2.2.1) ∧ DoOK e
/-- a text's clauses as the model keeps them -/
def CsAt (T : Int → Int) (t : Int) (cl : List (Option au_Do)) : Prop := T (705 * t) = (cl.length : Int) ∧ cl.length ≤ 24 ∧ ∀ (k : Nat) (c : Option au_Do), cl[k]? = some c → ClAt T (705 * t + 1 + 4 * (k : Int)) c
noncomputable def clY (Lw : au_Lw) (c : Option au_Do) (y : au_Y) : Int × au_Y := match c with
  | none => (1, y)
  | some e => ((doY Lw e y).1, (doY Lw e y).2.1)
noncomputable def plC (Lw : au_Lw) : Nat → List (Option au_Do) → au_Y → Int × au_Y
  | _, [], y => (-1, y)
  | k, c :: t, y => if (clY Lw c y).1 = 0 then ((k : Int), (clY Lw c y).2) else plC Lw (k + 1) t (clY Lw c y).2
theorem plC_eq {Lw : au_Lw} : ∀ (cl : List (Option au_Do)) (k : Nat) (y : au_Y), plC Lw k cl y = ((plF Lw (doN k cl) y).1, (plF Lw (doN k cl) y).2.1) := by
  intro cl
  induction cl with
  | nil => intro k y; rfl
  | cons c t ih =>
    intro k y
    cases c with
    | none =>
      show (if (1 : Int) = 0 then _ else plC Lw (k + 1) t y) = _
      rw [if_neg (by decide)]
      exact ih (k + 1) y
    | some e =>
      have hd : doY Lw (e.1, e.2.1, e.2.2.1, e.2.2.2.1, (k : Int)) y = doY Lw e y := rfl
      show (if (doY Lw e y).1 = 0 then ((k : Int), (doY Lw e y).2.1) else plC Lw (k + 1) t (doY Lw e y).2.1) = ((plF Lw ((e.1, e.2.1, e.2.2.1, e.2.2.2.1, (k : Int)) :: doN (k + 1) t) y).1, (plF Lw ((e.1, e.2.1, e.2.2.1, e.2.2.2.1, (k : Int)) :: doN (k + 1) t) y).2.1)
      unfold plF
      rw [hd]
      by_cases h : (doY Lw e y).1 = 0
      · rw [if_pos h, if_pos h]
      · rw [if_neg h, if_neg h, ih]
theorem clY_ok {Lw : au_Lw} {y : au_Y} (h : YOK y) (c : Option au_Do) : YOK (clY Lw c y).2 := by
  cases c with
  | none => exact h
  | some e => exact doY_ok h e
theorem ofY_ge (y : au_Y) (h : YOK y) (b q : Int) : (if (ofY y b q).1 = -1 then (0 : Int) else 1) = if (ofY y b q).1 ≥ 0 then 1 else 0 := by
  have h0 : 0 ≤ y.1 := h.1.1
  unfold ofY
  split
  · first
    | (rw [if_neg (by show ¬ y.1 = -1; omega)]; done)
    | rw [if_neg (by show ¬ y.1 = -1; omega), if_pos (by show 0 ≤ y.1; omega)]
  · rfl
theorem wrY_ge (y : au_Y) (h : YOK y) (f t z : Int) : (if (wrY y f t z).1 = -1 then (0 : Int) else 1) = if (wrY y f t z).1 ≥ 0 then 1 else 0 := by
  have h0 := h.2.2.2.1.1.2.2.1.1
  by_cases hc : cwP y.1 y.2.1 y.2.2.2.2.1 f t ∧ 1 ≤ z ∧ z ≤ 9999
  · rw [show wrY y f t z = _ from if_pos hc, if_neg (by show ¬ y.2.2.2.2.1 2 = -1; omega), if_pos (by show 0 ≤ y.2.2.2.2.1 2; omega)]
  · rw [show wrY y f t z = _ from if_neg hc]; rfl

theorem kX2_isPlayed (G : au_G) (Lw : au_Lw) (x : Int) (c : Option au_Do) (n : Int) (B Pr Co R : Int → Int) (ns : Int) (S : Nat → Int → Int) (A : Int → Int) (mi si hi sl : au_A → Int → Int) (r : au_A → Int → Option au_A) (nx : Nat) (hF : Fix r) (hW : mi MO 23 = 1) (hY : MY A (n, B, Pr, Co, R, ns, S)) (hK : YOK (n, B, Pr, Co, R, ns, S)) (hE : EnA (mi MT) A n B Pr Lw) (hC : ClAt (mi MT) x c) (h0 : 0 ≤ x) (h1 : x + 4 ≤ 2820) : au_Ctr G yX2_isPlayed cX2_isPlayed 4 (some .boolean) 8 0 0 [au_r MO, au_i x] (rowS mi MA A, si, hi, sl, r, nx) (PoM hi r nx mi A (some (au_i (clY Lw c (n, B, Pr, Co, R, ns, S)).1)) (clY Lw c (n, B, Pr, Co, R, ns, S)).2) := by
  refine au_of (by decide) (Nat.le_of_ble_eq_true rfl) ?_
  obtain ⟨jN, jE, jPr, jCo, hM, h3, hS⟩ := id hY
  obtain ⟨jB, jP9, jC0, jR, jns, jSR⟩ := id hK
  have hN : A 0 = n := jN
  have hBo : ∀ o, 0 ≤ o → o < 10 → A (90 + o) = B o := jE
  have hCo : ∀ o, 0 ≤ o → o < 10 → A (110 + o) = Co o := jCo
  have hM : MRel 1 A R := hM
  have h3 : A 3 = ns := h3
  have hS : ∀ k : Nat, k < 30 → MSt A k (S k) := hS
  have hB : Bs B n := jB
  have hns : 0 ≤ ns ∧ ns ≤ 30 := jns
  have hb1 := hB.1
  have hb0 := hB.2.1
  have hn : 0 ≤ n ∧ n ≤ 10 := ⟨hb1, hb0⟩
  have hR : RowOK R n B := jR
  obtain ⟨⟨r0, r0b⟩, ⟨r1, r1b⟩, ⟨r2, r2b⟩, ⟨r83, r83b⟩, rA⟩ := id hR.1
  have gN : rowS mi MA A MA 0 = n := (rowS_self _ _ _ _).trans hN
  have gE : ∀ o, 0 ≤ o → o < 10 → rowS mi MA A MA (90 + o) = B o := fun o a b => (rowS_self _ _ _ _).trans (hBo o a b)
  have g8 : rowS mi MA A MA 8 = R 2 := (rowS_self _ _ _ _).trans hM.1.2.2.1
  show au_Go G _ _ 0 [some (au_r MO), some (au_i x), none, none] [] (rowS mi MA A, si, hi, sl, r, nx) 0 0
  cases c with
  | none =>
    obtain ⟨c0, c1⟩ := hC
    refine au_aload_n dX2_isPlayed_0 rfl ?_
    refine au_getf (C := RX2) (T := TX2) (N := 35) in_X2 (by decide) rfl 2 (by decide) rfl rfl q1361 rfl dX2_isPlayed_1 (v := au_r MT) (congrArg au_q (fx_MO_2 hF)) ?_
    refine au_iload_n dX2_isPlayed_4 rfl ?_
    refine au_iconst dX2_isPlayed_5 rfl rfl ?_
    refine au_iadd dX2_isPlayed_6 (by omega) (by omega) ?_
    refine au_iald dX2_isPlayed_7 rfl (by omega) (by show _ < ((2820 : Nat) : Int); omega) (v := au_i (mi MT (x + 1))) (congrArg au_i (show rowS mi MA A MT (x + 1) = _ from (rowS_ne _ _ _ (show MT ≠ MA by decide)).trans (rfl))) ?_
    refine au_istore_n dX2_isPlayed_8 (show 2 < 4 by decide) ?_
    show au_Go G _ _ 9 [some (au_r MO), some (au_i x), some (au_i (mi MT (x + 1))), none] [] ((rowS mi MA A), si, hi, sl, r, nx) 0 0
    refine au_aload_n dX2_isPlayed_9 rfl ?_
    refine au_getf (C := RX2) (T := TX2) (N := 35) in_X2 (by decide) rfl 2 (by decide) rfl rfl q1361 rfl dX2_isPlayed_10 (v := au_r MT) (congrArg au_q (fx_MO_2 hF)) ?_
    refine au_iload_n dX2_isPlayed_13 rfl ?_
    refine au_iconst dX2_isPlayed_14 rfl rfl ?_
    refine au_iadd dX2_isPlayed_15 (by omega) (by omega) ?_
    refine au_iald dX2_isPlayed_16 rfl (by omega) (by show _ < ((2820 : Nat) : Int); omega) (v := au_i (mi MT (x + 2))) (congrArg au_i (show rowS mi MA A MT (x + 2) = _ from (rowS_ne _ _ _ (show MT ≠ MA by decide)).trans (rfl))) ?_
    refine au_istore_n dX2_isPlayed_17 (show 3 < 4 by decide) ?_
    show au_Go G _ _ 18 [some (au_r MO), some (au_i x), some (au_i (mi MT (x + 1))), some (au_i (mi MT (x + 2)))] [] ((rowS mi MA A), si, hi, sl, r, nx) 0 0
    refine au_aload_n dX2_isPlayed_18 rfl ?_
    refine au_getf (C := RX2) (T := TX2) (N := 35) in_X2 (by decide) rfl 2 (by decide) rfl rfl q1361 rfl dX2_isPlayed_19 (v := au_r MT) (congrArg au_q (fx_MO_2 hF)) ?_
    refine au_iload_n dX2_isPlayed_22 rfl ?_
    refine au_iald dX2_isPlayed_23 rfl (by omega) (by show _ < ((2820 : Nat) : Int); omega) (v := au_i (mi MT x)) (congrArg au_i (show rowS mi MA A MT x = _ from (rowS_ne _ _ _ (show MT ≠ MA by decide)).trans (rfl))) ?_
    by_cases c24 : (mi MT x) < 3 ∨ 8 < (mi MT x)
    · refine au_tableOut (tgt := 129) dX2_isPlayed_24 c24 (by decide) ?_
      refine au_iconst dX2_isPlayed_129 rfl rfl ?_
      exact au_zret dX2_isPlayed_130 rfl (Or.inr rfl) rfl (Nat.le_of_ble_eq_true rfl) (Nat.le_of_ble_eq_true rfl) (⟨rfl, A, _, _, rfl, hY, FrM.rf A⟩)
    · have c24 : (mi MT x) = 3 ∨ (mi MT x) = 4 ∨ (mi MT x) = 5 ∨ (mi MT x) = 6 ∨ (mi MT x) = 7 ∨ (mi MT x) = 8 := by omega
      rcases c24 with e24 | e24 | e24 | e24 | e24 | e24
      · refine au_tableIn (off := 40) (tgt := 64) dX2_isPlayed_24 (by omega) (by omega) (by rw [e24]; rfl) (by decide) ?_
        exfalso; omega
      · refine au_tableIn (off := 55) (tgt := 79) dX2_isPlayed_24 (by omega) (by omega) (by rw [e24]; rfl) (by decide) ?_
        exfalso; omega
      · refine au_tableIn (off := 62) (tgt := 86) dX2_isPlayed_24 (by omega) (by omega) (by rw [e24]; rfl) (by decide) ?_
        exfalso; omega
      · refine au_tableIn (off := 85) (tgt := 109) dX2_isPlayed_24 (by omega) (by omega) (by rw [e24]; rfl) (by decide) ?_
        exfalso; omega
      · refine au_tableIn (off := 92) (tgt := 116) dX2_isPlayed_24 (by omega) (by omega) (by rw [e24]; rfl) (by decide) ?_
        exfalso; omega
      · refine au_tableIn (off := 99) (tgt := 123) dX2_isPlayed_24 (by omega) (by omega) (by rw [e24]; rfl) (by decide) ?_
        exfalso; omega
  | some e =>
    obtain ⟨t0, t1, t2, t3, hD⟩ := hC
    obtain ⟨⟨d0, d1⟩, d8⟩ := hD
    refine au_aload_n dX2_isPlayed_0 rfl ?_
    refine au_getf (C := RX2) (T := TX2) (N := 35) in_X2 (by decide) rfl 2 (by decide) rfl rfl q1361 rfl dX2_isPlayed_1 (v := au_r MT) (congrArg au_q (fx_MO_2 hF)) ?_
    refine au_iload_n dX2_isPlayed_4 rfl ?_
    refine au_iconst dX2_isPlayed_5 rfl rfl ?_
    refine au_iadd dX2_isPlayed_6 (by omega) (by omega) ?_
    refine au_iald dX2_isPlayed_7 rfl (by omega) (by show _ < ((2820 : Nat) : Int); omega) (v := au_i (e.2.1)) (congrArg au_i (show rowS mi MA A MT (x + 1) = _ from (rowS_ne _ _ _ (show MT ≠ MA by decide)).trans (t1))) ?_
    refine au_istore_n dX2_isPlayed_8 (show 2 < 4 by decide) ?_
    show au_Go G _ _ 9 [some (au_r MO), some (au_i x), some (au_i e.2.1), none] [] ((rowS mi MA A), si, hi, sl, r, nx) 0 0
    refine au_aload_n dX2_isPlayed_9 rfl ?_
    refine au_getf (C := RX2) (T := TX2) (N := 35) in_X2 (by decide) rfl 2 (by decide) rfl rfl q1361 rfl dX2_isPlayed_10 (v := au_r MT) (congrArg au_q (fx_MO_2 hF)) ?_
    refine au_iload_n dX2_isPlayed_13 rfl ?_
    refine au_iconst dX2_isPlayed_14 rfl rfl ?_
    refine au_iadd dX2_isPlayed_15 (by omega) (by omega) ?_
    refine au_iald dX2_isPlayed_16 rfl (by omega) (by show _ < ((2820 : Nat) : Int); omega) (v := au_i (mi MT (x + 2))) (congrArg au_i (show rowS mi MA A MT (x + 2) = _ from (rowS_ne _ _ _ (show MT ≠ MA by decide)).trans (rfl))) ?_
    refine au_istore_n dX2_isPlayed_17 (show 3 < 4 by decide) ?_
    show au_Go G _ _ 18 [some (au_r MO), some (au_i x), some (au_i e.2.1), some (au_i (mi MT (x + 2)))] [] ((rowS mi MA A), si, hi, sl, r, nx) 0 0
    refine au_aload_n dX2_isPlayed_18 rfl ?_
    refine au_getf (C := RX2) (T := TX2) (N := 35) in_X2 (by decide) rfl 2 (by decide) rfl rfl q1361 rfl dX2_isPlayed_19 (v := au_r MT) (congrArg au_q (fx_MO_2 hF)) ?_
    refine au_iload_n dX2_isPlayed_22 rfl ?_
    refine au_iald dX2_isPlayed_23 rfl (by omega) (by show _ < ((2820 : Nat) : Int); omega) (v := au_i (e.1 - 200)) (congrArg au_i (show rowS mi MA A MT x = _ from (rowS_ne _ _ _ (show MT ≠ MA by decide)).trans (t0))) ?_
    by_cases c24 : (e.1 - 200) < 3 ∨ 8 < (e.1 - 200)
    · refine au_tableOut (tgt := 129) dX2_isPlayed_24 c24 (by decide) ?_
      refine au_iconst dX2_isPlayed_129 rfl rfl ?_
      refine au_zret dX2_isPlayed_130 rfl (Or.inr rfl) rfl (Nat.le_of_ble_eq_true rfl) (Nat.le_of_ble_eq_true rfl) ?_
      exfalso
      omega
    · have c24 : (e.1 - 200) = 3 ∨ (e.1 - 200) = 4 ∨ (e.1 - 200) = 5 ∨ (e.1 - 200) = 6 ∨ (e.1 - 200) = 7 ∨ (e.1 - 200) = 8 := by omega
      rcases c24 with e24 | e24 | e24 | e24 | e24 | e24
      · refine au_tableIn (off := 40) (tgt := 64) dX2_isPlayed_24 (by omega) (by omega) (by rw [e24]; rfl) (by decide) ?_
        have e2 := t2 (by omega)
        rw [e2]
        refine au_aload_n dX2_isPlayed_64 rfl ?_
        refine au_iload_n dX2_isPlayed_65 rfl ?_
        refine au_iload_n dX2_isPlayed_66 rfl ?_
        refine au_callV (n := 2) (kX2_officer G e.2.2.1 e.2.1 (rowS mi MA A) si hi sl r nx hF n gN hn) (lw_V q1802 q1468 q1469 q134 q1470) rfl (by decide +kernel) (by decide) (T := TX2) (N := 35) rfl rfl rfl rfl (Nat.le_of_ble_eq_true rfl) (Nat.le_of_ble_eq_true rfl) (Nat.le_of_ble_eq_true rfl) (Nat.le_of_ble_eq_true rfl) (Nat.le_of_ble_eq_true rfl) dX2_isPlayed_67 (fun rv_ M_ hp_ => ?_)
        have hp_ := ofM_conv (b := e.2.2.1) (q := e.2.1) hY hK hp_
        obtain ⟨rfl, A2, s2, l2, rfl, hY2, hf2⟩ := hp_
        show au_Go G _ _ 70 [some (au_r MO), some (au_i x), some (au_i e.2.1), some (au_i e.2.2.1)] [au_i ((ofY (n, B, Pr, Co, R, ns, S) e.2.2.1 e.2.1).1)] ((rowS mi MA A2), s2, hi, l2, r, nx) 0 0
        refine au_if_lt (tgt := 77) dX2_isPlayed_70 (by decide) (fun c70 => ?_) (fun c70 => ?_)
        · refine au_iconst dX2_isPlayed_77 rfl rfl ?_
          refine au_zret dX2_isPlayed_78 rfl (Or.inl rfl) rfl (Nat.le_of_ble_eq_true rfl) (Nat.le_of_ble_eq_true rfl) ?_
          have ed : doY Lw e (n, B, Pr, Co, R, ns, S) = _ := doY_203 (by omega)
          refine ⟨?_, A2, s2, l2, rfl, ?_, hf2⟩
          · show _ = some (au_i (doY Lw e (n, B, Pr, Co, R, ns, S)).1)
            rw [ed]
            refine congrArg (fun q => some (au_i q)) (Eq.trans ?_ (ofY_ge _ hK _ _).symm)
            first
            | exact (if_pos (by omega)).symm
            | exact (if_neg (by omega)).symm
          · show MY A2 (doY Lw e (n, B, Pr, Co, R, ns, S)).2.1
            rw [ed]; exact hY2
        · refine au_iconst dX2_isPlayed_73 rfl rfl ?_
          refine au_goto (tgt := 78) dX2_isPlayed_74 (by decide) ?_
          refine au_zret dX2_isPlayed_78 rfl (Or.inr rfl) rfl (Nat.le_of_ble_eq_true rfl) (Nat.le_of_ble_eq_true rfl) ?_
          have ed : doY Lw e (n, B, Pr, Co, R, ns, S) = _ := doY_203 (by omega)
          refine ⟨?_, A2, s2, l2, rfl, ?_, hf2⟩
          · show _ = some (au_i (doY Lw e (n, B, Pr, Co, R, ns, S)).1)
            rw [ed]
            refine congrArg (fun q => some (au_i q)) (Eq.trans ?_ (ofY_ge _ hK _ _).symm)
            first
            | exact (if_pos (by omega)).symm
            | exact (if_neg (by omega)).symm
          · show MY A2 (doY Lw e (n, B, Pr, Co, R, ns, S)).2.1
            rw [ed]; exact hY2
      · refine au_tableIn (off := 55) (tgt := 79) dX2_isPlayed_24 (by omega) (by omega) (by rw [e24]; rfl) (by decide) ?_
        have e2 := t2 (by omega)
        rw [e2]
        refine au_aload_n dX2_isPlayed_79 rfl ?_
        refine au_iload_n dX2_isPlayed_80 rfl ?_
        refine au_iload_n dX2_isPlayed_81 rfl ?_
        refine au_callV (n := 2) (kX2_cousin G e.2.1 e.2.2.1 (rowS mi MA A) si hi sl r nx hF n gN hn Co (fun o a b => (rowS_self _ _ _ _).trans (hCo o a b))) (lw_V q1803 q1479 q1480 q134 q1481) rfl (by decide +kernel) (by decide) (T := TX2) (N := 35) rfl rfl rfl rfl (Nat.le_of_ble_eq_true rfl) (Nat.le_of_ble_eq_true rfl) (Nat.le_of_ble_eq_true rfl) (Nat.le_of_ble_eq_true rfl) (Nat.le_of_ble_eq_true rfl) dX2_isPlayed_82 (fun rv_ M_ hp_ => ?_)
        have hp_ := coM_conv (o := e.2.1) (t := e.2.2.1) hY hb0 hp_
        obtain ⟨rfl, A2, s2, l2, rfl, hY2, hf2⟩ := hp_
        show au_Go G _ _ 85 [some (au_r MO), some (au_i x), some (au_i e.2.1), some (au_i e.2.2.1)] [au_i ((coY (n, B, Pr, Co, R, ns, S) e.2.1 e.2.2.1).1)] ((rowS mi MA A2), s2, hi, l2, r, nx) 0 0
        refine au_zret dX2_isPlayed_85 rfl (by first | exact coY_01 | exact awY_01 | exact sdY_01 | exact paY_01) rfl (Nat.le_of_ble_eq_true rfl) (Nat.le_of_ble_eq_true rfl) ?_
        have ed : doY Lw e (n, B, Pr, Co, R, ns, S) = _ := doY_204 (by omega)
        refine ⟨?_, A2, s2, l2, rfl, ?_, hf2⟩
        · show _ = some (au_i (doY Lw e (n, B, Pr, Co, R, ns, S)).1)
          rw [ed]
        · show MY A2 (doY Lw e (n, B, Pr, Co, R, ns, S)).2.1
          rw [ed]; exact hY2
      · refine au_tableIn (off := 62) (tgt := 86) dX2_isPlayed_24 (by omega) (by omega) (by rw [e24]; rfl) (by decide) ?_
        have e2 := t2 (by omega)
        rw [e2]
        refine au_aload_n dX2_isPlayed_86 rfl ?_
        refine au_iload_n dX2_isPlayed_87 rfl ?_
        refine au_iload_n dX2_isPlayed_88 rfl ?_
        refine au_aload_n dX2_isPlayed_89 rfl ?_
        refine au_getf (C := RX2) (T := TX2) (N := 35) in_X2 (by decide) rfl 2 (by decide) rfl rfl q1361 rfl dX2_isPlayed_90 (v := au_r MT) (congrArg au_q (fx_MO_2 hF)) ?_
        refine au_iload_n dX2_isPlayed_93 rfl ?_
        refine au_iconst dX2_isPlayed_94 rfl rfl ?_
        refine au_iadd dX2_isPlayed_95 (by omega) (by omega) ?_
        refine au_iald dX2_isPlayed_96 rfl (by omega) (by show _ < ((2820 : Nat) : Int); omega) (v := au_i (e.2.2.2.1)) (congrArg au_i (show rowS mi MA A MT (x + 3) = _ from (rowS_ne _ _ _ (show MT ≠ MA by decide)).trans (t3 (by omega)))) ?_
        refine au_callV (n := 3) (kX2_wrong G e.2.1 e.2.2.1 e.2.2.2.1 n B Pr Co R ns S A mi si hi sl r nx hF hW hY hK) (lw_V q1804 q1655 q1656 q134 q1657) rfl (by decide +kernel) (by decide) (T := TX2) (N := 35) rfl rfl rfl rfl (Nat.le_of_ble_eq_true rfl) (Nat.le_of_ble_eq_true rfl) (Nat.le_of_ble_eq_true rfl) (Nat.le_of_ble_eq_true rfl) (Nat.le_of_ble_eq_true rfl) dX2_isPlayed_97 (fun rv_ M_ hp_ => ?_)
        obtain ⟨rfl, A2, s2, l2, rfl, hY2, hf2⟩ := hp_
        show au_Go G _ _ 100 [some (au_r MO), some (au_i x), some (au_i e.2.1), some (au_i e.2.2.1)] [au_i ((wrY (n, B, Pr, Co, R, ns, S) e.2.1 e.2.2.1 e.2.2.2.1).1)] ((rowS mi MA A2), s2, hi, l2, r, nx) 0 0
        refine au_if_lt (tgt := 107) dX2_isPlayed_100 (by decide) (fun c100 => ?_) (fun c100 => ?_)
        · refine au_iconst dX2_isPlayed_107 rfl rfl ?_
          refine au_zret dX2_isPlayed_108 rfl (Or.inl rfl) rfl (Nat.le_of_ble_eq_true rfl) (Nat.le_of_ble_eq_true rfl) ?_
          have ed : doY Lw e (n, B, Pr, Co, R, ns, S) = _ := doY_205 (by omega)
          refine ⟨?_, A2, s2, l2, rfl, ?_, hf2⟩
          · show _ = some (au_i (doY Lw e (n, B, Pr, Co, R, ns, S)).1)
            rw [ed]
            refine congrArg (fun q => some (au_i q)) (Eq.trans ?_ (wrY_ge _ hK _ _ _).symm)
            first
            | exact (if_pos (by omega)).symm
            | exact (if_neg (by omega)).symm
          · show MY A2 (doY Lw e (n, B, Pr, Co, R, ns, S)).2.1
            rw [ed]; exact hY2
        · refine au_iconst dX2_isPlayed_103 rfl rfl ?_
          refine au_goto (tgt := 108) dX2_isPlayed_104 (by decide) ?_
          refine au_zret dX2_isPlayed_108 rfl (Or.inr rfl) rfl (Nat.le_of_ble_eq_true rfl) (Nat.le_of_ble_eq_true rfl) ?_
          have ed : doY Lw e (n, B, Pr, Co, R, ns, S) = _ := doY_205 (by omega)
          refine ⟨?_, A2, s2, l2, rfl, ?_, hf2⟩
          · show _ = some (au_i (doY Lw e (n, B, Pr, Co, R, ns, S)).1)
            rw [ed]
            refine congrArg (fun q => some (au_i q)) (Eq.trans ?_ (wrY_ge _ hK _ _ _).symm)
            first
            | exact (if_pos (by omega)).symm
            | exact (if_neg (by omega)).symm
          · show MY A2 (doY Lw e (n, B, Pr, Co, R, ns, S)).2.1
            rw [ed]; exact hY2
      · refine au_tableIn (off := 85) (tgt := 109) dX2_isPlayed_24 (by omega) (by omega) (by rw [e24]; rfl) (by decide) ?_
        have e2 := t2 (by omega)
        rw [e2]
        refine au_aload_n dX2_isPlayed_109 rfl ?_
        refine au_iload_n dX2_isPlayed_110 rfl ?_
        refine au_iload_n dX2_isPlayed_111 rfl ?_
        refine au_callV (n := 2) (kX2_away G e.2.1 e.2.2.1 n B Pr Co R ns S A mi si hi sl r nx hF hW hY hK) (lw_V q1805 q1679 q1680 q134 q1681) rfl (by decide +kernel) (by decide) (T := TX2) (N := 35) rfl rfl rfl rfl (Nat.le_of_ble_eq_true rfl) (Nat.le_of_ble_eq_true rfl) (Nat.le_of_ble_eq_true rfl) (Nat.le_of_ble_eq_true rfl) (Nat.le_of_ble_eq_true rfl) dX2_isPlayed_112 (fun rv_ M_ hp_ => ?_)
        obtain ⟨rfl, A2, s2, l2, rfl, hY2, hf2⟩ := hp_
        show au_Go G _ _ 115 [some (au_r MO), some (au_i x), some (au_i e.2.1), some (au_i e.2.2.1)] [au_i ((awY (n, B, Pr, Co, R, ns, S) e.2.1 e.2.2.1).1)] ((rowS mi MA A2), s2, hi, l2, r, nx) 0 0
        refine au_zret dX2_isPlayed_115 rfl (by first | exact coY_01 | exact awY_01 | exact sdY_01 | exact paY_01) rfl (Nat.le_of_ble_eq_true rfl) (Nat.le_of_ble_eq_true rfl) ?_
        have ed : doY Lw e (n, B, Pr, Co, R, ns, S) = _ := doY_206 (by omega)
        refine ⟨?_, A2, s2, l2, rfl, ?_, hf2⟩
        · show _ = some (au_i (doY Lw e (n, B, Pr, Co, R, ns, S)).1)
          rw [ed]
        · show MY A2 (doY Lw e (n, B, Pr, Co, R, ns, S)).2.1
          rw [ed]; exact hY2
      · refine au_tableIn (off := 92) (tgt := 116) dX2_isPlayed_24 (by omega) (by omega) (by rw [e24]; rfl) (by decide) ?_
        have e2 := t2 (by omega)
        rw [e2]
        refine au_aload_n dX2_isPlayed_116 rfl ?_
        refine au_iload_n dX2_isPlayed_117 rfl ?_
        refine au_iload_n dX2_isPlayed_118 rfl ?_
        refine au_callV (n := 2) (kX2_sideways G e.2.1 e.2.2.1 n B Pr Co R ns S A mi si hi sl r nx hF hW hY hK) (lw_V q1806 q1683 q1684 q134 q1685) rfl (by decide +kernel) (by decide) (T := TX2) (N := 35) rfl rfl rfl rfl (Nat.le_of_ble_eq_true rfl) (Nat.le_of_ble_eq_true rfl) (Nat.le_of_ble_eq_true rfl) (Nat.le_of_ble_eq_true rfl) (Nat.le_of_ble_eq_true rfl) dX2_isPlayed_119 (fun rv_ M_ hp_ => ?_)
        obtain ⟨rfl, A2, s2, l2, rfl, hY2, hf2⟩ := hp_
        show au_Go G _ _ 122 [some (au_r MO), some (au_i x), some (au_i e.2.1), some (au_i e.2.2.1)] [au_i ((sdY (n, B, Pr, Co, R, ns, S) e.2.1 e.2.2.1).1)] ((rowS mi MA A2), s2, hi, l2, r, nx) 0 0
        refine au_zret dX2_isPlayed_122 rfl (by first | exact coY_01 | exact awY_01 | exact sdY_01 | exact paY_01) rfl (Nat.le_of_ble_eq_true rfl) (Nat.le_of_ble_eq_true rfl) ?_
        have ed : doY Lw e (n, B, Pr, Co, R, ns, S) = _ := doY_207 (by omega)
        refine ⟨?_, A2, s2, l2, rfl, ?_, hf2⟩
        · show _ = some (au_i (doY Lw e (n, B, Pr, Co, R, ns, S)).1)
          rw [ed]
        · show MY A2 (doY Lw e (n, B, Pr, Co, R, ns, S)).2.1
          rw [ed]; exact hY2
      · refine au_tableIn (off := 99) (tgt := 123) dX2_isPlayed_24 (by omega) (by omega) (by rw [e24]; rfl) (by decide) ?_
        have hd8 : 0 ≤ e.2.1 ∧ e.2.1 ≤ 60 := d8 (by omega)
        refine au_aload_n dX2_isPlayed_123 rfl ?_
        refine au_iload_n dX2_isPlayed_124 rfl ?_
        refine au_callV (n := 1) (kX2_arePassed G Lw e.2.1 n B Pr Co R ns S A mi si hi sl r nx hF hW hY hK hE hd8) (lw_V q1702 q1704 qs94 q134 q1705) rfl (by decide +kernel) (by decide) (T := TX2) (N := 35) rfl rfl rfl rfl (Nat.le_of_ble_eq_true rfl) (Nat.le_of_ble_eq_true rfl) (Nat.le_of_ble_eq_true rfl) (Nat.le_of_ble_eq_true rfl) (Nat.le_of_ble_eq_true rfl) dX2_isPlayed_125 (fun rv_ M_ hp_ => ?_)
        obtain ⟨rfl, A2, s2, l2, rfl, hY2, hf2, hd2⟩ := hp_
        show au_Go G _ _ 128 [some (au_r MO), some (au_i x), some (au_i e.2.1), some (au_i (mi MT (x + 2)))] [au_i ((paY Lw (e.2.1).toNat (n, B, Pr, Co, R, ns, S)).1)] ((rowS mi MA A2), s2, hi, l2, r, nx) 0 0
        refine au_zret dX2_isPlayed_128 rfl (by first | exact coY_01 | exact awY_01 | exact sdY_01 | exact paY_01) rfl (Nat.le_of_ble_eq_true rfl) (Nat.le_of_ble_eq_true rfl) ?_
        have ed : doY Lw e (n, B, Pr, Co, R, ns, S) = _ := doY_208 (by omega)
        refine ⟨?_, A2, s2, l2, rfl, ?_, hf2⟩
        · show _ = some (au_i (doY Lw e (n, B, Pr, Co, R, ns, S)).1)
          rw [ed]
        · show MY A2 (doY Lw e (n, B, Pr, Co, R, ns, S)).2.1
          rw [ed]; exact hY2
theorem kX2_played (G : au_G) (Lw : au_Lw) (t tn : Int) (cl : List (Option au_Do)) (n : Int) (B Pr Co R : Int → Int) (ns : Int) (S : Nat → Int → Int) (A : Int → Int) (mi si hi sl : au_A → Int → Int) (r : au_A → Int → Option au_A) (nx : Nat) (hF : Fix r) (hW : mi MO 23 = 1) (hY : MY A (n, B, Pr, Co, R, ns, S)) (hK : YOK (n, B, Pr, Co, R, ns, S)) (hE : EnA (mi MT) A n B Pr Lw) (hTn : A 1 = tn) (htn : 0 ≤ tn ∧ tn ≤ 4) (hT : 0 ≤ t → t < tn → CsAt (mi MT) t cl) : au_Ctr G yX2_played cX2_played 3 (some .int) 9 0 0 [au_r MO, au_i t] (rowS mi MA A, si, hi, sl, r, nx) (PoM hi r nx mi A (some (au_i (if 0 ≤ t ∧ t < tn then (plC Lw 0 cl (n, B, Pr, Co, R, ns, S)).1 else -2))) (if 0 ≤ t ∧ t < tn then (plC Lw 0 cl (n, B, Pr, Co, R, ns, S)).2 else (n, B, Pr, Co, R, ns, S))) := by
  refine au_of (by decide) (Nat.le_of_ble_eq_true rfl) ?_
  show au_Go G _ _ 0 [some (au_r MO), some (au_i t), none] [] (rowS mi MA A, si, hi, sl, r, nx) 0 0
  refine au_iload_n dX2_played_0 rfl ?_
  refine au_iconst dX2_played_1 rfl rfl ?_
  refine au_aload_n dX2_played_2 rfl ?_
  refine au_getf (C := RX2) (T := TX2) (N := 35) in_X2 (by decide) rfl 0 (by decide) rfl rfl q1359 rfl dX2_played_3 (v := au_r MA) (congrArg au_q (fx_MO_0 hF)) ?_
  refine au_iconst dX2_played_6 rfl rfl ?_
  refine au_iald dX2_played_7 rfl (by omega) (by show _ < ((4544 : Nat) : Int); omega) (v := au_i (tn)) (congrArg au_i (((au_gi_m (au_reg_MA _)).trans (show rowS mi MA A MA 1 = A 1 from (rowS_self _ _ _ _).trans (rfl))).trans (hTn))) ?_
  refine au_iconst dX2_played_8 rfl rfl ?_
  refine au_isub dX2_played_9 (by omega) (by omega) ?_
  refine au_callSp (n := 3) (kX2_isIn G t 0 (tn - 1) ((rowS mi MA A), si, hi, sl, r, nx)) (lw_S q1475 q1476 q134 q1477) (by decide +kernel) rfl rfl rfl (Nat.le_of_ble_eq_true rfl) (Nat.le_of_ble_eq_true rfl) (Nat.le_of_ble_eq_true rfl) (Nat.le_of_ble_eq_true rfl) (Nat.le_of_ble_eq_true rfl) dX2_played_10 ?_
  refine au_if_ne (tgt := 19) dX2_played_13 (by decide) (fun c13 => ?_) (fun c13 => ?_)
  · have c13 := au_b1 c13
    refine au_iconst dX2_played_19 rfl rfl ?_
    refine au_istore_n dX2_played_20 (show 2 < 3 by decide) ?_
    show au_Go G _ _ 21 [some (au_r MO), some (au_i t), some (au_i 0)] [] ((rowS mi MA A), si, hi, sl, r, nx) 0 0
    have ht : 0 ≤ t ∧ t < tn := by omega
    obtain ⟨hcn, hc24, hct⟩ := hT ht.1 ht.2
    have hl : ∀ (f : Nat) (k : Nat) (nk : Int) (Bk Pk Ck Rk : Int → Int) (mk : Int) (Sk : Nat → Int → Int) (Ak : Int → Int) (sk_ lk : au_A → Int → Int), k ≤ cl.length → YOK (nk, Bk, Pk, Ck, Rk, mk, Sk) → MY Ak (nk, Bk, Pk, Ck, Rk, mk, Sk) → FrM A Ak → EnA (mi MT) Ak nk Bk Pk Lw → plC Lw k (cl.drop k) (nk, Bk, Pk, Ck, Rk, mk, Sk) = plC Lw 0 cl (n, B, Pr, Co, R, ns, S) → cl.length - k < f → au_Go G (yX2_played.cls, cX2_played, 3, (some .int), au_rm 9 0 0, yX2_played.name) (au_QM G (au_rm 9 0 0) (PoM hi r nx mi A (some (au_i (if 0 ≤ t ∧ t < tn then (plC Lw 0 cl (n, B, Pr, Co, R, ns, S)).1 else -2))) (if 0 ≤ t ∧ t < tn then (plC Lw 0 cl (n, B, Pr, Co, R, ns, S)).2 else (n, B, Pr, Co, R, ns, S)))) 21 [some (au_r MO), some (au_i t), some (au_i (k : Int))] [] (rowS mi MA Ak, sk_, hi, lk, r, nx) 0 0 := by
      intro f
      induction f with
      | zero => intro k nk Bk Pk Ck Rk mk Sk Ak sk_ lk h1 hKk hYk hFk hEk hv hf; exfalso; omega
      | succ f ih =>
        intro k nk Bk Pk Ck Rk mk Sk Ak sk_ lk h1 hKk hYk hFk hEk hv hf
        refine au_iload_n dX2_played_21 rfl ?_
        refine au_aload_n dX2_played_22 rfl ?_
        refine au_getf (C := RX2) (T := TX2) (N := 35) in_X2 (by decide) rfl 2 (by decide) rfl rfl q1361 rfl dX2_played_23 (v := au_r MT) (congrArg au_q (fx_MO_2 hF)) ?_
        refine au_sipush dX2_played_26 rfl rfl ?_
        refine au_iload_n dX2_played_29 rfl ?_
        refine au_imul dX2_played_30 (by omega) (by omega) ?_
        refine au_iald dX2_played_31 rfl (by omega) (by show _ < ((2820 : Nat) : Int); omega) (v := au_i ((cl.length : Int))) (congrArg au_i (show rowS mi MA Ak MT (705 * t) = _ from (rowS_ne _ _ _ (show MT ≠ MA by decide)).trans hcn)) ?_
        refine au_icmp_ge (tgt := 61) dX2_played_32 (by decide) (fun c32 => ?_) (fun c32 => ?_)
        · refine au_iconst dX2_played_61 rfl rfl ?_
          refine au_iret dX2_played_62 rfl rfl (Nat.le_of_ble_eq_true rfl) (Nat.le_of_ble_eq_true rfl) ?_
          rw [List.drop_eq_nil_of_le (by omega)] at hv
          have hv : ((-1 : Int), (nk, Bk, Pk, Ck, Rk, mk, Sk)) = _ := hv
          refine ⟨?_, Ak, sk_, lk, rfl, ?_, hFk⟩
          · rw [if_pos ht, ← hv]
          · rw [if_pos ht, ← hv]; exact hYk
        · have hk : k < cl.length := by omega
          have hcl := hct k cl[k] (List.getElem?_eq_getElem hk)
          rw [List.drop_eq_getElem_cons hk] at hv
          refine au_aload_n dX2_played_35 rfl ?_
          refine au_sipush dX2_played_36 rfl rfl ?_
          refine au_iload_n dX2_played_39 rfl ?_
          refine au_imul dX2_played_40 (by omega) (by omega) ?_
          refine au_iconst dX2_played_41 rfl rfl ?_
          refine au_iadd dX2_played_42 (by omega) (by omega) ?_
          refine au_iconst dX2_played_43 rfl rfl ?_
          refine au_iload_n dX2_played_44 rfl ?_
          refine au_imul dX2_played_45 (by omega) (by omega) ?_
          refine au_iadd dX2_played_46 (by omega) (by omega) ?_
          refine au_callV (n := 1) (kX2_isPlayed G Lw (705 * t + 1 + 4 * (k : Int)) cl[k] nk Bk Pk Ck Rk mk Sk Ak mi sk_ hi lk r nx hF hW hYk hKk hEk hcl (by omega) (by omega)) (lw_V q1798 q1800 qs111 q134 q1801) rfl (by decide +kernel) (by decide) (T := TX2) (N := 35) rfl rfl rfl rfl (Nat.le_of_ble_eq_true rfl) (Nat.le_of_ble_eq_true rfl) (Nat.le_of_ble_eq_true rfl) (Nat.le_of_ble_eq_true rfl) (Nat.le_of_ble_eq_true rfl) dX2_played_47 (fun rv_ M_ hp_ => ?_)
          obtain ⟨rfl, A2, s2, l2, rfl, hY2, hf2⟩ := hp_
          show au_Go G _ _ 50 [some (au_r MO), some (au_i t), some (au_i (k : Int))] [au_i ((clY Lw cl[k] (nk, Bk, Pk, Ck, Rk, mk, Sk)).1)] ((rowS mi MA A2), s2, hi, l2, r, nx) 0 0
          refine au_if_ne (tgt := 55) dX2_played_50 (by decide) (fun c50 => ?_) (fun c50 => ?_)
          · have e1 : plC Lw k (cl[k] :: cl.drop (k + 1)) (nk, Bk, Pk, Ck, Rk, mk, Sk) = _ := if_neg c50
            rw [e1] at hv
            refine au_iinc dX2_played_55 rfl (show 2 < 3 by decide) (by omega) (by omega) (by decide) (by decide) ?_
            show au_Go G _ _ 58 [some (au_r MO), some (au_i t), some (au_i ((k : Int) + 1))] [] ((rowS mi MA A2), s2, hi, l2, r, nx) 0 0
            refine au_goto (tgt := 21) dX2_played_58 (by decide) ?_
            have hK2 := clY_ok (Lw := Lw) hKk cl[k]
            exact ih (k + 1) _ _ _ _ _ _ _ _ _ _ (by omega) hK2 hY2 (hFk.tr hf2) (hEk.to hf2 hY2 hK2) hv (by omega)
          · have e1 : plC Lw k (cl[k] :: cl.drop (k + 1)) (nk, Bk, Pk, Ck, Rk, mk, Sk) = _ := if_pos c50
            rw [e1] at hv
            refine au_iload_n dX2_played_53 rfl ?_
            refine au_iret dX2_played_54 rfl rfl (Nat.le_of_ble_eq_true rfl) (Nat.le_of_ble_eq_true rfl) ?_
            refine ⟨?_, A2, s2, l2, rfl, ?_, hFk.tr hf2⟩
            · rw [if_pos ht, ← hv]
            · rw [if_pos ht, ← hv]; exact hY2
    exact hl (cl.length + 1) 0 n B Pr Co R ns S A si sl (by omega) hK hY (FrM.rf A) hE (by rw [List.drop_zero]) (by omega)
  · have c13 := au_b0 c13
    refine au_bipush dX2_played_16 rfl rfl ?_
    refine au_iret dX2_played_18 rfl rfl (Nat.le_of_ble_eq_true rfl) (Nat.le_of_ble_eq_true rfl) ?_
    have hn_ : ¬ (0 ≤ t ∧ t < tn) := by omega
    refine ⟨?_, A, si, sl, rfl, ?_, FrM.rf A⟩
    · rw [if_neg hn_]
    · rw [if_neg hn_]; exact hY
