/-! STEPS KEPT; wrongs, ways off, sideways of ApologyUp (printed by tools/m51.py) -/
set_option maxRecDepth 100000
set_option maxHeartbeats 4000000

theorem ne1 {a b : au_A} (h : a.1 ≠ b.1) : a ≠ b := fun e => h (congrArg (fun z : au_A => z.1) e)
theorem au_up_neF (m : au_A → Int → Int) {a c : au_A} (j v : Int) (h : c ≠ a) : au_up m a j v c = m c := by
  funext k
  exact au_up_ne _ _ (fun q => h q.1)
/-- the steps kept: how many, the rows -/
def keN (ns : Int) : Int := if ns = 30 then 30 else ns + 1
def keS (ns : Int) (S : Nat → Int → Int) (R : Int → Int) : Nat → Int → Int :=
  if ns = 30 then fun k => if k < 29 then mv1 (S (k + 1)) (S k) 0 0 204 else mv1 R (S k) 0 0 204 else fun k => if (k : Int) = ns then mv1 R (S k) 0 0 204 else S k
def StX (mi : au_A → Int → Int) (ns : Int) (S : Nat → Int → Int) : Prop := mi XNn 3 = ns ∧ ∀ k : Nat, k < 30 → mi (1022 + k, 204, 40) = S k
/-- what keeping a step leaves as it was -/
def FrK (mi mi' : au_A → Int → Int) : Prop := ∀ (a : au_A) (j : Int), ¬ (a = XNn ∧ j = 3) → ¬ (1022 ≤ a.1 ∧ a.1 < 1052) → mi' a j = mi a j
theorem FrK.rf (mi : au_A → Int → Int) : FrK mi mi := fun _ _ _ _ => rfl
theorem FrK.F {mi mi' : au_A → Int → Int} (h : FrK mi mi') {a : au_A} (h1 : a ≠ XNn) (h2 : ¬ (1022 ≤ a.1 ∧ a.1 < 1052)) : mi' a = mi a := by
  funext j
  exact h a j (fun z => h1 z.1) h2
/-- three of seven -/
def sevF (f t z d : Int) : Int → Int := fun j => if j = 6 then 0 else if j = 5 then d else if j = 4 then 0 else if j = 3 then z else if j = 2 then f else if j = 1 then t else if j = 0 then f else 0
/-- a wrong: one apology more -/
def wgF (R : Int → Int) (f t z : Int) : Int → Int := up1 (mv1 (sevF f t z (R 0)) R 0 (3 + 7 * R 2) 7) 2 (R 2 + 1)
def awF (R : Int → Int) (o d : Int) : Int → Int := up1 R (73 + o) (if d = 0 then 0 else R 0 + d)
def sdF (R : Int → Int) (a t : Int) : Int → Int := up1 (up1 R (3 + 7 * a + 2) t) (3 + 7 * a + 6) (R 0 + 2)
/-- who may be wronged -/
def cwP (n : Int) (B R : Int → Int) (f t : Int) : Prop := (0 ≤ f ∧ f < n) ∧ (0 ≤ t ∧ t < n) ∧ below B f t ∧ R 2 < 10
def sdP (n : Int) (B Co R : Int → Int) (a t : Int) : Prop := (0 ≤ a ∧ a < R 2) ∧ (0 ≤ t ∧ t < n) ∧ R (3 + 7 * a + 4) = 0 ∧ R (3 + 7 * a + 6) ≤ R 0 ∧ hs (Co (R (3 + 7 * a + 2))) t ∧ below B t (R (3 + 7 * a + 1))

theorem kX1_keeps (G : au_G) (ns : Int) (S : Nat → Int → Int) (mi si hi sl : au_A → Int → Int) (r : au_A → Int → Option au_A) (nx : Nat) (hF : Fix r) (hS : StX mi ns S) (hns : 0 ≤ ns ∧ ns ≤ 30) : au_Ctr G yX1_keeps cX1_keeps 2 none 2 0 0 [au_r XN] (mi, si, hi, sl, r, nx) (fun rv M' => rv = none ∧ ∃ mi' : au_A → Int → Int, M' = (mi', si, hi, sl, r, nx) ∧ StX mi' (keN ns) (keS ns S (mi XNrow)) ∧ FrK mi mi') := by
  refine au_of (by decide) (Nat.le_of_ble_eq_true rfl) ?_
  obtain ⟨m, rfl⟩ : ∃ m : Nat, ns = (m : Int) := ⟨ns.toNat, by omega⟩
  have h52 : ∀ (mk : au_A → Int → Int) (m1 : Nat) (S1 : Nat → Int → Int) (x1 : Option au_V), m1 < 30 → StX mk (m1 : Int) S1 → mk XNrow = mi XNrow → FrK mi mk → keN (m : Int) = (m1 : Int) + 1 → (∀ k, k < 30 → keS (m : Int) S (mi XNrow) k = if k = m1 then mv1 (mi XNrow) (S1 k) 0 0 204 else S1 k) → au_Go G (yX1_keeps.cls, cX1_keeps, 2, none, au_rm 2 0 0, yX1_keeps.name) (au_QM G (au_rm 2 0 0) (fun rv M' => rv = none ∧ ∃ mi' : au_A → Int → Int, M' = (mi', si, hi, sl, r, nx) ∧ StX mi' (keN (m : Int)) (keS (m : Int) S (mi XNrow)) ∧ FrK mi mi')) 52 [some (au_r XN), x1] [] (mk, si, hi, sl, r, nx) 0 0 := by
    intro mk m1 S1 x1 hm hS1 hrw hfr hkn hks
    refine au_aload_n dX1_keeps_52 rfl ?_
    refine au_getf (C := RX1) (T := TX1) (N := 11) in_X1 (by decide) rfl 1 (by decide) rfl rfl q188 rfl dX1_keeps_53 (v := au_r XNrow) (congrArg au_q (fx_XN_1 hF)) ?_
    refine au_aload_n dX1_keeps_56 rfl ?_
    refine au_getf (C := RX1) (T := TX1) (N := 11) in_X1 (by decide) rfl 9 (by decide) rfl rfl q204 rfl dX1_keeps_57 (v := au_r XNstep) (congrArg au_q (fx_XN_9 hF)) ?_
    refine au_aload_n dX1_keeps_60 rfl ?_
    refine au_getf (C := RX1) (T := TX1) (N := 11) in_X1 (by decide) rfl 0 (by decide) rfl rfl q186 rfl dX1_keeps_61 (v := au_r XNn) (congrArg au_q (fx_XN_0 hF)) ?_
    refine au_iconst dX1_keeps_64 rfl rfl ?_
    refine au_iald dX1_keeps_65 rfl (by omega) (by show _ < ((6 : Nat) : Int); omega) (v := au_i ((m1 : Int))) (congrArg au_i hS1.1) ?_
    refine au_aald dX1_keeps_66 (by decide) (by decide) (by omega) (by show _ < ((30 : Nat) : Int); omega) (v := au_r (1022 + m1, 204, 40)) (congrArg au_q ((hF.2.1 m1 hm).1)) ?_
    refine au_callS (n := 2) (kX1_copy G 1003 (1022 + m1) 204 204 mk si hi sl r nx (fun j => au_reg_lo (by omega) (by omega) j) (fun j => au_reg_lo (by omega) (by omega) j) (by omega) (by omega) (by omega)) (lw_S q236 q237 q131 q238) (by decide +kernel) rfl rfl rfl (Nat.le_of_ble_eq_true rfl) (Nat.le_of_ble_eq_true rfl) (Nat.le_of_ble_eq_true rfl) (Nat.le_of_ble_eq_true rfl) (Nat.le_of_ble_eq_true rfl) dX1_keeps_67 (fun rv_ M_ hp_ => ?_)
    obtain ⟨rfl, rfl⟩ := hp_
    show au_Go G _ _ 70 [some (au_r XN), x1] [] ((rowS mk (1022 + m1, 204, 40) (mv1 (mk XNrow) (mk (1022 + m1, 204, 40)) 0 0 ((204 : Nat) : Int))), si, hi, sl, r, nx) 0 0
    refine au_aload_n dX1_keeps_70 rfl ?_
    refine au_getf (C := RX1) (T := TX1) (N := 11) in_X1 (by decide) rfl 0 (by decide) rfl rfl q186 rfl dX1_keeps_71 (v := au_r XNn) (congrArg au_q (fx_XN_0 hF)) ?_
    refine au_iconst dX1_keeps_74 rfl rfl ?_
    refine au_dup2 dX1_keeps_75 rfl rfl ?_
    refine au_iald dX1_keeps_76 rfl (by omega) (by show _ < ((6 : Nat) : Int); omega) (v := au_i ((m1 : Int))) (congrArg au_i ((rowS_ne _ _ _ (ne1 (by show 1002 ≠ 1022 + m1; omega))).trans hS1.1)) ?_
    refine au_iconst dX1_keeps_77 rfl rfl ?_
    refine au_iadd dX1_keeps_78 (by omega) (by omega) ?_
    refine au_iast dX1_keeps_79 rfl (by decide) (by omega) (by show _ < ((6 : Nat) : Int); omega) (M' := ((au_up (rowS mk (1022 + m1, 204, 40) (mv1 (mk XNrow) (mk (1022 + m1, 204, 40)) 0 0 ((204 : Nat) : Int))) XNn 3 ((m1 : Int) + 1)), si, hi, sl, r, nx)) (by rfl) ?_
    refine au_vret dX1_keeps_80 rfl rfl (Nat.le_of_ble_eq_true rfl) (Nat.le_of_ble_eq_true rfl) ?_
    refine ⟨rfl, _, rfl, ⟨?_, fun k hk => ?_⟩, fun a j h1 h2 => ?_⟩
    · rw [hkn]; exact au_up_self _ _ _ _
    · rw [au_up_neF _ _ _ (ne1 (by show 1022 + k ≠ 1002; omega)), hks k hk]
      by_cases e : k = m1
      · rw [if_pos e, e, rowS_selfF, hS1.2 m1 hm]
        rw [show mk (1003, 204, 40) = mi XNrow from hrw]
        rfl
      · rw [if_neg e, rowS_neF _ _ (ne1 (by show 1022 + k ≠ 1022 + m1; omega)), hS1.2 k hk]
    · rw [au_up_ne _ _ h1, rowS_ne _ _ _ (fun z => h2 (by rw [z]; show 1022 ≤ 1022 + m1 ∧ 1022 + m1 < 1052; omega))]
      exact hfr a j h1 h2
  show au_Go G _ _ 0 [some (au_r XN), none] [] (mi, si, hi, sl, r, nx) 0 0
  refine au_aload_n dX1_keeps_0 rfl ?_
  refine au_getf (C := RX1) (T := TX1) (N := 11) in_X1 (by decide) rfl 0 (by decide) rfl rfl q186 rfl dX1_keeps_1 (v := au_r XNn) (congrArg au_q (fx_XN_0 hF)) ?_
  refine au_iconst dX1_keeps_4 rfl rfl ?_
  refine au_iald dX1_keeps_5 rfl (by omega) (by show _ < ((6 : Nat) : Int); omega) (v := au_i (mi XNn 3)) (by rfl) ?_
  refine au_bipush dX1_keeps_6 rfl rfl ?_
  refine au_icmp_ne (tgt := 52) dX1_keeps_8 (by decide) (fun c8 => ?_) (fun c8 => ?_)
  · refine h52 mi m S _ (by have := hS.1; omega) hS rfl (FrK.rf mi) ?_ (fun k hk => ?_)
    · unfold keN; rw [if_neg (fun z => c8 (hS.1.trans z))]
    · unfold keS
      rw [if_neg (fun z => c8 (hS.1.trans z))]
      by_cases e : k = m
      · rw [if_pos e]
        show (if (k : Int) = (m : Int) then _ else _) = _
        rw [if_pos (by omega)]
      · rw [if_neg e]
        show (if (k : Int) = (m : Int) then _ else _) = _
        rw [if_neg (by omega)]
  · refine au_iconst dX1_keeps_11 rfl rfl ?_
    refine au_istore_n dX1_keeps_12 (show 1 < 2 by decide) ?_
    show au_Go G _ _ 13 [some (au_r XN), some (au_i 1)] [] (mi, si, hi, sl, r, nx) 0 0
    have hl : ∀ (f : Nat) (i : Nat) (mk : au_A → Int → Int), i ≤ 29 → (∀ a : au_A, ¬ (1022 ≤ a.1 ∧ a.1 < 1052) → mk a = mi a) → (∀ k, k < 30 → mk (1022 + k, 204, 40) = if k < i then mv1 (S (k + 1)) (S k) 0 0 204 else S k) → 30 - i < f → au_Go G (yX1_keeps.cls, cX1_keeps, 2, none, au_rm 2 0 0, yX1_keeps.name) (au_QM G (au_rm 2 0 0) (fun rv M' => rv = none ∧ ∃ mi' : au_A → Int → Int, M' = (mi', si, hi, sl, r, nx) ∧ StX mi' (keN (m : Int)) (keS (m : Int) S (mi XNrow)) ∧ FrK mi mi')) 13 [some (au_r XN), some (au_i ((i : Int) + 1))] [] (mk, si, hi, sl, r, nx) 0 0 := by
      intro f
      induction f with
      | zero => intro i mk hi_ h1 h2 hf; exfalso; omega
      | succ f ih =>
        intro i mk hi_ h1 h2 hf
        refine au_iload_n dX1_keeps_13 rfl ?_
        refine au_bipush dX1_keeps_14 rfl rfl ?_
        refine au_icmp_ge (tgt := 42) dX1_keeps_16 (by decide) (fun c16 => ?_) (fun c16 => ?_)
        · refine au_aload_n dX1_keeps_42 rfl ?_
          refine au_getf (C := RX1) (T := TX1) (N := 11) in_X1 (by decide) rfl 0 (by decide) rfl rfl q186 rfl dX1_keeps_43 (v := au_r XNn) (congrArg au_q (fx_XN_0 hF)) ?_
          refine au_iconst dX1_keeps_46 rfl rfl ?_
          refine au_dup2 dX1_keeps_47 rfl rfl ?_
          refine au_iald dX1_keeps_48 rfl (by omega) (by show _ < ((6 : Nat) : Int); omega) (v := au_i (30)) (congrArg au_i ((congrFun (h1 XNn (by decide)) 3).trans c8)) ?_
          refine au_iconst dX1_keeps_49 rfl rfl ?_
          refine au_isub dX1_keeps_50 (by omega) (by omega) ?_
          refine au_iast dX1_keeps_51 rfl (by decide) (by omega) (by show _ < ((6 : Nat) : Int); omega) (M' := ((au_up mk XNn 3 (30 - 1)), si, hi, sl, r, nx)) (by rfl) ?_
          have hi29 : i = 29 := by omega
          refine h52 _ 29 (fun k => if k < 29 then mv1 (S (k + 1)) (S k) 0 0 204 else S k) _ (by omega) ⟨(au_up_self _ _ _ _).trans (by decide), fun k hk => ?_⟩ ?_ (fun a j q1 q2 => ?_) ?_ (fun k hk => ?_)
          · rw [au_up_neF _ _ _ (ne1 (by show 1022 + k ≠ 1002; omega)), h2 k hk, hi29]
          · rw [au_up_neF _ _ _ (by decide)]; exact h1 XNrow (by decide)
          · rw [au_up_ne _ _ q1, h1 a q2]
          · unfold keN; rw [if_pos (hS.1.symm.trans c8)]; rfl
          · have ek : keS (m : Int) S (mi XNrow) k = if k < 29 then mv1 (S (k + 1)) (S k) 0 0 204 else mv1 (mi XNrow) (S k) 0 0 204 := by
              unfold keS
              rw [if_pos (hS.1.symm.trans c8)]
            rw [ek]
            show _ = if k = 29 then mv1 (mi XNrow) (if k < 29 then mv1 (S (k + 1)) (S k) 0 0 204 else S k) 0 0 204 else if k < 29 then mv1 (S (k + 1)) (S k) 0 0 204 else S k
            by_cases e : k < 29
            · rw [if_pos e, if_neg (show ¬ k = 29 by omega), if_pos e]
            · rw [if_neg e, if_pos (show k = 29 by omega), if_neg e]
        · refine au_aload_n dX1_keeps_19 rfl ?_
          refine au_getf (C := RX1) (T := TX1) (N := 11) in_X1 (by decide) rfl 9 (by decide) rfl rfl q204 rfl dX1_keeps_20 (v := au_r XNstep) (congrArg au_q (fx_XN_9 hF)) ?_
          refine au_iload_n dX1_keeps_23 rfl ?_
          refine au_aald dX1_keeps_24 (by decide) (by decide) (by omega) (by show _ < ((30 : Nat) : Int); omega) (v := au_r (1022 + (i + 1), 204, 40)) (congrArg au_q ((hF.2.1 (i + 1) (by omega)).1)) ?_
          refine au_aload_n dX1_keeps_25 rfl ?_
          refine au_getf (C := RX1) (T := TX1) (N := 11) in_X1 (by decide) rfl 9 (by decide) rfl rfl q204 rfl dX1_keeps_26 (v := au_r XNstep) (congrArg au_q (fx_XN_9 hF)) ?_
          refine au_iload_n dX1_keeps_29 rfl ?_
          refine au_iconst dX1_keeps_30 rfl rfl ?_
          refine au_isub dX1_keeps_31 (by omega) (by omega) ?_
          refine au_aald dX1_keeps_32 (by decide) (by decide) (by omega) (by show _ < ((30 : Nat) : Int); omega) (v := au_r (1022 + i, 204, 40)) (congrArg au_q ((by rw [show (i : Int) + 1 - 1 = (i : Int) by omega]; exact (hF.2.1 i (by omega)).1))) ?_
          refine au_callS (n := 2) (kX1_copy G (1022 + (i + 1)) (1022 + i) 204 204 mk si hi sl r nx (fun j => au_reg_lo (by omega) (by omega) j) (fun j => au_reg_lo (by omega) (by omega) j) (by omega) (by omega) (by omega)) (lw_S q236 q237 q131 q238) (by decide +kernel) rfl rfl rfl (Nat.le_of_ble_eq_true rfl) (Nat.le_of_ble_eq_true rfl) (Nat.le_of_ble_eq_true rfl) (Nat.le_of_ble_eq_true rfl) (Nat.le_of_ble_eq_true rfl) dX1_keeps_33 (fun rv_ M_ hp_ => ?_)
          obtain ⟨rfl, rfl⟩ := hp_
          show au_Go G _ _ 36 [some (au_r XN), some (au_i ((i : Int) + 1))] [] ((rowS mk (1022 + i, 204, 40) (mv1 (mk (1022 + (i + 1), 204, 40)) (mk (1022 + i, 204, 40)) 0 0 ((204 : Nat) : Int))), si, hi, sl, r, nx) 0 0
          refine au_iinc dX1_keeps_36 rfl (show 1 < 2 by decide) (by omega) (by omega) (by decide) (by decide) ?_
          show au_Go G _ _ 39 [some (au_r XN), some (au_i (((i : Int) + 1) + 1))] [] ((rowS mk (1022 + i, 204, 40) (mv1 (mk (1022 + (i + 1), 204, 40)) (mk (1022 + i, 204, 40)) 0 0 ((204 : Nat) : Int))), si, hi, sl, r, nx) 0 0
          refine au_goto (tgt := 13) dX1_keeps_39 (by decide) ?_
          refine ih (i + 1) _ (by omega) (fun a ha => ?_) (fun k hk => ?_) (by omega)
          · rw [rowS_neF _ _ (fun z => ha (by rw [z]; show 1022 ≤ 1022 + i ∧ 1022 + i < 1052; omega))]
            exact h1 a ha
          · by_cases e : k = i
            · rw [e, rowS_selfF, h2 (i + 1) (by omega), h2 i (by omega), if_neg (by omega), if_neg (by omega), if_pos (by omega)]
              rfl
            · rw [rowS_neF _ _ (ne1 (by show 1022 + k ≠ 1022 + i; omega)), h2 k hk]
              by_cases e2 : k < i
              · rw [if_pos e2, if_pos (by omega)]
              · rw [if_neg e2, if_neg (by omega)]
    exact hl 31 0 mi (by omega) (fun _ _ => rfl) (fun k hk => by rw [if_neg (by omega)]; exact hS.2 k hk) (by omega)
