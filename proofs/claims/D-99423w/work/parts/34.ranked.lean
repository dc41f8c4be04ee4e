/-! RANKED, of both systems (printed by tools/m34.py) -/
set_option maxRecDepth 100000
set_option maxHeartbeats 4000000

/-- of apologies: where they are, how big -/
def ApI (Ap : Int → Int → Int) (n sn : Int) : Prop := ∀ k, 0 ≤ k → k < sn → (0 ≤ Ap k 2 ∧ Ap k 2 < n) ∧ 0 ≤ Ap k 3 ∧ Ap k 3 ≤ 9999
def rkI (Ap : Int → Int → Int) (o : Int) : Nat → Int
  | 0 => 0
  | k + 1 => rkI Ap o k + (if Ap (k : Int) 4 ≠ 2 ∧ Ap (k : Int) 2 = o then Ap (k : Int) 3 else 0)
def rkO (B : Int → Int) (Ap : Int → Int → Int) (rk : Int) (m : Nat) : Nat → Int
  | 0 => 0
  | j + 1 => rkO B Ap rk m j + (if rank B (j : Int) = rk then rkI Ap (j : Int) m else 0)
def rkM (B : Int → Int) (Ap : Int → Int → Int) (rk : Int) : Nat → Int
  | 0 => 0
  | k + 1 => rkM B Ap rk k + (if Ap (k : Int) 4 ≠ 2 ∧ rank B (Ap (k : Int) 2) = rk then Ap (k : Int) 3 else 0)
def rkC (B : Int → Int) (rk : Int) : Nat → Int
  | 0 => 0
  | j + 1 => rkC B rk j + (if rank B (j : Int) = rk then 1 else 0)
theorem rkC_bd (B : Int → Int) (rk : Int) : ∀ k : Nat, 0 ≤ rkC B rk k ∧ rkC B rk k ≤ k := by
  intro k
  induction k with
  | zero => simp [rkC]
  | succ k ih => simp only [rkC]; split <;> omega
theorem rkI_bd {Ap : Int → Int → Int} {n sn : Int} (h : ApI Ap n sn) (o : Int) : ∀ k : Nat, (k : Int) ≤ sn → 0 ≤ rkI Ap o k ∧ rkI Ap o k ≤ 9999 * (k : Int) := by
  intro k
  induction k with
  | zero => intro _; simp [rkI]
  | succ k ih =>
    intro hk
    have h1 := ih (by omega)
    have h2 := (h (k : Int) (by omega) (by omega)).2
    simp only [rkI]
    split <;> omega
theorem rkO_bd {B : Int → Int} {Ap : Int → Int → Int} {n sn : Int} (h : ApI Ap n sn) (rk : Int) {m : Nat} (hm : (m : Int) ≤ sn) (hm1 : m ≤ 10) : ∀ j : Nat, 0 ≤ rkO B Ap rk m j ∧ rkO B Ap rk m j ≤ 99990 * (j : Int) := by
  intro j
  induction j with
  | zero => simp [rkO]
  | succ j ih =>
    have h2 := rkI_bd h (j : Int) m hm
    simp only [rkO]
    split <;> omega
theorem rkM_bd {B : Int → Int} {Ap : Int → Int → Int} {n sn : Int} (h : ApI Ap n sn) (rk : Int) : ∀ k : Nat, (k : Int) ≤ sn → 0 ≤ rkM B Ap rk k ∧ rkM B Ap rk k ≤ 9999 * (k : Int) := by
  intro k
  induction k with
  | zero => intro _; simp [rkM]
  | succ k ih =>
    intro hk
    have h1 := ih (by omega)
    have h2 := (h (k : Int) (by omega) (by omega)).2
    simp only [rkM]
    split <;> omega
theorem rkO_step (B : Int → Int) (Ap : Int → Int → Int) (rk : Int) (m : Nat) (h0 : 0 ≤ Ap (m : Int) 2) : ∀ j : Nat, rkO B Ap rk (m + 1) j = rkO B Ap rk m j + (if Ap (m : Int) 4 ≠ 2 ∧ rank B (Ap (m : Int) 2) = rk ∧ Ap (m : Int) 2 < (j : Int) then Ap (m : Int) 3 else 0) := by
  intro j
  induction j with
  | zero => simp only [rkO]; rw [if_neg (by omega)]; rfl
  | succ j ih =>
    simp only [rkO, rkI]
    rw [ih]
    by_cases h1 : Ap (m : Int) 4 ≠ 2
    · by_cases h2 : Ap (m : Int) 2 = (j : Int)
      · rw [if_neg (show ¬ (Ap (m : Int) 4 ≠ 2 ∧ rank B (Ap (m : Int) 2) = rk ∧ Ap (m : Int) 2 < (j : Int)) by omega), if_pos (⟨h1, h2⟩ : Ap (m : Int) 4 ≠ 2 ∧ Ap (m : Int) 2 = (j : Int)), h2]
        by_cases h3 : rank B (j : Int) = rk
        · rw [if_pos h3, if_pos h3, if_pos ⟨h1, h3, by omega⟩]; omega
        · rw [if_neg h3, if_neg h3, if_neg (fun z => h3 z.2.1)]
      · have k1 : (if Ap (m : Int) 4 ≠ 2 ∧ rank B (Ap (m : Int) 2) = rk ∧ Ap (m : Int) 2 < (j : Int) then Ap (m : Int) 3 else 0) = (if Ap (m : Int) 4 ≠ 2 ∧ rank B (Ap (m : Int) 2) = rk ∧ Ap (m : Int) 2 < ((j + 1 : Nat) : Int) then Ap (m : Int) 3 else 0) := by
          by_cases h3 : Ap (m : Int) 4 ≠ 2 ∧ rank B (Ap (m : Int) 2) = rk ∧ Ap (m : Int) 2 < (j : Int)
          · rw [if_pos h3, if_pos ⟨h3.1, h3.2.1, by omega⟩]
          · rw [if_neg h3, if_neg (fun z => h3 ⟨z.1, z.2.1, by omega⟩)]
        have k2 : (if Ap (m : Int) 4 ≠ 2 ∧ Ap (m : Int) 2 = (j : Int) then Ap (m : Int) 3 else 0) = 0 := if_neg (fun z => h2 z.2)
        rw [k1, k2]
        split <;> omega
    · have k1 : (if Ap (m : Int) 4 ≠ 2 ∧ rank B (Ap (m : Int) 2) = rk ∧ Ap (m : Int) 2 < (j : Int) then Ap (m : Int) 3 else 0) = 0 := if_neg (fun z => h1 z.1)
      have k2 : (if Ap (m : Int) 4 ≠ 2 ∧ Ap (m : Int) 2 = (j : Int) then Ap (m : Int) 3 else 0) = 0 := if_neg (fun z => h1 z.1)
      have k3 : (if Ap (m : Int) 4 ≠ 2 ∧ rank B (Ap (m : Int) 2) = rk ∧ Ap (m : Int) 2 < ((j + 1 : Nat) : Int) then Ap (m : Int) 3 else 0) = 0 := if_neg (fun z => h1 z.1)
      rw [k1, k2, k3]
      split <;> omega
/-- the two orders of the sum agree -/
theorem rk_same {B : Int → Int} {Ap : Int → Int → Int} {n sn : Int} (h : ApI Ap n sn) (rk : Int) : ∀ m : Nat, (m : Int) ≤ sn → rkO B Ap rk m n.toNat = rkM B Ap rk m := by
  intro m
  induction m with
  | zero =>
    intro _
    have : ∀ j, rkO B Ap rk 0 j = 0 := by
      intro j
      induction j with
      | zero => rfl
      | succ j ih => simp only [rkO, rkI, ih]; split <;> rfl
    exact this _
  | succ m ih =>
    intro hm
    have h1 := (h (m : Int) (by omega) (by omega)).1
    rw [rkO_step B Ap rk m h1.1, ih (by omega)]
    simp only [rkM]
    by_cases h2 : Ap (m : Int) 4 ≠ 2 ∧ rank B (Ap (m : Int) 2) = rk
    · rw [if_pos h2, if_pos ⟨h2.1, h2.2, by omega⟩]
    · rw [if_neg h2, if_neg (fun z => h2 ⟨z.1, z.2.1⟩)]

theorem kX0_ranked (G : au_G) (rk q : Int) (mi si hi sl : au_A → Int → Int) (r : au_A → Int → Option au_A) (nx : Nat) (hF : Fix r) (n : Int) (hN : mi XNn 0 = n) (B : Int → Int) (hE : ∀ o, 0 ≤ o → o < 10 → mi XNboss o = B o) (hB : Bs B n) (sn : Int) (hSn : mi XNrow 2 = sn) (hs : 0 ≤ sn ∧ sn ≤ 10) (Ap : Int → Int → Int) (hAp : ∀ k w, 0 ≤ k → k < 10 → 0 ≤ w → w ≤ 6 → mi XNrow (3 + 7 * k + w) = Ap k w) (hAI : ApI Ap n sn) : au_Ctr G yX0_ranked cX0_ranked 7 (some .int) 1 0 0 [au_r XO, au_i rk, au_i q] (mi, si, hi, sl, r, nx) (au_pure (au_i (if 0 ≤ rk ∧ rk ≤ 9 then (if q = 0 then rkC B rk n.toNat else rkO B Ap rk sn.toNat n.toNat) else -1)) (mi, si, hi, sl, r, nx)) := by
  refine au_of (by decide) (Nat.le_of_ble_eq_true rfl) ?_
  have hb0 := hB.2.1
  have hb1 := hB.1
  show au_Go G _ _ 0 [some (au_r XO), some (au_i rk), some (au_i q), none, none, none, none] [] (mi, si, hi, sl, r, nx) 0 0
  refine au_iload_n dX0_ranked_0 rfl ?_
  refine au_iconst dX0_ranked_1 rfl rfl ?_
  refine au_bipush dX0_ranked_2 rfl rfl ?_
  refine au_callSp (n := 3) (kX0_in G rk 0 9 (mi, si, hi, sl, r, nx)) (lw_S q300 q301 q130 q302) (by decide +kernel) rfl rfl rfl (Nat.le_of_ble_eq_true rfl) (Nat.le_of_ble_eq_true rfl) (Nat.le_of_ble_eq_true rfl) (Nat.le_of_ble_eq_true rfl) (Nat.le_of_ble_eq_true rfl) dX0_ranked_4 ?_
  refine au_if_ne (tgt := 12) dX0_ranked_7 (by decide) (fun c7 => ?_) (fun c7 => ?_)
  · have c7 := au_b1 c7
    refine au_iconst dX0_ranked_12 rfl rfl ?_
    refine au_istore_n dX0_ranked_13 (show 3 < 7 by decide) ?_
    show au_Go G _ _ 14 [some (au_r XO), some (au_i rk), some (au_i q), some (au_i 0), none, none, none] [] (mi, si, hi, sl, r, nx) 0 0
    refine au_iconst dX0_ranked_14 rfl rfl ?_
    refine au_istore dX0_ranked_15 (show 4 < 7 by decide) ?_
    show au_Go G _ _ 17 [some (au_r XO), some (au_i rk), some (au_i q), some (au_i 0), some (au_i 0), none, none] [] (mi, si, hi, sl, r, nx) 0 0
    refine au_iconst dX0_ranked_17 rfl rfl ?_
    refine au_istore dX0_ranked_18 (show 5 < 7 by decide) ?_
    show au_Go G _ _ 20 [some (au_r XO), some (au_i rk), some (au_i q), some (au_i 0), some (au_i 0), some (au_i 0), none] [] (mi, si, hi, sl, r, nx) 0 0
    have hk_ : ∀ (f j : Nat) (a6 : Option au_V), (j : Int) ≤ n → n - (j : Int) < (f : Int) → au_Go G (yX0_ranked.cls, cX0_ranked, 7, (some .int), au_rm 1 0 0, yX0_ranked.name) (au_QM G (au_rm 1 0 0) (au_pure (au_i (if 0 ≤ rk ∧ rk ≤ 9 then (if q = 0 then rkC B rk n.toNat else rkO B Ap rk sn.toNat n.toNat) else -1)) (mi, si, hi, sl, r, nx))) 20 [some (au_r XO), some (au_i rk), some (au_i q), some (au_i (rkC B rk j)), some (au_i (rkO B Ap rk sn.toNat j)), some (au_i ((j : Int))), a6] [] (mi, si, hi, sl, r, nx) 0 0 := by
      intro f
      induction f with
      | zero => intro j a6 hj hf; exfalso; omega
      | succ f ihj =>
        intro j a6 hj hf
        have hbc := rkC_bd B rk j
        refine au_iload dX0_ranked_20 rfl ?_
        refine au_aload_n dX0_ranked_22 rfl ?_
        refine au_getf (C := RX0) (T := TX0) (N := 15) in_X0 (by decide) rfl 0 (by decide) rfl rfl q245 rfl dX0_ranked_23 (v := au_r XN) (congrArg au_q (fx_XO_0 hF)) ?_
        refine au_getN (C := RX1) (T := TX1) (N := 11) in_X1 (by decide) rfl 0 (by decide) rfl rfl q187 rfl dX0_ranked_26 (v := au_r XNn) (congrArg au_q (fx_XN_0 hF)) ?_
        refine au_iconst dX0_ranked_29 rfl rfl ?_
        refine au_iald dX0_ranked_30 rfl (by omega) (by show _ < ((6 : Nat) : Int); omega) (v := au_i (n)) (congrArg au_i (hN)) ?_
        refine au_icmp_ge (tgt := 139) dX0_ranked_31 (by decide) (fun c31 => ?_) (fun c31 => ?_)
        · refine au_iload_n dX0_ranked_139 rfl ?_
          refine au_if_eq (tgt := 148) dX0_ranked_140 (by decide) (fun c140 => ?_) (fun c140 => ?_)
          · refine au_iload_n dX0_ranked_148 rfl ?_
            exact au_iret dX0_ranked_149 rfl rfl (Nat.le_of_ble_eq_true rfl) (Nat.le_of_ble_eq_true rfl) (by first | exact au_pe (by rw [if_pos (by omega), if_pos c140, show n.toNat = j by omega]) rfl | exact au_pe (by rw [if_pos (by omega), if_neg c140, show n.toNat = j by omega]) rfl)
          · refine au_iload dX0_ranked_143 rfl ?_
            refine au_goto (tgt := 149) dX0_ranked_145 (by decide) ?_
            exact au_iret dX0_ranked_149 rfl rfl (Nat.le_of_ble_eq_true rfl) (Nat.le_of_ble_eq_true rfl) (by first | exact au_pe (by rw [if_pos (by omega), if_pos c140, show n.toNat = j by omega]) rfl | exact au_pe (by rw [if_pos (by omega), if_neg c140, show n.toNat = j by omega]) rfl)
        · refine au_aload_n dX0_ranked_34 rfl ?_
          refine au_iload dX0_ranked_35 rfl ?_
          refine au_callVp (n := 1) (kX0_rankOf G (j : Int) mi si hi sl r nx hF n hN B hE hB (by omega) (by omega)) (lw_V q916 q918 qs29 q130 q919) rfl (by decide +kernel) (by decide) (T := TX0) (N := 15) rfl rfl rfl rfl (Nat.le_of_ble_eq_true rfl) (Nat.le_of_ble_eq_true rfl) (Nat.le_of_ble_eq_true rfl) (Nat.le_of_ble_eq_true rfl) (Nat.le_of_ble_eq_true rfl) dX0_ranked_37 ?_
          refine au_iload_n dX0_ranked_40 rfl ?_
          refine au_icmp_eq (tgt := 47) dX0_ranked_41 (by decide) (fun c41 => ?_) (fun c41 => ?_)
          · refine au_iinc dX0_ranked_47 rfl (show 3 < 7 by decide) (by omega) (by omega) (by decide) (by decide) ?_
            show au_Go G _ _ 50 [some (au_r XO), some (au_i rk), some (au_i q), some (au_i ((rkC B rk j) + 1)), some (au_i (rkO B Ap rk sn.toNat j)), some (au_i (j : Int)), a6] [] (mi, si, hi, sl, r, nx) 0 0
            refine au_iconst dX0_ranked_50 rfl rfl ?_
            refine au_istore dX0_ranked_51 (show 6 < 7 by decide) ?_
            show au_Go G _ _ 53 [some (au_r XO), some (au_i rk), some (au_i q), some (au_i ((rkC B rk j) + 1)), some (au_i (rkO B Ap rk sn.toNat j)), some (au_i (j : Int)), some (au_i 0)] [] (mi, si, hi, sl, r, nx) 0 0
            rw [show rkO B Ap rk sn.toNat j = rkO B Ap rk sn.toNat j + rkI Ap (j : Int) 0 from (Int.add_zero _).symm]
            have hj_ : ∀ (f : Nat) (k : Nat), ((k : Int) ≤ sn) → (sn - (k : Int)) < (f : Int) → au_Go G (yX0_ranked.cls, cX0_ranked, 7, (some .int), au_rm 1 0 0, yX0_ranked.name) (au_QM G (au_rm 1 0 0) (au_pure (au_i (if 0 ≤ rk ∧ rk ≤ 9 then (if q = 0 then rkC B rk n.toNat else rkO B Ap rk sn.toNat n.toNat) else -1)) (mi, si, hi, sl, r, nx))) 53 [some (au_r XO), some (au_i rk), some (au_i q), some (au_i (rkC B rk j + 1)), some (au_i ((rkO B Ap rk sn.toNat j) + (rkI Ap (j : Int) k))), some (au_i (j : Int)), some (au_i (k : Int))] [] (mi, si, hi, sl, r, nx) 0 0 := by
              intro f
              induction f with
              | zero => intro k hk hf; exfalso; omega
              | succ f ih =>
                intro k hk hf
                refine au_iload dX0_ranked_53 rfl ?_
                refine au_aload_n dX0_ranked_55 rfl ?_
                refine au_getf (C := RX0) (T := TX0) (N := 15) in_X0 (by decide) rfl 0 (by decide) rfl rfl q245 rfl dX0_ranked_56 (v := au_r XN) (congrArg au_q (fx_XO_0 hF)) ?_
                refine au_getN (C := RX1) (T := TX1) (N := 11) in_X1 (by decide) rfl 1 (by decide) rfl rfl q189 rfl dX0_ranked_59 (v := au_r XNrow) (congrArg au_q (fx_XN_1 hF)) ?_
                refine au_iconst dX0_ranked_62 rfl rfl ?_
                refine au_iald dX0_ranked_63 rfl (by omega) (by show _ < ((204 : Nat) : Int); omega) (v := au_i (sn)) (congrArg au_i (hSn)) ?_
                refine au_icmp_ge (tgt := 133) dX0_ranked_64 (by decide) (fun c64 => ?_) (fun c64 => ?_)
                · refine au_iinc dX0_ranked_133 rfl (show 5 < 7 by decide) (by omega) (by omega) (by decide) (by decide) ?_
                  show au_Go G _ _ 136 [some (au_r XO), some (au_i rk), some (au_i q), some (au_i (rkC B rk j + 1)), some (au_i ((rkO B Ap rk sn.toNat j) + (rkI Ap (j : Int) k))), some (au_i ((j : Int) + 1)), some (au_i (k : Int))] [] (mi, si, hi, sl, r, nx) 0 0
                  refine au_goto (tgt := 20) dX0_ranked_136 (by decide) ?_
                  have e2 : ∀ c s : Int, c = rkC B rk (j + 1) → s = rkO B Ap rk sn.toNat (j + 1) → ∀ a6, au_Go G (yX0_ranked.cls, cX0_ranked, 7, (some .int), au_rm 1 0 0, yX0_ranked.name) (au_QM G (au_rm 1 0 0) (au_pure (au_i (if 0 ≤ rk ∧ rk ≤ 9 then (if q = 0 then rkC B rk n.toNat else rkO B Ap rk sn.toNat n.toNat) else -1)) (mi, si, hi, sl, r, nx))) 20 [some (au_r XO), some (au_i rk), some (au_i q), some (au_i (c)), some (au_i (s)), some (au_i ((j : Int) + 1)), a6] [] (mi, si, hi, sl, r, nx) 0 0 := fun c s hc hs a6 => by rw [hc, hs]; exact ihj (j + 1) a6 (by omega) (by omega)
                  exact e2 _ _ (by simp only [rkC]; rw [if_pos (by omega)]) (by simp only [rkO]; rw [if_pos (by omega), show sn.toNat = k by omega]) _
                · have hbi := rkI_bd hAI (j : Int) k hk
                  have hap := (hAI (k : Int) (by omega) (by omega)).2
                  have hbo := rkO_bd (B := B) hAI rk (m := sn.toNat) (by omega) (by omega) j
                  refine au_iload dX0_ranked_67 rfl ?_
                  refine au_aload_n dX0_ranked_69 rfl ?_
                  refine au_getf (C := RX0) (T := TX0) (N := 15) in_X0 (by decide) rfl 0 (by decide) rfl rfl q245 rfl dX0_ranked_70 (v := au_r XN) (congrArg au_q (fx_XO_0 hF)) ?_
                  refine au_getN (C := RX1) (T := TX1) (N := 11) in_X1 (by decide) rfl 1 (by decide) rfl rfl q189 rfl dX0_ranked_73 (v := au_r XNrow) (congrArg au_q (fx_XN_1 hF)) ?_
                  refine au_iload dX0_ranked_76 rfl ?_
                  refine au_iconst dX0_ranked_78 rfl rfl ?_
                  refine au_callSp (n := 2) (kX0_at G (k : Int) 4 (mi, si, hi, sl, r, nx) (by omega) (by omega) (by omega) (by omega)) (lw_S q898 q899 q130 q900) (by decide +kernel) rfl rfl rfl (Nat.le_of_ble_eq_true rfl) (Nat.le_of_ble_eq_true rfl) (Nat.le_of_ble_eq_true rfl) (Nat.le_of_ble_eq_true rfl) (Nat.le_of_ble_eq_true rfl) dX0_ranked_79 ?_
                  refine au_iald dX0_ranked_82 rfl (by omega) (by show _ < ((204 : Nat) : Int); omega) (v := au_i (Ap (k : Int) 4)) (congrArg au_i (hAp _ _ (by omega) (by omega) (by omega) (by omega))) ?_
                  refine au_iconst dX0_ranked_83 rfl rfl ?_
                  refine au_icmp_eq (tgt := 123) dX0_ranked_84 (by decide) (fun c84 => ?_) (fun c84 => ?_)
                  · refine au_iconst dX0_ranked_123 rfl rfl ?_
                    refine au_iadd dX0_ranked_124 (by omega) (by omega) ?_
                    refine au_istore dX0_ranked_125 (show 4 < 7 by decide) ?_
                    show au_Go G _ _ 127 [some (au_r XO), some (au_i rk), some (au_i q), some (au_i (rkC B rk j + 1)), some (au_i (((rkO B Ap rk sn.toNat j) + (rkI Ap (j : Int) k)) + 0)), some (au_i (j : Int)), some (au_i (k : Int))] [] (mi, si, hi, sl, r, nx) 0 0
                    refine au_iinc dX0_ranked_127 rfl (show 6 < 7 by decide) (by omega) (by omega) (by decide) (by decide) ?_
                    show au_Go G _ _ 130 [some (au_r XO), some (au_i rk), some (au_i q), some (au_i (rkC B rk j + 1)), some (au_i (((rkO B Ap rk sn.toNat j) + (rkI Ap (j : Int) k)) + 0)), some (au_i (j : Int)), some (au_i ((k : Int) + 1))] [] (mi, si, hi, sl, r, nx) 0 0
                    refine au_goto (tgt := 53) dX0_ranked_130 (by decide) ?_
                    have e1 : ∀ z : Int, z = rkO B Ap rk sn.toNat j + rkI Ap (j : Int) (k + 1) → au_Go G (yX0_ranked.cls, cX0_ranked, 7, (some .int), au_rm 1 0 0, yX0_ranked.name) (au_QM G (au_rm 1 0 0) (au_pure (au_i (if 0 ≤ rk ∧ rk ≤ 9 then (if q = 0 then rkC B rk n.toNat else rkO B Ap rk sn.toNat n.toNat) else -1)) (mi, si, hi, sl, r, nx))) 53 [some (au_r XO), some (au_i rk), some (au_i q), some (au_i (rkC B rk j + 1)), some (au_i (z)), some (au_i ((j : Int))), some (au_i ((k : Int) + 1))] [] (mi, si, hi, sl, r, nx) 0 0 := fun z hz => by rw [hz]; exact ih (k + 1) (by omega) (by omega)
                    exact e1 _ (by simp only [rkI]; first | (rw [if_pos ⟨by omega, by omega⟩]; omega) | (rw [if_neg (fun z => by have z1 := z.1; have z2 := z.2; omega)]; omega))
                  · refine au_aload_n dX0_ranked_87 rfl ?_
                    refine au_getf (C := RX0) (T := TX0) (N := 15) in_X0 (by decide) rfl 0 (by decide) rfl rfl q245 rfl dX0_ranked_88 (v := au_r XN) (congrArg au_q (fx_XO_0 hF)) ?_
                    refine au_getN (C := RX1) (T := TX1) (N := 11) in_X1 (by decide) rfl 1 (by decide) rfl rfl q189 rfl dX0_ranked_91 (v := au_r XNrow) (congrArg au_q (fx_XN_1 hF)) ?_
                    refine au_iload dX0_ranked_94 rfl ?_
                    refine au_iconst dX0_ranked_96 rfl rfl ?_
                    refine au_callSp (n := 2) (kX0_at G (k : Int) 2 (mi, si, hi, sl, r, nx) (by omega) (by omega) (by omega) (by omega)) (lw_S q898 q899 q130 q900) (by decide +kernel) rfl rfl rfl (Nat.le_of_ble_eq_true rfl) (Nat.le_of_ble_eq_true rfl) (Nat.le_of_ble_eq_true rfl) (Nat.le_of_ble_eq_true rfl) (Nat.le_of_ble_eq_true rfl) dX0_ranked_97 ?_
                    refine au_iald dX0_ranked_100 rfl (by omega) (by show _ < ((204 : Nat) : Int); omega) (v := au_i (Ap (k : Int) 2)) (congrArg au_i (hAp _ _ (by omega) (by omega) (by omega) (by omega))) ?_
                    refine au_iload dX0_ranked_101 rfl ?_
                    refine au_icmp_ne (tgt := 123) dX0_ranked_103 (by decide) (fun c103 => ?_) (fun c103 => ?_)
                    · refine au_iconst dX0_ranked_123 rfl rfl ?_
                      refine au_iadd dX0_ranked_124 (by omega) (by omega) ?_
                      refine au_istore dX0_ranked_125 (show 4 < 7 by decide) ?_
                      show au_Go G _ _ 127 [some (au_r XO), some (au_i rk), some (au_i q), some (au_i (rkC B rk j + 1)), some (au_i (((rkO B Ap rk sn.toNat j) + (rkI Ap (j : Int) k)) + 0)), some (au_i (j : Int)), some (au_i (k : Int))] [] (mi, si, hi, sl, r, nx) 0 0
                      refine au_iinc dX0_ranked_127 rfl (show 6 < 7 by decide) (by omega) (by omega) (by decide) (by decide) ?_
                      show au_Go G _ _ 130 [some (au_r XO), some (au_i rk), some (au_i q), some (au_i (rkC B rk j + 1)), some (au_i (((rkO B Ap rk sn.toNat j) + (rkI Ap (j : Int) k)) + 0)), some (au_i (j : Int)), some (au_i ((k : Int) + 1))] [] (mi, si, hi, sl, r, nx) 0 0
                      refine au_goto (tgt := 53) dX0_ranked_130 (by decide) ?_
                      have e1 : ∀ z : Int, z = rkO B Ap rk sn.toNat j + rkI Ap (j : Int) (k + 1) → au_Go G (yX0_ranked.cls, cX0_ranked, 7, (some .int), au_rm 1 0 0, yX0_ranked.name) (au_QM G (au_rm 1 0 0) (au_pure (au_i (if 0 ≤ rk ∧ rk ≤ 9 then (if q = 0 then rkC B rk n.toNat else rkO B Ap rk sn.toNat n.toNat) else -1)) (mi, si, hi, sl, r, nx))) 53 [some (au_r XO), some (au_i rk), some (au_i q), some (au_i (rkC B rk j + 1)), some (au_i (z)), some (au_i ((j : Int))), some (au_i ((k : Int) + 1))] [] (mi, si, hi, sl, r, nx) 0 0 := fun z hz => by rw [hz]; exact ih (k + 1) (by omega) (by omega)
                      exact e1 _ (by simp only [rkI]; first | (rw [if_pos ⟨by omega, by omega⟩]; omega) | (rw [if_neg (fun z => by have z1 := z.1; have z2 := z.2; omega)]; omega))
                    · refine au_aload_n dX0_ranked_106 rfl ?_
                      refine au_getf (C := RX0) (T := TX0) (N := 15) in_X0 (by decide) rfl 0 (by decide) rfl rfl q245 rfl dX0_ranked_107 (v := au_r XN) (congrArg au_q (fx_XO_0 hF)) ?_
                      refine au_getN (C := RX1) (T := TX1) (N := 11) in_X1 (by decide) rfl 1 (by decide) rfl rfl q189 rfl dX0_ranked_110 (v := au_r XNrow) (congrArg au_q (fx_XN_1 hF)) ?_
                      refine au_iload dX0_ranked_113 rfl ?_
                      refine au_iconst dX0_ranked_115 rfl rfl ?_
                      refine au_callSp (n := 2) (kX0_at G (k : Int) 3 (mi, si, hi, sl, r, nx) (by omega) (by omega) (by omega) (by omega)) (lw_S q898 q899 q130 q900) (by decide +kernel) rfl rfl rfl (Nat.le_of_ble_eq_true rfl) (Nat.le_of_ble_eq_true rfl) (Nat.le_of_ble_eq_true rfl) (Nat.le_of_ble_eq_true rfl) (Nat.le_of_ble_eq_true rfl) dX0_ranked_116 ?_
                      refine au_iald dX0_ranked_119 rfl (by omega) (by show _ < ((204 : Nat) : Int); omega) (v := au_i (Ap (k : Int) 3)) (congrArg au_i (hAp _ _ (by omega) (by omega) (by omega) (by omega))) ?_
                      refine au_goto (tgt := 124) dX0_ranked_120 (by decide) ?_
                      refine au_iadd dX0_ranked_124 (by omega) (by omega) ?_
                      refine au_istore dX0_ranked_125 (show 4 < 7 by decide) ?_
                      show au_Go G _ _ 127 [some (au_r XO), some (au_i rk), some (au_i q), some (au_i (rkC B rk j + 1)), some (au_i (((rkO B Ap rk sn.toNat j) + (rkI Ap (j : Int) k)) + (Ap (k : Int) 3))), some (au_i (j : Int)), some (au_i (k : Int))] [] (mi, si, hi, sl, r, nx) 0 0
                      refine au_iinc dX0_ranked_127 rfl (show 6 < 7 by decide) (by omega) (by omega) (by decide) (by decide) ?_
                      show au_Go G _ _ 130 [some (au_r XO), some (au_i rk), some (au_i q), some (au_i (rkC B rk j + 1)), some (au_i (((rkO B Ap rk sn.toNat j) + (rkI Ap (j : Int) k)) + (Ap (k : Int) 3))), some (au_i (j : Int)), some (au_i ((k : Int) + 1))] [] (mi, si, hi, sl, r, nx) 0 0
                      refine au_goto (tgt := 53) dX0_ranked_130 (by decide) ?_
                      have e1 : ∀ z : Int, z = rkO B Ap rk sn.toNat j + rkI Ap (j : Int) (k + 1) → au_Go G (yX0_ranked.cls, cX0_ranked, 7, (some .int), au_rm 1 0 0, yX0_ranked.name) (au_QM G (au_rm 1 0 0) (au_pure (au_i (if 0 ≤ rk ∧ rk ≤ 9 then (if q = 0 then rkC B rk n.toNat else rkO B Ap rk sn.toNat n.toNat) else -1)) (mi, si, hi, sl, r, nx))) 53 [some (au_r XO), some (au_i rk), some (au_i q), some (au_i (rkC B rk j + 1)), some (au_i (z)), some (au_i ((j : Int))), some (au_i ((k : Int) + 1))] [] (mi, si, hi, sl, r, nx) 0 0 := fun z hz => by rw [hz]; exact ih (k + 1) (by omega) (by omega)
                      exact e1 _ (by simp only [rkI]; first | (rw [if_pos ⟨by omega, by omega⟩]; omega) | (rw [if_neg (fun z => by have z1 := z.1; have z2 := z.2; omega)]; omega))
            exact hj_ 11 0 (by omega) (by omega)
          · refine au_goto (tgt := 133) dX0_ranked_44 (by decide) ?_
            refine au_iinc dX0_ranked_133 rfl (show 5 < 7 by decide) (by omega) (by omega) (by decide) (by decide) ?_
            show au_Go G _ _ 136 [some (au_r XO), some (au_i rk), some (au_i q), some (au_i (rkC B rk j)), some (au_i (rkO B Ap rk sn.toNat j)), some (au_i ((j : Int) + 1)), a6] [] (mi, si, hi, sl, r, nx) 0 0
            refine au_goto (tgt := 20) dX0_ranked_136 (by decide) ?_
            have e2 : ∀ c s : Int, c = rkC B rk (j + 1) → s = rkO B Ap rk sn.toNat (j + 1) → ∀ a6, au_Go G (yX0_ranked.cls, cX0_ranked, 7, (some .int), au_rm 1 0 0, yX0_ranked.name) (au_QM G (au_rm 1 0 0) (au_pure (au_i (if 0 ≤ rk ∧ rk ≤ 9 then (if q = 0 then rkC B rk n.toNat else rkO B Ap rk sn.toNat n.toNat) else -1)) (mi, si, hi, sl, r, nx))) 20 [some (au_r XO), some (au_i rk), some (au_i q), some (au_i (c)), some (au_i (s)), some (au_i ((j : Int) + 1)), a6] [] (mi, si, hi, sl, r, nx) 0 0 := fun c s hc hs a6 => by rw [hc, hs]; exact ihj (j + 1) a6 (by omega) (by omega)
            exact e2 _ _ (by simp only [rkC]; rw [if_neg (by omega)]; omega) (by simp only [rkO]; rw [if_neg (by omega)]; omega) _
    exact hk_ 11 0 _ (by omega) (by omega)
  · have c7 := au_b0 c7
    refine au_iconst dX0_ranked_10 rfl rfl ?_
    exact au_iret dX0_ranked_11 rfl rfl (Nat.le_of_ble_eq_true rfl) (Nat.le_of_ble_eq_true rfl) (au_pe (by rw [if_neg (by omega)]) rfl)
theorem kX2_ranked (G : au_G) (rk q : Int) (mi si hi sl : au_A → Int → Int) (r : au_A → Int → Option au_A) (nx : Nat) (hF : Fix r) (n : Int) (hN : mi MA 0 = n) (B : Int → Int) (hE : ∀ o, 0 ≤ o → o < 10 → mi MA (90 + o) = B o) (hB : Bs B n) (sn : Int) (hSn : mi MA 8 = sn) (hs : 0 ≤ sn ∧ sn ≤ 10) (Ap : Int → Int → Int) (hAp : ∀ k w, 0 ≤ k → k < 10 → 0 ≤ w → w ≤ 6 → mi MA (20 + 7 * k + w) = Ap k w) (hAI : ApI Ap n sn) : au_Ctr G yX2_ranked cX2_ranked 6 (some .int) 1 0 0 [au_r MO, au_i rk, au_i q] (mi, si, hi, sl, r, nx) (au_pure (au_i (if 0 ≤ rk ∧ rk ≤ 9 then (if q = 0 then rkC B rk n.toNat else rkM B Ap rk sn.toNat) else -1)) (mi, si, hi, sl, r, nx)) := by
  refine au_of (by decide) (Nat.le_of_ble_eq_true rfl) ?_
  have hb0 := hB.2.1
  have hb1 := hB.1
  show au_Go G _ _ 0 [some (au_r MO), some (au_i rk), some (au_i q), none, none, none] [] (mi, si, hi, sl, r, nx) 0 0
  refine au_iload_n dX2_ranked_0 rfl ?_
  refine au_iconst dX2_ranked_1 rfl rfl ?_
  refine au_bipush dX2_ranked_2 rfl rfl ?_
  refine au_callSp (n := 3) (kX2_isIn G rk 0 9 (mi, si, hi, sl, r, nx)) (lw_S q1475 q1476 q134 q1477) (by decide +kernel) rfl rfl rfl (Nat.le_of_ble_eq_true rfl) (Nat.le_of_ble_eq_true rfl) (Nat.le_of_ble_eq_true rfl) (Nat.le_of_ble_eq_true rfl) (Nat.le_of_ble_eq_true rfl) dX2_ranked_4 ?_
  refine au_if_ne (tgt := 12) dX2_ranked_7 (by decide) (fun c7 => ?_) (fun c7 => ?_)
  · have c7 := au_b1 c7
    refine au_iconst dX2_ranked_12 rfl rfl ?_
    refine au_istore_n dX2_ranked_13 (show 3 < 6 by decide) ?_
    show au_Go G _ _ 14 [some (au_r MO), some (au_i rk), some (au_i q), some (au_i 0), none, none] [] (mi, si, hi, sl, r, nx) 0 0
    refine au_iconst dX2_ranked_14 rfl rfl ?_
    refine au_istore dX2_ranked_15 (show 4 < 6 by decide) ?_
    show au_Go G _ _ 17 [some (au_r MO), some (au_i rk), some (au_i q), some (au_i 0), some (au_i 0), none] [] (mi, si, hi, sl, r, nx) 0 0
    refine au_iconst dX2_ranked_17 rfl rfl ?_
    refine au_istore dX2_ranked_18 (show 5 < 6 by decide) ?_
    show au_Go G _ _ 20 [some (au_r MO), some (au_i rk), some (au_i q), some (au_i 0), some (au_i 0), some (au_i 0)] [] (mi, si, hi, sl, r, nx) 0 0
    have hl : ∀ (f : Nat) (j : Nat), ((j : Int) ≤ n) → (n - (j : Int)) < (f : Int) → au_Go G (yX2_ranked.cls, cX2_ranked, 6, (some .int), au_rm 1 0 0, yX2_ranked.name) (au_QM G (au_rm 1 0 0) (au_pure (au_i (if 0 ≤ rk ∧ rk ≤ 9 then (if q = 0 then rkC B rk n.toNat else rkM B Ap rk sn.toNat) else -1)) (mi, si, hi, sl, r, nx))) 20 [some (au_r MO), some (au_i rk), some (au_i q), some (au_i (rkC B rk j)), some (au_i 0), some (au_i (j : Int))] [] (mi, si, hi, sl, r, nx) 0 0 := by
      intro f
      induction f with
      | zero => intro j hj hf; exfalso; omega
      | succ f ih =>
        intro j hj hf
        refine au_iload dX2_ranked_20 rfl ?_
        refine au_aload_n dX2_ranked_22 rfl ?_
        refine au_getf (C := RX2) (T := TX2) (N := 35) in_X2 (by decide) rfl 0 (by decide) rfl rfl q1359 rfl dX2_ranked_23 (v := au_r MA) (congrArg au_q (fx_MO_0 hF)) ?_
        refine au_iconst dX2_ranked_26 rfl rfl ?_
        refine au_iald dX2_ranked_27 rfl (by omega) (by show _ < ((4544 : Nat) : Int); omega) (v := au_i (n)) (congrArg au_i (hN)) ?_
        refine au_icmp_ge (tgt := 55) dX2_ranked_28 (by decide) (fun c28 => ?_) (fun c28 => ?_)
        · refine au_iconst dX2_ranked_55 rfl rfl ?_
          refine au_istore dX2_ranked_56 (show 5 < 6 by decide) ?_
          show au_Go G _ _ 58 [some (au_r MO), some (au_i rk), some (au_i q), some (au_i (rkC B rk j)), some (au_i 0), some (au_i 0)] [] (mi, si, hi, sl, r, nx) 0 0
          rw [show j = n.toNat by omega]
          have hb_ : ∀ (f : Nat) (k : Nat), ((k : Int) ≤ sn) → (sn - (k : Int)) < (f : Int) → au_Go G (yX2_ranked.cls, cX2_ranked, 6, (some .int), au_rm 1 0 0, yX2_ranked.name) (au_QM G (au_rm 1 0 0) (au_pure (au_i (if 0 ≤ rk ∧ rk ≤ 9 then (if q = 0 then rkC B rk n.toNat else rkM B Ap rk sn.toNat) else -1)) (mi, si, hi, sl, r, nx))) 58 [some (au_r MO), some (au_i rk), some (au_i q), some (au_i (rkC B rk n.toNat)), some (au_i (rkM B Ap rk k)), some (au_i (k : Int))] [] (mi, si, hi, sl, r, nx) 0 0 := by
            intro f
            induction f with
            | zero => intro k hk hf; exfalso; omega
            | succ f ih =>
              intro k hk hf
              refine au_iload dX2_ranked_58 rfl ?_
              refine au_aload_n dX2_ranked_60 rfl ?_
              refine au_getf (C := RX2) (T := TX2) (N := 35) in_X2 (by decide) rfl 0 (by decide) rfl rfl q1359 rfl dX2_ranked_61 (v := au_r MA) (congrArg au_q (fx_MO_0 hF)) ?_
              refine au_bipush dX2_ranked_64 rfl rfl ?_
              refine au_iald dX2_ranked_66 rfl (by omega) (by show _ < ((4544 : Nat) : Int); omega) (v := au_i (sn)) (congrArg au_i (hSn)) ?_
              refine au_icmp_ge (tgt := 118) dX2_ranked_67 (by decide) (fun c67 => ?_) (fun c67 => ?_)
              · refine au_iload_n dX2_ranked_118 rfl ?_
                refine au_if_eq (tgt := 127) dX2_ranked_119 (by decide) (fun c119 => ?_) (fun c119 => ?_)
                · refine au_iload_n dX2_ranked_127 rfl ?_
                  exact au_iret dX2_ranked_128 rfl rfl (Nat.le_of_ble_eq_true rfl) (Nat.le_of_ble_eq_true rfl) (by first | exact au_pe (by rw [if_pos (by omega), if_pos c119]) rfl | exact au_pe (by rw [if_pos (by omega), if_neg c119, show sn.toNat = k by omega]) rfl)
                · refine au_iload dX2_ranked_122 rfl ?_
                  refine au_goto (tgt := 128) dX2_ranked_124 (by decide) ?_
                  exact au_iret dX2_ranked_128 rfl rfl (Nat.le_of_ble_eq_true rfl) (Nat.le_of_ble_eq_true rfl) (by first | exact au_pe (by rw [if_pos (by omega), if_pos c119]) rfl | exact au_pe (by rw [if_pos (by omega), if_neg c119, show sn.toNat = k by omega]) rfl)
              · have hbi := rkM_bd (B := B) hAI rk k hk
                have hap := hAI (k : Int) (by omega) (by omega)
                refine au_iload dX2_ranked_70 rfl ?_
                refine au_aload_n dX2_ranked_72 rfl ?_
                refine au_iload dX2_ranked_73 rfl ?_
                refine au_iconst dX2_ranked_75 rfl rfl ?_
                refine au_callVp (n := 2) (kX2_getA G (k : Int) 4 mi si hi sl r nx hF Ap hAp (by omega) (by omega) (by omega) (by omega)) (lw_V q1694 q1696 qs93 q134 q1697) rfl (by decide +kernel) (by decide) (T := TX2) (N := 35) rfl rfl rfl rfl (Nat.le_of_ble_eq_true rfl) (Nat.le_of_ble_eq_true rfl) (Nat.le_of_ble_eq_true rfl) (Nat.le_of_ble_eq_true rfl) (Nat.le_of_ble_eq_true rfl) dX2_ranked_76 ?_
                refine au_iconst dX2_ranked_79 rfl rfl ?_
                refine au_icmp_eq (tgt := 108) dX2_ranked_80 (by decide) (fun c80 => ?_) (fun c80 => ?_)
                · refine au_iconst dX2_ranked_108 rfl rfl ?_
                  refine au_iadd dX2_ranked_109 (by omega) (by omega) ?_
                  refine au_istore dX2_ranked_110 (show 4 < 6 by decide) ?_
                  show au_Go G _ _ 112 [some (au_r MO), some (au_i rk), some (au_i q), some (au_i (rkC B rk n.toNat)), some (au_i ((rkM B Ap rk k) + 0)), some (au_i (k : Int))] [] (mi, si, hi, sl, r, nx) 0 0
                  refine au_iinc dX2_ranked_112 rfl (show 5 < 6 by decide) (by omega) (by omega) (by decide) (by decide) ?_
                  show au_Go G _ _ 115 [some (au_r MO), some (au_i rk), some (au_i q), some (au_i (rkC B rk n.toNat)), some (au_i ((rkM B Ap rk k) + 0)), some (au_i ((k : Int) + 1))] [] (mi, si, hi, sl, r, nx) 0 0
                  refine au_goto (tgt := 58) dX2_ranked_115 (by decide) ?_
                  have e1 : ∀ z : Int, z = rkM B Ap rk (k + 1) → au_Go G (yX2_ranked.cls, cX2_ranked, 6, (some .int), au_rm 1 0 0, yX2_ranked.name) (au_QM G (au_rm 1 0 0) (au_pure (au_i (if 0 ≤ rk ∧ rk ≤ 9 then (if q = 0 then rkC B rk n.toNat else rkM B Ap rk sn.toNat) else -1)) (mi, si, hi, sl, r, nx))) 58 [some (au_r MO), some (au_i rk), some (au_i q), some (au_i (rkC B rk n.toNat)), some (au_i (z)), some (au_i ((k : Int) + 1))] [] (mi, si, hi, sl, r, nx) 0 0 := fun z hz => by rw [hz]; exact ih (k + 1) (by omega) (by omega)
                  exact e1 _ (by simp only [rkM]; first | rw [if_pos ⟨by omega, by omega⟩] | rw [if_neg (fun z => by have z1 := z.1; have z2 := z.2; omega)])
                · refine au_aload_n dX2_ranked_83 rfl ?_
                  refine au_aload_n dX2_ranked_84 rfl ?_
                  refine au_iload dX2_ranked_85 rfl ?_
                  refine au_iconst dX2_ranked_87 rfl rfl ?_
                  refine au_callVp (n := 2) (kX2_getA G (k : Int) 2 mi si hi sl r nx hF Ap hAp (by omega) (by omega) (by omega) (by omega)) (lw_V q1694 q1696 qs93 q134 q1697) rfl (by decide +kernel) (by decide) (T := TX2) (N := 35) rfl rfl rfl rfl (Nat.le_of_ble_eq_true rfl) (Nat.le_of_ble_eq_true rfl) (Nat.le_of_ble_eq_true rfl) (Nat.le_of_ble_eq_true rfl) (Nat.le_of_ble_eq_true rfl) dX2_ranked_88 ?_
                  refine au_callVp (n := 1) (kX2_rankOf G (Ap (k : Int) 2) mi si hi sl r nx hF n hN B hE hB (by omega) (by omega)) (lw_V q1722 q1724 qs99 q134 q1725) rfl (by decide +kernel) (by decide) (T := TX2) (N := 35) rfl rfl rfl rfl (Nat.le_of_ble_eq_true rfl) (Nat.le_of_ble_eq_true rfl) (Nat.le_of_ble_eq_true rfl) (Nat.le_of_ble_eq_true rfl) (Nat.le_of_ble_eq_true rfl) dX2_ranked_91 ?_
                  refine au_iload_n dX2_ranked_94 rfl ?_
                  refine au_icmp_ne (tgt := 108) dX2_ranked_95 (by decide) (fun c95 => ?_) (fun c95 => ?_)
                  · refine au_iconst dX2_ranked_108 rfl rfl ?_
                    refine au_iadd dX2_ranked_109 (by omega) (by omega) ?_
                    refine au_istore dX2_ranked_110 (show 4 < 6 by decide) ?_
                    show au_Go G _ _ 112 [some (au_r MO), some (au_i rk), some (au_i q), some (au_i (rkC B rk n.toNat)), some (au_i ((rkM B Ap rk k) + 0)), some (au_i (k : Int))] [] (mi, si, hi, sl, r, nx) 0 0
                    refine au_iinc dX2_ranked_112 rfl (show 5 < 6 by decide) (by omega) (by omega) (by decide) (by decide) ?_
                    show au_Go G _ _ 115 [some (au_r MO), some (au_i rk), some (au_i q), some (au_i (rkC B rk n.toNat)), some (au_i ((rkM B Ap rk k) + 0)), some (au_i ((k : Int) + 1))] [] (mi, si, hi, sl, r, nx) 0 0
                    refine au_goto (tgt := 58) dX2_ranked_115 (by decide) ?_
                    have e1 : ∀ z : Int, z = rkM B Ap rk (k + 1) → au_Go G (yX2_ranked.cls, cX2_ranked, 6, (some .int), au_rm 1 0 0, yX2_ranked.name) (au_QM G (au_rm 1 0 0) (au_pure (au_i (if 0 ≤ rk ∧ rk ≤ 9 then (if q = 0 then rkC B rk n.toNat else rkM B Ap rk sn.toNat) else -1)) (mi, si, hi, sl, r, nx))) 58 [some (au_r MO), some (au_i rk), some (au_i q), some (au_i (rkC B rk n.toNat)), some (au_i (z)), some (au_i ((k : Int) + 1))] [] (mi, si, hi, sl, r, nx) 0 0 := fun z hz => by rw [hz]; exact ih (k + 1) (by omega) (by omega)
                    exact e1 _ (by simp only [rkM]; first | rw [if_pos ⟨by omega, by omega⟩] | rw [if_neg (fun z => by have z1 := z.1; have z2 := z.2; omega)])
                  · refine au_aload_n dX2_ranked_98 rfl ?_
                    refine au_iload dX2_ranked_99 rfl ?_
                    refine au_iconst dX2_ranked_101 rfl rfl ?_
                    refine au_callVp (n := 2) (kX2_getA G (k : Int) 3 mi si hi sl r nx hF Ap hAp (by omega) (by omega) (by omega) (by omega)) (lw_V q1694 q1696 qs93 q134 q1697) rfl (by decide +kernel) (by decide) (T := TX2) (N := 35) rfl rfl rfl rfl (Nat.le_of_ble_eq_true rfl) (Nat.le_of_ble_eq_true rfl) (Nat.le_of_ble_eq_true rfl) (Nat.le_of_ble_eq_true rfl) (Nat.le_of_ble_eq_true rfl) dX2_ranked_102 ?_
                    refine au_goto (tgt := 109) dX2_ranked_105 (by decide) ?_
                    refine au_iadd dX2_ranked_109 (by omega) (by omega) ?_
                    refine au_istore dX2_ranked_110 (show 4 < 6 by decide) ?_
                    show au_Go G _ _ 112 [some (au_r MO), some (au_i rk), some (au_i q), some (au_i (rkC B rk n.toNat)), some (au_i ((rkM B Ap rk k) + (Ap (k : Int) 3))), some (au_i (k : Int))] [] (mi, si, hi, sl, r, nx) 0 0
                    refine au_iinc dX2_ranked_112 rfl (show 5 < 6 by decide) (by omega) (by omega) (by decide) (by decide) ?_
                    show au_Go G _ _ 115 [some (au_r MO), some (au_i rk), some (au_i q), some (au_i (rkC B rk n.toNat)), some (au_i ((rkM B Ap rk k) + (Ap (k : Int) 3))), some (au_i ((k : Int) + 1))] [] (mi, si, hi, sl, r, nx) 0 0
                    refine au_goto (tgt := 58) dX2_ranked_115 (by decide) ?_
                    have e1 : ∀ z : Int, z = rkM B Ap rk (k + 1) → au_Go G (yX2_ranked.cls, cX2_ranked, 6, (some .int), au_rm 1 0 0, yX2_ranked.name) (au_QM G (au_rm 1 0 0) (au_pure (au_i (if 0 ≤ rk ∧ rk ≤ 9 then (if q = 0 then rkC B rk n.toNat else rkM B Ap rk sn.toNat) else -1)) (mi, si, hi, sl, r, nx))) 58 [some (au_r MO), some (au_i rk), some (au_i q), some (au_i (rkC B rk n.toNat)), some (au_i (z)), some (au_i ((k : Int) + 1))] [] (mi, si, hi, sl, r, nx) 0 0 := fun z hz => by rw [hz]; exact ih (k + 1) (by omega) (by omega)
                    exact e1 _ (by simp only [rkM]; first | rw [if_pos ⟨by omega, by omega⟩] | rw [if_neg (fun z => by have z1 := z.1; have z2 := z.2; omega)])
          exact hb_ 11 0 (by omega) (by omega)
        · have hbc := rkC_bd B rk j
          refine au_iload_n dX2_ranked_31 rfl ?_
          refine au_aload_n dX2_ranked_32 rfl ?_
          refine au_iload dX2_ranked_33 rfl ?_
          refine au_callVp (n := 1) (kX2_rankOf G (j : Int) mi si hi sl r nx hF n hN B hE hB (by omega) (by omega)) (lw_V q1722 q1724 qs99 q134 q1725) rfl (by decide +kernel) (by decide) (T := TX2) (N := 35) rfl rfl rfl rfl (Nat.le_of_ble_eq_true rfl) (Nat.le_of_ble_eq_true rfl) (Nat.le_of_ble_eq_true rfl) (Nat.le_of_ble_eq_true rfl) (Nat.le_of_ble_eq_true rfl) dX2_ranked_35 ?_
          refine au_iload_n dX2_ranked_38 rfl ?_
          refine au_icmp_ne (tgt := 46) dX2_ranked_39 (by decide) (fun c39 => ?_) (fun c39 => ?_)
          · refine au_iconst dX2_ranked_46 rfl rfl ?_
            refine au_iadd dX2_ranked_47 (by omega) (by omega) ?_
            refine au_istore_n dX2_ranked_48 (show 3 < 6 by decide) ?_
            show au_Go G _ _ 49 [some (au_r MO), some (au_i rk), some (au_i q), some (au_i ((rkC B rk j) + 0)), some (au_i 0), some (au_i (j : Int))] [] (mi, si, hi, sl, r, nx) 0 0
            refine au_iinc dX2_ranked_49 rfl (show 5 < 6 by decide) (by omega) (by omega) (by decide) (by decide) ?_
            show au_Go G _ _ 52 [some (au_r MO), some (au_i rk), some (au_i q), some (au_i ((rkC B rk j) + 0)), some (au_i 0), some (au_i ((j : Int) + 1))] [] (mi, si, hi, sl, r, nx) 0 0
            refine au_goto (tgt := 20) dX2_ranked_52 (by decide) ?_
            have e1 : ∀ z : Int, z = rkC B rk (j + 1) → au_Go G (yX2_ranked.cls, cX2_ranked, 6, (some .int), au_rm 1 0 0, yX2_ranked.name) (au_QM G (au_rm 1 0 0) (au_pure (au_i (if 0 ≤ rk ∧ rk ≤ 9 then (if q = 0 then rkC B rk n.toNat else rkM B Ap rk sn.toNat) else -1)) (mi, si, hi, sl, r, nx))) 20 [some (au_r MO), some (au_i rk), some (au_i q), some (au_i (z)), some (au_i (0)), some (au_i ((j : Int) + 1))] [] (mi, si, hi, sl, r, nx) 0 0 := fun z hz => by rw [hz]; exact ih (j + 1) (by omega) (by omega)
            exact e1 _ (by simp only [rkC]; first | rw [if_pos (by omega)] | rw [if_neg (by omega)])
          · refine au_iconst dX2_ranked_42 rfl rfl ?_
            refine au_goto (tgt := 47) dX2_ranked_43 (by decide) ?_
            refine au_iadd dX2_ranked_47 (by omega) (by omega) ?_
            refine au_istore_n dX2_ranked_48 (show 3 < 6 by decide) ?_
            show au_Go G _ _ 49 [some (au_r MO), some (au_i rk), some (au_i q), some (au_i ((rkC B rk j) + 1)), some (au_i 0), some (au_i (j : Int))] [] (mi, si, hi, sl, r, nx) 0 0
            refine au_iinc dX2_ranked_49 rfl (show 5 < 6 by decide) (by omega) (by omega) (by decide) (by decide) ?_
            show au_Go G _ _ 52 [some (au_r MO), some (au_i rk), some (au_i q), some (au_i ((rkC B rk j) + 1)), some (au_i 0), some (au_i ((j : Int) + 1))] [] (mi, si, hi, sl, r, nx) 0 0
            refine au_goto (tgt := 20) dX2_ranked_52 (by decide) ?_
            have e1 : ∀ z : Int, z = rkC B rk (j + 1) → au_Go G (yX2_ranked.cls, cX2_ranked, 6, (some .int), au_rm 1 0 0, yX2_ranked.name) (au_QM G (au_rm 1 0 0) (au_pure (au_i (if 0 ≤ rk ∧ rk ≤ 9 then (if q = 0 then rkC B rk n.toNat else rkM B Ap rk sn.toNat) else -1)) (mi, si, hi, sl, r, nx))) 20 [some (au_r MO), some (au_i rk), some (au_i q), some (au_i (z)), some (au_i (0)), some (au_i ((j : Int) + 1))] [] (mi, si, hi, sl, r, nx) 0 0 := fun z hz => by rw [hz]; exact ih (j + 1) (by omega) (by omega)
            exact e1 _ (by simp only [rkC]; first | rw [if_pos (by omega)] | rw [if_neg (by omega)])
    exact hl 11 0 (by omega) (by omega)
  · have c7 := au_b0 c7
    refine au_iconst dX2_ranked_10 rfl rfl ?_
    exact au_iret dX2_ranked_11 rfl rfl (Nat.le_of_ble_eq_true rfl) (Nat.le_of_ble_eq_true rfl) (au_pe (by rw [if_neg (by omega)]) rfl)
