/-! ANSWERS about the row, of both systems (printed by tools/m27.py) -/
set_option maxRecDepth 100000
set_option maxHeartbeats 4000000

/-- how many not done with lie on a desk, but one -/
def dkN (Ap : Int → Int → Int) (p but : Int) : Nat → Int
  | 0 => 0
  | k + 1 => dkN Ap p but k + (if (k : Int) ≠ but ∧ Ap (k : Int) 4 ≠ 2 ∧ Ap (k : Int) 2 = p then 1 else 0)
theorem dkN_bd (Ap : Int → Int → Int) (p but : Int) : ∀ k : Nat, 0 ≤ dkN Ap p but k ∧ dkN Ap p but k ≤ k := by
  intro k
  induction k with
  | zero => simp [dkN]
  | succ k ih => simp only [dkN]; split <;> omega
def stB (D : Int → Int) : Nat → Int
  | 0 => -1
  | k + 1 => if (if stB D k = -1 then 0 else D (stB D k)) < D (k : Int) then (k : Int) else stB D k
theorem stB_bd (D : Int → Int) : ∀ k : Nat, -1 ≤ stB D k ∧ stB D k < k := by
  intro k
  induction k with
  | zero => simp [stB]
  | succ k ih => simp only [stB]; split <;> omega
def elB (Ap : Int → Int → Int) : Nat → Int
  | 0 => -1
  | k + 1 => if Ap (k : Int) 4 ≠ 2 ∧ (elB Ap k = -1 ∨ Ap (k : Int) 5 < Ap (elB Ap k) 5) then (k : Int) else elB Ap k
theorem elB_bd (Ap : Int → Int → Int) : ∀ k : Nat, -1 ≤ elB Ap k ∧ elB Ap k < k := by
  intro k
  induction k with
  | zero => simp [elB]
  | succ k ih => simp only [elB]; split <;> omega
def syN (Ap : Int → Int → Int) (o : Int) : Nat → Int
  | 0 => 0
  | k + 1 => au_w (syN Ap o k + (if Ap (k : Int) 4 ≠ 2 ∧ (o = -1 ∨ Ap (k : Int) 0 = o) then Ap (k : Int) 3 else 0))
def bfN (Pg : Int → Int → Int) (w : Int) : Nat → Int
  | 0 => 0
  | k + 1 => bfN Pg w k + (if Pg (k : Int) 2 = w then 1 else 0)
theorem bfN_bd (Pg : Int → Int → Int) (w : Int) : ∀ k : Nat, 0 ≤ bfN Pg w k ∧ bfN Pg w k ≤ k := by
  intro k
  induction k with
  | zero => simp [bfN]
  | succ k ih => simp only [bfN]; split <;> omega
def bkR (Pg : Int → Int → Int) (wn k w : Int) : Int := if k = -1 then wn else if 0 ≤ k ∧ k < wn ∧ 0 ≤ w ∧ w ≤ 3 then Pg k w else -2

theorem kX2_getA (G : au_G) (k w : Int) (mi si hi sl : au_A → Int → Int) (r : au_A → Int → Option au_A) (nx : Nat) (hF : Fix r) (Ap : Int → Int → Int) (hAp : ∀ k w, 0 ≤ k → k < 10 → 0 ≤ w → w ≤ 6 → mi MA (20 + 7 * k + w) = Ap k w) (h0 : 0 ≤ k) (h1 : k < 10) (h2 : 0 ≤ w) (h3 : w ≤ 6) : au_Ctr G yX2_get cX2_get 3 (some .int) 0 0 0 [au_r MO, au_i k, au_i w] (mi, si, hi, sl, r, nx) (au_pure (au_i (Ap k w)) (mi, si, hi, sl, r, nx)) := by
  rw [← hAp k w h0 h1 h2 h3]
  exact kX2_get G k w mi si hi sl r nx hF h0 h1 h2 h3
theorem kX0_deskOf (G : au_G) (o : Int) (mi si hi sl : au_A → Int → Int) (r : au_A → Int → Option au_A) (nx : Nat) (hF : Fix r) (sn : Int) (hSn : mi XNrow 2 = sn) (hs : 0 ≤ sn ∧ sn ≤ 10) (Ap : Int → Int → Int) (hAp : ∀ k w, 0 ≤ k → k < 10 → 0 ≤ w → w ≤ 6 → mi XNrow (3 + 7 * k + w) = Ap k w) : au_Ctr G yX0_deskOf cX0_deskOf 4 (some .int) 1 0 0 [au_r XO, au_i o] (mi, si, hi, sl, r, nx) (au_pure (au_i (dkN Ap o (-1) sn.toNat)) (mi, si, hi, sl, r, nx)) := by
  refine au_of (by decide) (Nat.le_of_ble_eq_true rfl) ?_
  show au_Go G _ _ 0 [some (au_r XO), some (au_i o), none, none] [] (mi, si, hi, sl, r, nx) 0 0
  refine au_iconst dX0_deskOf_0 rfl rfl ?_
  refine au_istore_n dX0_deskOf_1 (show 2 < 4 by decide) ?_
  show au_Go G _ _ 2 [some (au_r XO), some (au_i o), some (au_i 0), none] [] (mi, si, hi, sl, r, nx) 0 0
  refine au_iconst dX0_deskOf_2 rfl rfl ?_
  refine au_istore_n dX0_deskOf_3 (show 3 < 4 by decide) ?_
  show au_Go G _ _ 4 [some (au_r XO), some (au_i o), some (au_i 0), some (au_i 0)] [] (mi, si, hi, sl, r, nx) 0 0
  have hl : ∀ (f : Nat) (k : Nat), ((k : Int) ≤ sn) → (sn - (k : Int)) < (f : Int) → au_Go G (yX0_deskOf.cls, cX0_deskOf, 4, (some .int), au_rm 1 0 0, yX0_deskOf.name) (au_QM G (au_rm 1 0 0) (au_pure (au_i (dkN Ap o (-1) sn.toNat)) (mi, si, hi, sl, r, nx))) 4 [some (au_r XO), some (au_i o), some (au_i (dkN Ap o (-1) k)), some (au_i (k : Int))] [] (mi, si, hi, sl, r, nx) 0 0 := by
    intro f
    induction f with
    | zero => intro k h1 hf; exfalso; omega
    | succ f ih =>
      intro k h1 hf
      refine au_iload_n dX0_deskOf_4 rfl ?_
      refine au_aload_n dX0_deskOf_5 rfl ?_
      refine au_getf (C := RX0) (T := TX0) (N := 15) in_X0 (by decide) rfl 0 (by decide) rfl rfl q245 rfl dX0_deskOf_6 (v := au_r XN) (congrArg au_q (fx_XO_0 hF)) ?_
      refine au_getN (C := RX1) (T := TX1) (N := 11) in_X1 (by decide) rfl 1 (by decide) rfl rfl q189 rfl dX0_deskOf_9 (v := au_r XNrow) (congrArg au_q (fx_XN_1 hF)) ?_
      refine au_iconst dX0_deskOf_12 rfl rfl ?_
      refine au_iald dX0_deskOf_13 rfl (by omega) (by show _ < ((204 : Nat) : Int); omega) (v := au_i (sn)) (congrArg au_i (hSn)) ?_
      refine au_icmp_ge (tgt := 65) dX0_deskOf_14 (by decide) (fun c14 => ?_) (fun c14 => ?_)
      · refine au_iload_n dX0_deskOf_65 rfl ?_
        exact au_iret dX0_deskOf_66 rfl rfl (Nat.le_of_ble_eq_true rfl) (Nat.le_of_ble_eq_true rfl) (au_pe (by rw [show sn.toNat = k by omega]) rfl)
      · have hd := dkN_bd Ap o (-1) k
        refine au_iload_n dX0_deskOf_17 rfl ?_
        refine au_aload_n dX0_deskOf_18 rfl ?_
        refine au_getf (C := RX0) (T := TX0) (N := 15) in_X0 (by decide) rfl 0 (by decide) rfl rfl q245 rfl dX0_deskOf_19 (v := au_r XN) (congrArg au_q (fx_XO_0 hF)) ?_
        refine au_getN (C := RX1) (T := TX1) (N := 11) in_X1 (by decide) rfl 1 (by decide) rfl rfl q189 rfl dX0_deskOf_22 (v := au_r XNrow) (congrArg au_q (fx_XN_1 hF)) ?_
        refine au_iload_n dX0_deskOf_25 rfl ?_
        refine au_iconst dX0_deskOf_26 rfl rfl ?_
        refine au_callSp (n := 2) (kX0_at G (k : Int) 4 (mi, si, hi, sl, r, nx) (by omega) (by omega) (by omega) (by omega)) (lw_S q898 q899 q130 q900) (by decide +kernel) rfl rfl rfl (Nat.le_of_ble_eq_true rfl) (Nat.le_of_ble_eq_true rfl) (Nat.le_of_ble_eq_true rfl) (Nat.le_of_ble_eq_true rfl) (Nat.le_of_ble_eq_true rfl) dX0_deskOf_27 ?_
        refine au_iald dX0_deskOf_30 rfl (by omega) (by show _ < ((204 : Nat) : Int); omega) (v := au_i (Ap (k : Int) 4)) (congrArg au_i (hAp _ _ (by omega) (by omega) (by omega) (by omega))) ?_
        refine au_iconst dX0_deskOf_31 rfl rfl ?_
        refine au_icmp_eq (tgt := 56) dX0_deskOf_32 (by decide) (fun c32 => ?_) (fun c32 => ?_)
        · refine au_iconst dX0_deskOf_56 rfl rfl ?_
          refine au_iadd dX0_deskOf_57 (by omega) (by omega) ?_
          refine au_istore_n dX0_deskOf_58 (show 2 < 4 by decide) ?_
          show au_Go G _ _ 59 [some (au_r XO), some (au_i o), some (au_i ((dkN Ap o (-1) k) + 0)), some (au_i (k : Int))] [] (mi, si, hi, sl, r, nx) 0 0
          refine au_iinc dX0_deskOf_59 rfl (show 3 < 4 by decide) (by omega) (by omega) (by decide) (by decide) ?_
          show au_Go G _ _ 62 [some (au_r XO), some (au_i o), some (au_i ((dkN Ap o (-1) k) + 0)), some (au_i ((k : Int) + 1))] [] (mi, si, hi, sl, r, nx) 0 0
          refine au_goto (tgt := 4) dX0_deskOf_62 (by decide) ?_
          have e1 : ∀ z : Int, z = dkN Ap o (-1) (k + 1) → au_Go G (yX0_deskOf.cls, cX0_deskOf, 4, (some .int), au_rm 1 0 0, yX0_deskOf.name) (au_QM G (au_rm 1 0 0) (au_pure (au_i (dkN Ap o (-1) sn.toNat)) (mi, si, hi, sl, r, nx))) 4 [some (au_r XO), some (au_i o), some (au_i z), some (au_i ((k : Int) + 1))] [] (mi, si, hi, sl, r, nx) 0 0 := fun z hz => by rw [hz]; exact ih (k + 1) (by omega) (by omega)
          exact e1 _ (by simp only [dkN]; split <;> omega)
        · refine au_aload_n dX0_deskOf_35 rfl ?_
          refine au_getf (C := RX0) (T := TX0) (N := 15) in_X0 (by decide) rfl 0 (by decide) rfl rfl q245 rfl dX0_deskOf_36 (v := au_r XN) (congrArg au_q (fx_XO_0 hF)) ?_
          refine au_getN (C := RX1) (T := TX1) (N := 11) in_X1 (by decide) rfl 1 (by decide) rfl rfl q189 rfl dX0_deskOf_39 (v := au_r XNrow) (congrArg au_q (fx_XN_1 hF)) ?_
          refine au_iload_n dX0_deskOf_42 rfl ?_
          refine au_iconst dX0_deskOf_43 rfl rfl ?_
          refine au_callSp (n := 2) (kX0_at G (k : Int) 2 (mi, si, hi, sl, r, nx) (by omega) (by omega) (by omega) (by omega)) (lw_S q898 q899 q130 q900) (by decide +kernel) rfl rfl rfl (Nat.le_of_ble_eq_true rfl) (Nat.le_of_ble_eq_true rfl) (Nat.le_of_ble_eq_true rfl) (Nat.le_of_ble_eq_true rfl) (Nat.le_of_ble_eq_true rfl) dX0_deskOf_44 ?_
          refine au_iald dX0_deskOf_47 rfl (by omega) (by show _ < ((204 : Nat) : Int); omega) (v := au_i (Ap (k : Int) 2)) (congrArg au_i (hAp _ _ (by omega) (by omega) (by omega) (by omega))) ?_
          refine au_iload_n dX0_deskOf_48 rfl ?_
          refine au_icmp_ne (tgt := 56) dX0_deskOf_49 (by decide) (fun c49 => ?_) (fun c49 => ?_)
          · refine au_iconst dX0_deskOf_56 rfl rfl ?_
            refine au_iadd dX0_deskOf_57 (by omega) (by omega) ?_
            refine au_istore_n dX0_deskOf_58 (show 2 < 4 by decide) ?_
            show au_Go G _ _ 59 [some (au_r XO), some (au_i o), some (au_i ((dkN Ap o (-1) k) + 0)), some (au_i (k : Int))] [] (mi, si, hi, sl, r, nx) 0 0
            refine au_iinc dX0_deskOf_59 rfl (show 3 < 4 by decide) (by omega) (by omega) (by decide) (by decide) ?_
            show au_Go G _ _ 62 [some (au_r XO), some (au_i o), some (au_i ((dkN Ap o (-1) k) + 0)), some (au_i ((k : Int) + 1))] [] (mi, si, hi, sl, r, nx) 0 0
            refine au_goto (tgt := 4) dX0_deskOf_62 (by decide) ?_
            have e1 : ∀ z : Int, z = dkN Ap o (-1) (k + 1) → au_Go G (yX0_deskOf.cls, cX0_deskOf, 4, (some .int), au_rm 1 0 0, yX0_deskOf.name) (au_QM G (au_rm 1 0 0) (au_pure (au_i (dkN Ap o (-1) sn.toNat)) (mi, si, hi, sl, r, nx))) 4 [some (au_r XO), some (au_i o), some (au_i z), some (au_i ((k : Int) + 1))] [] (mi, si, hi, sl, r, nx) 0 0 := fun z hz => by rw [hz]; exact ih (k + 1) (by omega) (by omega)
            exact e1 _ (by simp only [dkN]; split <;> omega)
          · refine au_iconst dX0_deskOf_52 rfl rfl ?_
            refine au_goto (tgt := 57) dX0_deskOf_53 (by decide) ?_
            refine au_iadd dX0_deskOf_57 (by omega) (by omega) ?_
            refine au_istore_n dX0_deskOf_58 (show 2 < 4 by decide) ?_
            show au_Go G _ _ 59 [some (au_r XO), some (au_i o), some (au_i ((dkN Ap o (-1) k) + 1)), some (au_i (k : Int))] [] (mi, si, hi, sl, r, nx) 0 0
            refine au_iinc dX0_deskOf_59 rfl (show 3 < 4 by decide) (by omega) (by omega) (by decide) (by decide) ?_
            show au_Go G _ _ 62 [some (au_r XO), some (au_i o), some (au_i ((dkN Ap o (-1) k) + 1)), some (au_i ((k : Int) + 1))] [] (mi, si, hi, sl, r, nx) 0 0
            refine au_goto (tgt := 4) dX0_deskOf_62 (by decide) ?_
            have e1 : ∀ z : Int, z = dkN Ap o (-1) (k + 1) → au_Go G (yX0_deskOf.cls, cX0_deskOf, 4, (some .int), au_rm 1 0 0, yX0_deskOf.name) (au_QM G (au_rm 1 0 0) (au_pure (au_i (dkN Ap o (-1) sn.toNat)) (mi, si, hi, sl, r, nx))) 4 [some (au_r XO), some (au_i o), some (au_i z), some (au_i ((k : Int) + 1))] [] (mi, si, hi, sl, r, nx) 0 0 := fun z hz => by rw [hz]; exact ih (k + 1) (by omega) (by omega)
            exact e1 _ (by simp only [dkN]; split <;> omega)
  exact hl 11 0 (by omega) (by omega)
theorem kX0_stuck (G : au_G) (mi si hi sl : au_A → Int → Int) (r : au_A → Int → Option au_A) (nx : Nat) (hF : Fix r) (n : Int) (hN : mi XNn 0 = n) (hn : 0 ≤ n ∧ n ≤ 10) (sn : Int) (hSn : mi XNrow 2 = sn) (hs : 0 ≤ sn ∧ sn ≤ 10) (Ap : Int → Int → Int) (hAp : ∀ k w, 0 ≤ k → k < 10 → 0 ≤ w → w ≤ 6 → mi XNrow (3 + 7 * k + w) = Ap k w) : au_Ctr G yX0_stuck cX0_stuck 3 (some .int) 2 0 0 [au_r XO] (mi, si, hi, sl, r, nx) (au_pure (au_i (stB (fun o => dkN Ap o (-1) sn.toNat) n.toNat)) (mi, si, hi, sl, r, nx)) := by
  refine au_of (by decide) (Nat.le_of_ble_eq_true rfl) ?_
  show au_Go G _ _ 0 [some (au_r XO), none, none] [] (mi, si, hi, sl, r, nx) 0 0
  refine au_iconst dX0_stuck_0 rfl rfl ?_
  refine au_istore_n dX0_stuck_1 (show 1 < 3 by decide) ?_
  show au_Go G _ _ 2 [some (au_r XO), some (au_i (-1)), none] [] (mi, si, hi, sl, r, nx) 0 0
  refine au_iconst dX0_stuck_2 rfl rfl ?_
  refine au_istore_n dX0_stuck_3 (show 2 < 3 by decide) ?_
  show au_Go G _ _ 4 [some (au_r XO), some (au_i (-1)), some (au_i 0)] [] (mi, si, hi, sl, r, nx) 0 0
  have hl : ∀ (f : Nat) (k : Nat), ((k : Int) ≤ n) → (n - (k : Int)) < (f : Int) → au_Go G (yX0_stuck.cls, cX0_stuck, 3, (some .int), au_rm 2 0 0, yX0_stuck.name) (au_QM G (au_rm 2 0 0) (au_pure (au_i (stB (fun o => dkN Ap o (-1) sn.toNat) n.toNat)) (mi, si, hi, sl, r, nx))) 4 [some (au_r XO), some (au_i (stB (fun o => dkN Ap o (-1) sn.toNat) k)), some (au_i (k : Int))] [] (mi, si, hi, sl, r, nx) 0 0 := by
    intro f
    induction f with
    | zero => intro k h1 hf; exfalso; omega
    | succ f ih =>
      intro k h1 hf
      refine au_iload_n dX0_stuck_4 rfl ?_
      refine au_aload_n dX0_stuck_5 rfl ?_
      refine au_getf (C := RX0) (T := TX0) (N := 15) in_X0 (by decide) rfl 0 (by decide) rfl rfl q245 rfl dX0_stuck_6 (v := au_r XN) (congrArg au_q (fx_XO_0 hF)) ?_
      refine au_getN (C := RX1) (T := TX1) (N := 11) in_X1 (by decide) rfl 0 (by decide) rfl rfl q187 rfl dX0_stuck_9 (v := au_r XNn) (congrArg au_q (fx_XN_0 hF)) ?_
      refine au_iconst dX0_stuck_12 rfl rfl ?_
      refine au_iald dX0_stuck_13 rfl (by omega) (by show _ < ((6 : Nat) : Int); omega) (v := au_i (n)) (congrArg au_i (hN)) ?_
      refine au_icmp_ge (tgt := 47) dX0_stuck_14 (by decide) (fun c14 => ?_) (fun c14 => ?_)
      · refine au_iload_n dX0_stuck_47 rfl ?_
        exact au_iret dX0_stuck_48 rfl rfl (Nat.le_of_ble_eq_true rfl) (Nat.le_of_ble_eq_true rfl) (au_pe (by rw [show n.toNat = k by omega]) rfl)
      · refine au_aload_n dX0_stuck_17 rfl ?_
        refine au_iload_n dX0_stuck_18 rfl ?_
        refine au_callVp (n := 1) (kX0_deskOf G (k : Int) mi si hi sl r nx hF sn hSn hs Ap hAp ) (lw_V q1164 q1166 qs44 q130 q1167) rfl (by decide +kernel) (by decide) (T := TX0) (N := 15) rfl rfl rfl rfl (Nat.le_of_ble_eq_true rfl) (Nat.le_of_ble_eq_true rfl) (Nat.le_of_ble_eq_true rfl) (Nat.le_of_ble_eq_true rfl) (Nat.le_of_ble_eq_true rfl) dX0_stuck_19 ?_
        refine au_iload_n dX0_stuck_22 rfl ?_
        refine au_iconst dX0_stuck_23 rfl rfl ?_
        refine au_icmp_ne (tgt := 31) dX0_stuck_24 (by decide) (fun c24 => ?_) (fun c24 => ?_)
        · refine au_aload_n dX0_stuck_31 rfl ?_
          refine au_iload_n dX0_stuck_32 rfl ?_
          refine au_callVp (n := 1) (kX0_deskOf G (stB (fun o => dkN Ap o (-1) sn.toNat) k) mi si hi sl r nx hF sn hSn hs Ap hAp ) (lw_V q1164 q1166 qs44 q130 q1167) rfl (by decide +kernel) (by decide) (T := TX0) (N := 15) rfl rfl rfl rfl (Nat.le_of_ble_eq_true rfl) (Nat.le_of_ble_eq_true rfl) (Nat.le_of_ble_eq_true rfl) (Nat.le_of_ble_eq_true rfl) (Nat.le_of_ble_eq_true rfl) dX0_stuck_33 ?_
          refine au_icmp_le (tgt := 41) dX0_stuck_36 (by decide) (fun c36 => ?_) (fun c36 => ?_)
          · refine au_iinc dX0_stuck_41 rfl (show 2 < 3 by decide) (by omega) (by omega) (by decide) (by decide) ?_
            show au_Go G _ _ 44 [some (au_r XO), some (au_i (stB (fun o => dkN Ap o (-1) sn.toNat) k)), some (au_i ((k : Int) + 1))] [] (mi, si, hi, sl, r, nx) 0 0
            refine au_goto (tgt := 4) dX0_stuck_44 (by decide) ?_
            have e1 : ∀ z : Int, z = stB (fun o => dkN Ap o (-1) sn.toNat) (k + 1) → au_Go G (yX0_stuck.cls, cX0_stuck, 3, (some .int), au_rm 2 0 0, yX0_stuck.name) (au_QM G (au_rm 2 0 0) (au_pure (au_i (stB (fun o => dkN Ap o (-1) sn.toNat) n.toNat)) (mi, si, hi, sl, r, nx))) 4 [some (au_r XO), some (au_i z), some (au_i ((k : Int) + 1))] [] (mi, si, hi, sl, r, nx) 0 0 := fun z hz => by rw [hz]; exact ih (k + 1) (by omega) (by omega)
            exact e1 _ (by simp only [stB]; split <;> (try split at *) <;> omega)
          · refine au_iload_n dX0_stuck_39 rfl ?_
            refine au_istore_n dX0_stuck_40 (show 1 < 3 by decide) ?_
            show au_Go G _ _ 41 [some (au_r XO), some (au_i (k : Int)), some (au_i (k : Int))] [] (mi, si, hi, sl, r, nx) 0 0
            refine au_iinc dX0_stuck_41 rfl (show 2 < 3 by decide) (by omega) (by omega) (by decide) (by decide) ?_
            show au_Go G _ _ 44 [some (au_r XO), some (au_i (k : Int)), some (au_i ((k : Int) + 1))] [] (mi, si, hi, sl, r, nx) 0 0
            refine au_goto (tgt := 4) dX0_stuck_44 (by decide) ?_
            have e1 : ∀ z : Int, z = stB (fun o => dkN Ap o (-1) sn.toNat) (k + 1) → au_Go G (yX0_stuck.cls, cX0_stuck, 3, (some .int), au_rm 2 0 0, yX0_stuck.name) (au_QM G (au_rm 2 0 0) (au_pure (au_i (stB (fun o => dkN Ap o (-1) sn.toNat) n.toNat)) (mi, si, hi, sl, r, nx))) 4 [some (au_r XO), some (au_i z), some (au_i ((k : Int) + 1))] [] (mi, si, hi, sl, r, nx) 0 0 := fun z hz => by rw [hz]; exact ih (k + 1) (by omega) (by omega)
            exact e1 _ (by simp only [stB]; split <;> (try split at *) <;> omega)
        · refine au_iconst dX0_stuck_27 rfl rfl ?_
          refine au_goto (tgt := 36) dX0_stuck_28 (by decide) ?_
          refine au_icmp_le (tgt := 41) dX0_stuck_36 (by decide) (fun c36 => ?_) (fun c36 => ?_)
          · refine au_iinc dX0_stuck_41 rfl (show 2 < 3 by decide) (by omega) (by omega) (by decide) (by decide) ?_
            show au_Go G _ _ 44 [some (au_r XO), some (au_i (stB (fun o => dkN Ap o (-1) sn.toNat) k)), some (au_i ((k : Int) + 1))] [] (mi, si, hi, sl, r, nx) 0 0
            refine au_goto (tgt := 4) dX0_stuck_44 (by decide) ?_
            have e1 : ∀ z : Int, z = stB (fun o => dkN Ap o (-1) sn.toNat) (k + 1) → au_Go G (yX0_stuck.cls, cX0_stuck, 3, (some .int), au_rm 2 0 0, yX0_stuck.name) (au_QM G (au_rm 2 0 0) (au_pure (au_i (stB (fun o => dkN Ap o (-1) sn.toNat) n.toNat)) (mi, si, hi, sl, r, nx))) 4 [some (au_r XO), some (au_i z), some (au_i ((k : Int) + 1))] [] (mi, si, hi, sl, r, nx) 0 0 := fun z hz => by rw [hz]; exact ih (k + 1) (by omega) (by omega)
            exact e1 _ (by simp only [stB]; split <;> (try split at *) <;> omega)
          · refine au_iload_n dX0_stuck_39 rfl ?_
            refine au_istore_n dX0_stuck_40 (show 1 < 3 by decide) ?_
            show au_Go G _ _ 41 [some (au_r XO), some (au_i (k : Int)), some (au_i (k : Int))] [] (mi, si, hi, sl, r, nx) 0 0
            refine au_iinc dX0_stuck_41 rfl (show 2 < 3 by decide) (by omega) (by omega) (by decide) (by decide) ?_
            show au_Go G _ _ 44 [some (au_r XO), some (au_i (k : Int)), some (au_i ((k : Int) + 1))] [] (mi, si, hi, sl, r, nx) 0 0
            refine au_goto (tgt := 4) dX0_stuck_44 (by decide) ?_
            have e1 : ∀ z : Int, z = stB (fun o => dkN Ap o (-1) sn.toNat) (k + 1) → au_Go G (yX0_stuck.cls, cX0_stuck, 3, (some .int), au_rm 2 0 0, yX0_stuck.name) (au_QM G (au_rm 2 0 0) (au_pure (au_i (stB (fun o => dkN Ap o (-1) sn.toNat) n.toNat)) (mi, si, hi, sl, r, nx))) 4 [some (au_r XO), some (au_i z), some (au_i ((k : Int) + 1))] [] (mi, si, hi, sl, r, nx) 0 0 := fun z hz => by rw [hz]; exact ih (k + 1) (by omega) (by omega)
            exact e1 _ (by simp only [stB]; split <;> (try split at *) <;> omega)
  exact hl 11 0 (by omega) (by omega)
theorem kX0_eldest (G : au_G) (mi si hi sl : au_A → Int → Int) (r : au_A → Int → Option au_A) (nx : Nat) (hF : Fix r) (sn : Int) (hSn : mi XNrow 2 = sn) (hs : 0 ≤ sn ∧ sn ≤ 10) (Ap : Int → Int → Int) (hAp : ∀ k w, 0 ≤ k → k < 10 → 0 ≤ w → w ≤ 6 → mi XNrow (3 + 7 * k + w) = Ap k w) : au_Ctr G yX0_eldest cX0_eldest 3 (some .int) 1 0 0 [au_r XO] (mi, si, hi, sl, r, nx) (au_pure (au_i (elB Ap sn.toNat)) (mi, si, hi, sl, r, nx)) := by
  refine au_of (by decide) (Nat.le_of_ble_eq_true rfl) ?_
  show au_Go G _ _ 0 [some (au_r XO), none, none] [] (mi, si, hi, sl, r, nx) 0 0
  refine au_iconst dX0_eldest_0 rfl rfl ?_
  refine au_istore_n dX0_eldest_1 (show 1 < 3 by decide) ?_
  show au_Go G _ _ 2 [some (au_r XO), some (au_i (-1)), none] [] (mi, si, hi, sl, r, nx) 0 0
  refine au_iconst dX0_eldest_2 rfl rfl ?_
  refine au_istore_n dX0_eldest_3 (show 2 < 3 by decide) ?_
  show au_Go G _ _ 4 [some (au_r XO), some (au_i (-1)), some (au_i 0)] [] (mi, si, hi, sl, r, nx) 0 0
  have hl : ∀ (f : Nat) (k : Nat), ((k : Int) ≤ sn) → (sn - (k : Int)) < (f : Int) → au_Go G (yX0_eldest.cls, cX0_eldest, 3, (some .int), au_rm 1 0 0, yX0_eldest.name) (au_QM G (au_rm 1 0 0) (au_pure (au_i (elB Ap sn.toNat)) (mi, si, hi, sl, r, nx))) 4 [some (au_r XO), some (au_i (elB Ap k)), some (au_i (k : Int))] [] (mi, si, hi, sl, r, nx) 0 0 := by
    intro f
    induction f with
    | zero => intro k h1 hf; exfalso; omega
    | succ f ih =>
      intro k h1 hf
      refine au_iload_n dX0_eldest_4 rfl ?_
      refine au_aload_n dX0_eldest_5 rfl ?_
      refine au_getf (C := RX0) (T := TX0) (N := 15) in_X0 (by decide) rfl 0 (by decide) rfl rfl q245 rfl dX0_eldest_6 (v := au_r XN) (congrArg au_q (fx_XO_0 hF)) ?_
      refine au_getN (C := RX1) (T := TX1) (N := 11) in_X1 (by decide) rfl 1 (by decide) rfl rfl q189 rfl dX0_eldest_9 (v := au_r XNrow) (congrArg au_q (fx_XN_1 hF)) ?_
      refine au_iconst dX0_eldest_12 rfl rfl ?_
      refine au_iald dX0_eldest_13 rfl (by omega) (by show _ < ((204 : Nat) : Int); omega) (v := au_i (sn)) (congrArg au_i (hSn)) ?_
      refine au_icmp_ge (tgt := 76) dX0_eldest_14 (by decide) (fun c14 => ?_) (fun c14 => ?_)
      · refine au_iload_n dX0_eldest_76 rfl ?_
        exact au_iret dX0_eldest_77 rfl rfl (Nat.le_of_ble_eq_true rfl) (Nat.le_of_ble_eq_true rfl) (au_pe (by rw [show sn.toNat = k by omega]) rfl)
      · have hd := elB_bd Ap k
        refine au_aload_n dX0_eldest_17 rfl ?_
        refine au_getf (C := RX0) (T := TX0) (N := 15) in_X0 (by decide) rfl 0 (by decide) rfl rfl q245 rfl dX0_eldest_18 (v := au_r XN) (congrArg au_q (fx_XO_0 hF)) ?_
        refine au_getN (C := RX1) (T := TX1) (N := 11) in_X1 (by decide) rfl 1 (by decide) rfl rfl q189 rfl dX0_eldest_21 (v := au_r XNrow) (congrArg au_q (fx_XN_1 hF)) ?_
        refine au_iload_n dX0_eldest_24 rfl ?_
        refine au_iconst dX0_eldest_25 rfl rfl ?_
        refine au_callSp (n := 2) (kX0_at G (k : Int) 4 (mi, si, hi, sl, r, nx) (by omega) (by omega) (by omega) (by omega)) (lw_S q898 q899 q130 q900) (by decide +kernel) rfl rfl rfl (Nat.le_of_ble_eq_true rfl) (Nat.le_of_ble_eq_true rfl) (Nat.le_of_ble_eq_true rfl) (Nat.le_of_ble_eq_true rfl) (Nat.le_of_ble_eq_true rfl) dX0_eldest_26 ?_
        refine au_iald dX0_eldest_29 rfl (by omega) (by show _ < ((204 : Nat) : Int); omega) (v := au_i (Ap (k : Int) 4)) (congrArg au_i (hAp _ _ (by omega) (by omega) (by omega) (by omega))) ?_
        refine au_iconst dX0_eldest_30 rfl rfl ?_
        refine au_icmp_eq (tgt := 70) dX0_eldest_31 (by decide) (fun c31 => ?_) (fun c31 => ?_)
        · refine au_iinc dX0_eldest_70 rfl (show 2 < 3 by decide) (by omega) (by omega) (by decide) (by decide) ?_
          show au_Go G _ _ 73 [some (au_r XO), some (au_i (elB Ap k)), some (au_i ((k : Int) + 1))] [] (mi, si, hi, sl, r, nx) 0 0
          refine au_goto (tgt := 4) dX0_eldest_73 (by decide) ?_
          have e1 : ∀ z : Int, z = elB Ap (k + 1) → au_Go G (yX0_eldest.cls, cX0_eldest, 3, (some .int), au_rm 1 0 0, yX0_eldest.name) (au_QM G (au_rm 1 0 0) (au_pure (au_i (elB Ap sn.toNat)) (mi, si, hi, sl, r, nx))) 4 [some (au_r XO), some (au_i z), some (au_i ((k : Int) + 1))] [] (mi, si, hi, sl, r, nx) 0 0 := fun z hz => by rw [hz]; exact ih (k + 1) (by omega) (by omega)
          exact e1 _ (by simp only [elB]; split <;> omega)
        · refine au_iload_n dX0_eldest_34 rfl ?_
          refine au_iconst dX0_eldest_35 rfl rfl ?_
          refine au_icmp_eq (tgt := 68) dX0_eldest_36 (by decide) (fun c36 => ?_) (fun c36 => ?_)
          · refine au_iload_n dX0_eldest_68 rfl ?_
            refine au_istore_n dX0_eldest_69 (show 1 < 3 by decide) ?_
            show au_Go G _ _ 70 [some (au_r XO), some (au_i (k : Int)), some (au_i (k : Int))] [] (mi, si, hi, sl, r, nx) 0 0
            refine au_iinc dX0_eldest_70 rfl (show 2 < 3 by decide) (by omega) (by omega) (by decide) (by decide) ?_
            show au_Go G _ _ 73 [some (au_r XO), some (au_i (k : Int)), some (au_i ((k : Int) + 1))] [] (mi, si, hi, sl, r, nx) 0 0
            refine au_goto (tgt := 4) dX0_eldest_73 (by decide) ?_
            have e1 : ∀ z : Int, z = elB Ap (k + 1) → au_Go G (yX0_eldest.cls, cX0_eldest, 3, (some .int), au_rm 1 0 0, yX0_eldest.name) (au_QM G (au_rm 1 0 0) (au_pure (au_i (elB Ap sn.toNat)) (mi, si, hi, sl, r, nx))) 4 [some (au_r XO), some (au_i z), some (au_i ((k : Int) + 1))] [] (mi, si, hi, sl, r, nx) 0 0 := fun z hz => by rw [hz]; exact ih (k + 1) (by omega) (by omega)
            exact e1 _ (by simp only [elB]; split <;> omega)
          · refine au_aload_n dX0_eldest_39 rfl ?_
            refine au_getf (C := RX0) (T := TX0) (N := 15) in_X0 (by decide) rfl 0 (by decide) rfl rfl q245 rfl dX0_eldest_40 (v := au_r XN) (congrArg au_q (fx_XO_0 hF)) ?_
            refine au_getN (C := RX1) (T := TX1) (N := 11) in_X1 (by decide) rfl 1 (by decide) rfl rfl q189 rfl dX0_eldest_43 (v := au_r XNrow) (congrArg au_q (fx_XN_1 hF)) ?_
            refine au_iload_n dX0_eldest_46 rfl ?_
            refine au_iconst dX0_eldest_47 rfl rfl ?_
            refine au_callSp (n := 2) (kX0_at G (k : Int) 5 (mi, si, hi, sl, r, nx) (by omega) (by omega) (by omega) (by omega)) (lw_S q898 q899 q130 q900) (by decide +kernel) rfl rfl rfl (Nat.le_of_ble_eq_true rfl) (Nat.le_of_ble_eq_true rfl) (Nat.le_of_ble_eq_true rfl) (Nat.le_of_ble_eq_true rfl) (Nat.le_of_ble_eq_true rfl) dX0_eldest_48 ?_
            refine au_iald dX0_eldest_51 rfl (by omega) (by show _ < ((204 : Nat) : Int); omega) (v := au_i (Ap (k : Int) 5)) (congrArg au_i (hAp _ _ (by omega) (by omega) (by omega) (by omega))) ?_
            refine au_aload_n dX0_eldest_52 rfl ?_
            refine au_getf (C := RX0) (T := TX0) (N := 15) in_X0 (by decide) rfl 0 (by decide) rfl rfl q245 rfl dX0_eldest_53 (v := au_r XN) (congrArg au_q (fx_XO_0 hF)) ?_
            refine au_getN (C := RX1) (T := TX1) (N := 11) in_X1 (by decide) rfl 1 (by decide) rfl rfl q189 rfl dX0_eldest_56 (v := au_r XNrow) (congrArg au_q (fx_XN_1 hF)) ?_
            refine au_iload_n dX0_eldest_59 rfl ?_
            refine au_iconst dX0_eldest_60 rfl rfl ?_
            refine au_callSp (n := 2) (kX0_at G (elB Ap k) 5 (mi, si, hi, sl, r, nx) (by omega) (by omega) (by omega) (by omega)) (lw_S q898 q899 q130 q900) (by decide +kernel) rfl rfl rfl (Nat.le_of_ble_eq_true rfl) (Nat.le_of_ble_eq_true rfl) (Nat.le_of_ble_eq_true rfl) (Nat.le_of_ble_eq_true rfl) (Nat.le_of_ble_eq_true rfl) dX0_eldest_61 ?_
            refine au_iald dX0_eldest_64 rfl (by omega) (by show _ < ((204 : Nat) : Int); omega) (v := au_i (Ap (elB Ap k) 5)) (congrArg au_i (hAp _ _ (by omega) (by omega) (by omega) (by omega))) ?_
            refine au_icmp_ge (tgt := 70) dX0_eldest_65 (by decide) (fun c65 => ?_) (fun c65 => ?_)
            · refine au_iinc dX0_eldest_70 rfl (show 2 < 3 by decide) (by omega) (by omega) (by decide) (by decide) ?_
              show au_Go G _ _ 73 [some (au_r XO), some (au_i (elB Ap k)), some (au_i ((k : Int) + 1))] [] (mi, si, hi, sl, r, nx) 0 0
              refine au_goto (tgt := 4) dX0_eldest_73 (by decide) ?_
              have e1 : ∀ z : Int, z = elB Ap (k + 1) → au_Go G (yX0_eldest.cls, cX0_eldest, 3, (some .int), au_rm 1 0 0, yX0_eldest.name) (au_QM G (au_rm 1 0 0) (au_pure (au_i (elB Ap sn.toNat)) (mi, si, hi, sl, r, nx))) 4 [some (au_r XO), some (au_i z), some (au_i ((k : Int) + 1))] [] (mi, si, hi, sl, r, nx) 0 0 := fun z hz => by rw [hz]; exact ih (k + 1) (by omega) (by omega)
              exact e1 _ (by simp only [elB]; split <;> omega)
            · refine au_iload_n dX0_eldest_68 rfl ?_
              refine au_istore_n dX0_eldest_69 (show 1 < 3 by decide) ?_
              show au_Go G _ _ 70 [some (au_r XO), some (au_i (k : Int)), some (au_i (k : Int))] [] (mi, si, hi, sl, r, nx) 0 0
              refine au_iinc dX0_eldest_70 rfl (show 2 < 3 by decide) (by omega) (by omega) (by decide) (by decide) ?_
              show au_Go G _ _ 73 [some (au_r XO), some (au_i (k : Int)), some (au_i ((k : Int) + 1))] [] (mi, si, hi, sl, r, nx) 0 0
              refine au_goto (tgt := 4) dX0_eldest_73 (by decide) ?_
              have e1 : ∀ z : Int, z = elB Ap (k + 1) → au_Go G (yX0_eldest.cls, cX0_eldest, 3, (some .int), au_rm 1 0 0, yX0_eldest.name) (au_QM G (au_rm 1 0 0) (au_pure (au_i (elB Ap sn.toNat)) (mi, si, hi, sl, r, nx))) 4 [some (au_r XO), some (au_i z), some (au_i ((k : Int) + 1))] [] (mi, si, hi, sl, r, nx) 0 0 := fun z hz => by rw [hz]; exact ih (k + 1) (by omega) (by omega)
              exact e1 _ (by simp only [elB]; split <;> omega)
  exact hl 11 0 (by omega) (by omega)
theorem kX0_sorry (G : au_G) (o : Int) (mi si hi sl : au_A → Int → Int) (r : au_A → Int → Option au_A) (nx : Nat) (hF : Fix r) (n : Int) (hN : mi XNn 0 = n) (hn : 0 ≤ n ∧ n ≤ 10) (sn : Int) (hSn : mi XNrow 2 = sn) (hs : 0 ≤ sn ∧ sn ≤ 10) (Ap : Int → Int → Int) (hAp : ∀ k w, 0 ≤ k → k < 10 → 0 ≤ w → w ≤ 6 → mi XNrow (3 + 7 * k + w) = Ap k w) : au_Ctr G yX0_sorry cX0_sorry 4 (some .int) 2 0 0 [au_r XO, au_i o] (mi, si, hi, sl, r, nx) (au_pure (au_i (if o = -1 ∨ (0 ≤ o ∧ o < n) then syN Ap o sn.toNat else -2)) (mi, si, hi, sl, r, nx)) := by
  refine au_of (by decide) (Nat.le_of_ble_eq_true rfl) ?_
  show au_Go G _ _ 0 [some (au_r XO), some (au_i o), none, none] [] (mi, si, hi, sl, r, nx) 0 0
  refine au_iload_n dX0_sorry_0 rfl ?_
  refine au_iconst dX0_sorry_1 rfl rfl ?_
  refine au_icmp_eq (tgt := 16) dX0_sorry_2 (by decide) (fun c2 => ?_) (fun c2 => ?_)
  · refine au_iconst dX0_sorry_16 rfl rfl ?_
    refine au_istore_n dX0_sorry_17 (show 2 < 4 by decide) ?_
    show au_Go G _ _ 18 [some (au_r XO), some (au_i o), some (au_i 0), none] [] (mi, si, hi, sl, r, nx) 0 0
    refine au_iconst dX0_sorry_18 rfl rfl ?_
    refine au_istore_n dX0_sorry_19 (show 3 < 4 by decide) ?_
    show au_Go G _ _ 20 [some (au_r XO), some (au_i o), some (au_i 0), some (au_i 0)] [] (mi, si, hi, sl, r, nx) 0 0
    have hl : ∀ (f : Nat) (k : Nat), ((k : Int) ≤ sn) → (sn - (k : Int)) < (f : Int) → au_Go G (yX0_sorry.cls, cX0_sorry, 4, (some .int), au_rm 2 0 0, yX0_sorry.name) (au_QM G (au_rm 2 0 0) (au_pure (au_i (if o = -1 ∨ (0 ≤ o ∧ o < n) then syN Ap o sn.toNat else -2)) (mi, si, hi, sl, r, nx))) 20 [some (au_r XO), some (au_i o), some (au_i (syN Ap o k)), some (au_i (k : Int))] [] (mi, si, hi, sl, r, nx) 0 0 := by
      intro f
      induction f with
      | zero => intro k h1 hf; exfalso; omega
      | succ f ih =>
        intro k h1 hf
        refine au_iload_n dX0_sorry_20 rfl ?_
        refine au_aload_n dX0_sorry_21 rfl ?_
        refine au_getf (C := RX0) (T := TX0) (N := 15) in_X0 (by decide) rfl 0 (by decide) rfl rfl q245 rfl dX0_sorry_22 (v := au_r XN) (congrArg au_q (fx_XO_0 hF)) ?_
        refine au_getN (C := RX1) (T := TX1) (N := 11) in_X1 (by decide) rfl 1 (by decide) rfl rfl q189 rfl dX0_sorry_25 (v := au_r XNrow) (congrArg au_q (fx_XN_1 hF)) ?_
        refine au_iconst dX0_sorry_28 rfl rfl ?_
        refine au_iald dX0_sorry_29 rfl (by omega) (by show _ < ((204 : Nat) : Int); omega) (v := au_i (sn)) (congrArg au_i (hSn)) ?_
        refine au_icmp_ge (tgt := 98) dX0_sorry_30 (by decide) (fun c30 => ?_) (fun c30 => ?_)
        · refine au_iload_n dX0_sorry_98 rfl ?_
          exact au_iret dX0_sorry_99 rfl rfl (Nat.le_of_ble_eq_true rfl) (Nat.le_of_ble_eq_true rfl) (au_pe (by rw [if_pos (by omega), show sn.toNat = k by omega]) rfl)
        · refine au_iload_n dX0_sorry_33 rfl ?_
          refine au_aload_n dX0_sorry_34 rfl ?_
          refine au_getf (C := RX0) (T := TX0) (N := 15) in_X0 (by decide) rfl 0 (by decide) rfl rfl q245 rfl dX0_sorry_35 (v := au_r XN) (congrArg au_q (fx_XO_0 hF)) ?_
          refine au_getN (C := RX1) (T := TX1) (N := 11) in_X1 (by decide) rfl 1 (by decide) rfl rfl q189 rfl dX0_sorry_38 (v := au_r XNrow) (congrArg au_q (fx_XN_1 hF)) ?_
          refine au_iload_n dX0_sorry_41 rfl ?_
          refine au_iconst dX0_sorry_42 rfl rfl ?_
          refine au_callSp (n := 2) (kX0_at G (k : Int) 4 (mi, si, hi, sl, r, nx) (by omega) (by omega) (by omega) (by omega)) (lw_S q898 q899 q130 q900) (by decide +kernel) rfl rfl rfl (Nat.le_of_ble_eq_true rfl) (Nat.le_of_ble_eq_true rfl) (Nat.le_of_ble_eq_true rfl) (Nat.le_of_ble_eq_true rfl) (Nat.le_of_ble_eq_true rfl) dX0_sorry_43 ?_
          refine au_iald dX0_sorry_46 rfl (by omega) (by show _ < ((204 : Nat) : Int); omega) (v := au_i (Ap (k : Int) 4)) (congrArg au_i (hAp _ _ (by omega) (by omega) (by omega) (by omega))) ?_
          refine au_iconst dX0_sorry_47 rfl rfl ?_
          refine au_icmp_eq (tgt := 89) dX0_sorry_48 (by decide) (fun c48 => ?_) (fun c48 => ?_)
          · refine au_iconst dX0_sorry_89 rfl rfl ?_
            refine au_iaddW dX0_sorry_90 ?_
            refine au_istore_n dX0_sorry_91 (show 2 < 4 by decide) ?_
            show au_Go G _ _ 92 [some (au_r XO), some (au_i o), some (au_i (au_w ((syN Ap o k) + 0))), some (au_i (k : Int))] [] (mi, si, hi, sl, r, nx) 0 0
            refine au_iinc dX0_sorry_92 rfl (show 3 < 4 by decide) (by omega) (by omega) (by decide) (by decide) ?_
            show au_Go G _ _ 95 [some (au_r XO), some (au_i o), some (au_i (au_w ((syN Ap o k) + 0))), some (au_i ((k : Int) + 1))] [] (mi, si, hi, sl, r, nx) 0 0
            refine au_goto (tgt := 20) dX0_sorry_95 (by decide) ?_
            have e1 : ∀ z : Int, z = syN Ap o (k + 1) → au_Go G (yX0_sorry.cls, cX0_sorry, 4, (some .int), au_rm 2 0 0, yX0_sorry.name) (au_QM G (au_rm 2 0 0) (au_pure (au_i (if o = -1 ∨ (0 ≤ o ∧ o < n) then syN Ap o sn.toNat else -2)) (mi, si, hi, sl, r, nx))) 20 [some (au_r XO), some (au_i o), some (au_i z), some (au_i ((k : Int) + 1))] [] (mi, si, hi, sl, r, nx) 0 0 := fun z hz => by rw [hz]; exact ih (k + 1) (by omega) (by omega)
            exact e1 _ (by simp only [syN]; split <;> first | rfl | (exfalso; omega))
          · refine au_iload_n dX0_sorry_51 rfl ?_
            refine au_iconst dX0_sorry_52 rfl rfl ?_
            refine au_icmp_eq (tgt := 73) dX0_sorry_53 (by decide) (fun c53 => ?_) (fun c53 => ?_)
            · refine au_aload_n dX0_sorry_73 rfl ?_
              refine au_getf (C := RX0) (T := TX0) (N := 15) in_X0 (by decide) rfl 0 (by decide) rfl rfl q245 rfl dX0_sorry_74 (v := au_r XN) (congrArg au_q (fx_XO_0 hF)) ?_
              refine au_getN (C := RX1) (T := TX1) (N := 11) in_X1 (by decide) rfl 1 (by decide) rfl rfl q189 rfl dX0_sorry_77 (v := au_r XNrow) (congrArg au_q (fx_XN_1 hF)) ?_
              refine au_iload_n dX0_sorry_80 rfl ?_
              refine au_iconst dX0_sorry_81 rfl rfl ?_
              refine au_callSp (n := 2) (kX0_at G (k : Int) 3 (mi, si, hi, sl, r, nx) (by omega) (by omega) (by omega) (by omega)) (lw_S q898 q899 q130 q900) (by decide +kernel) rfl rfl rfl (Nat.le_of_ble_eq_true rfl) (Nat.le_of_ble_eq_true rfl) (Nat.le_of_ble_eq_true rfl) (Nat.le_of_ble_eq_true rfl) (Nat.le_of_ble_eq_true rfl) dX0_sorry_82 ?_
              refine au_iald dX0_sorry_85 rfl (by omega) (by show _ < ((204 : Nat) : Int); omega) (v := au_i (Ap (k : Int) 3)) (congrArg au_i (hAp _ _ (by omega) (by omega) (by omega) (by omega))) ?_
              refine au_goto (tgt := 90) dX0_sorry_86 (by decide) ?_
              refine au_iaddW dX0_sorry_90 ?_
              refine au_istore_n dX0_sorry_91 (show 2 < 4 by decide) ?_
              show au_Go G _ _ 92 [some (au_r XO), some (au_i o), some (au_i (au_w ((syN Ap o k) + (Ap (k : Int) 3)))), some (au_i (k : Int))] [] (mi, si, hi, sl, r, nx) 0 0
              refine au_iinc dX0_sorry_92 rfl (show 3 < 4 by decide) (by omega) (by omega) (by decide) (by decide) ?_
              show au_Go G _ _ 95 [some (au_r XO), some (au_i o), some (au_i (au_w ((syN Ap o k) + (Ap (k : Int) 3)))), some (au_i ((k : Int) + 1))] [] (mi, si, hi, sl, r, nx) 0 0
              refine au_goto (tgt := 20) dX0_sorry_95 (by decide) ?_
              have e1 : ∀ z : Int, z = syN Ap o (k + 1) → au_Go G (yX0_sorry.cls, cX0_sorry, 4, (some .int), au_rm 2 0 0, yX0_sorry.name) (au_QM G (au_rm 2 0 0) (au_pure (au_i (if o = -1 ∨ (0 ≤ o ∧ o < n) then syN Ap o sn.toNat else -2)) (mi, si, hi, sl, r, nx))) 20 [some (au_r XO), some (au_i o), some (au_i z), some (au_i ((k : Int) + 1))] [] (mi, si, hi, sl, r, nx) 0 0 := fun z hz => by rw [hz]; exact ih (k + 1) (by omega) (by omega)
              exact e1 _ (by simp only [syN]; split <;> first | rfl | (exfalso; omega))
            · refine au_aload_n dX0_sorry_56 rfl ?_
              refine au_getf (C := RX0) (T := TX0) (N := 15) in_X0 (by decide) rfl 0 (by decide) rfl rfl q245 rfl dX0_sorry_57 (v := au_r XN) (congrArg au_q (fx_XO_0 hF)) ?_
              refine au_getN (C := RX1) (T := TX1) (N := 11) in_X1 (by decide) rfl 1 (by decide) rfl rfl q189 rfl dX0_sorry_60 (v := au_r XNrow) (congrArg au_q (fx_XN_1 hF)) ?_
              refine au_iload_n dX0_sorry_63 rfl ?_
              refine au_iconst dX0_sorry_64 rfl rfl ?_
              refine au_callSp (n := 2) (kX0_at G (k : Int) 0 (mi, si, hi, sl, r, nx) (by omega) (by omega) (by omega) (by omega)) (lw_S q898 q899 q130 q900) (by decide +kernel) rfl rfl rfl (Nat.le_of_ble_eq_true rfl) (Nat.le_of_ble_eq_true rfl) (Nat.le_of_ble_eq_true rfl) (Nat.le_of_ble_eq_true rfl) (Nat.le_of_ble_eq_true rfl) dX0_sorry_65 ?_
              refine au_iald dX0_sorry_68 rfl (by omega) (by show _ < ((204 : Nat) : Int); omega) (v := au_i (Ap (k : Int) 0)) (congrArg au_i (hAp _ _ (by omega) (by omega) (by omega) (by omega))) ?_
              refine au_iload_n dX0_sorry_69 rfl ?_
              refine au_icmp_ne (tgt := 89) dX0_sorry_70 (by decide) (fun c70 => ?_) (fun c70 => ?_)
              · refine au_iconst dX0_sorry_89 rfl rfl ?_
                refine au_iaddW dX0_sorry_90 ?_
                refine au_istore_n dX0_sorry_91 (show 2 < 4 by decide) ?_
                show au_Go G _ _ 92 [some (au_r XO), some (au_i o), some (au_i (au_w ((syN Ap o k) + 0))), some (au_i (k : Int))] [] (mi, si, hi, sl, r, nx) 0 0
                refine au_iinc dX0_sorry_92 rfl (show 3 < 4 by decide) (by omega) (by omega) (by decide) (by decide) ?_
                show au_Go G _ _ 95 [some (au_r XO), some (au_i o), some (au_i (au_w ((syN Ap o k) + 0))), some (au_i ((k : Int) + 1))] [] (mi, si, hi, sl, r, nx) 0 0
                refine au_goto (tgt := 20) dX0_sorry_95 (by decide) ?_
                have e1 : ∀ z : Int, z = syN Ap o (k + 1) → au_Go G (yX0_sorry.cls, cX0_sorry, 4, (some .int), au_rm 2 0 0, yX0_sorry.name) (au_QM G (au_rm 2 0 0) (au_pure (au_i (if o = -1 ∨ (0 ≤ o ∧ o < n) then syN Ap o sn.toNat else -2)) (mi, si, hi, sl, r, nx))) 20 [some (au_r XO), some (au_i o), some (au_i z), some (au_i ((k : Int) + 1))] [] (mi, si, hi, sl, r, nx) 0 0 := fun z hz => by rw [hz]; exact ih (k + 1) (by omega) (by omega)
                exact e1 _ (by simp only [syN]; split <;> first | rfl | (exfalso; omega))
              · refine au_aload_n dX0_sorry_73 rfl ?_
                refine au_getf (C := RX0) (T := TX0) (N := 15) in_X0 (by decide) rfl 0 (by decide) rfl rfl q245 rfl dX0_sorry_74 (v := au_r XN) (congrArg au_q (fx_XO_0 hF)) ?_
                refine au_getN (C := RX1) (T := TX1) (N := 11) in_X1 (by decide) rfl 1 (by decide) rfl rfl q189 rfl dX0_sorry_77 (v := au_r XNrow) (congrArg au_q (fx_XN_1 hF)) ?_
                refine au_iload_n dX0_sorry_80 rfl ?_
                refine au_iconst dX0_sorry_81 rfl rfl ?_
                refine au_callSp (n := 2) (kX0_at G (k : Int) 3 (mi, si, hi, sl, r, nx) (by omega) (by omega) (by omega) (by omega)) (lw_S q898 q899 q130 q900) (by decide +kernel) rfl rfl rfl (Nat.le_of_ble_eq_true rfl) (Nat.le_of_ble_eq_true rfl) (Nat.le_of_ble_eq_true rfl) (Nat.le_of_ble_eq_true rfl) (Nat.le_of_ble_eq_true rfl) dX0_sorry_82 ?_
                refine au_iald dX0_sorry_85 rfl (by omega) (by show _ < ((204 : Nat) : Int); omega) (v := au_i (Ap (k : Int) 3)) (congrArg au_i (hAp _ _ (by omega) (by omega) (by omega) (by omega))) ?_
                refine au_goto (tgt := 90) dX0_sorry_86 (by decide) ?_
                refine au_iaddW dX0_sorry_90 ?_
                refine au_istore_n dX0_sorry_91 (show 2 < 4 by decide) ?_
                show au_Go G _ _ 92 [some (au_r XO), some (au_i o), some (au_i (au_w ((syN Ap o k) + (Ap (k : Int) 3)))), some (au_i (k : Int))] [] (mi, si, hi, sl, r, nx) 0 0
                refine au_iinc dX0_sorry_92 rfl (show 3 < 4 by decide) (by omega) (by omega) (by decide) (by decide) ?_
                show au_Go G _ _ 95 [some (au_r XO), some (au_i o), some (au_i (au_w ((syN Ap o k) + (Ap (k : Int) 3)))), some (au_i ((k : Int) + 1))] [] (mi, si, hi, sl, r, nx) 0 0
                refine au_goto (tgt := 20) dX0_sorry_95 (by decide) ?_
                have e1 : ∀ z : Int, z = syN Ap o (k + 1) → au_Go G (yX0_sorry.cls, cX0_sorry, 4, (some .int), au_rm 2 0 0, yX0_sorry.name) (au_QM G (au_rm 2 0 0) (au_pure (au_i (if o = -1 ∨ (0 ≤ o ∧ o < n) then syN Ap o sn.toNat else -2)) (mi, si, hi, sl, r, nx))) 20 [some (au_r XO), some (au_i o), some (au_i z), some (au_i ((k : Int) + 1))] [] (mi, si, hi, sl, r, nx) 0 0 := fun z hz => by rw [hz]; exact ih (k + 1) (by omega) (by omega)
                exact e1 _ (by simp only [syN]; split <;> first | rfl | (exfalso; omega))
    exact hl 11 0 (by omega) (by omega)
  · refine au_aload_n dX0_sorry_5 rfl ?_
    refine au_iload_n dX0_sorry_6 rfl ?_
    refine au_callVp (n := 1) (kX0_isOfficer G o mi si hi sl r nx hF n hN hn ) (lw_V q296 q298 qs0 q130 q299) rfl (by decide +kernel) (by decide) (T := TX0) (N := 15) rfl rfl rfl rfl (Nat.le_of_ble_eq_true rfl) (Nat.le_of_ble_eq_true rfl) (Nat.le_of_ble_eq_true rfl) (Nat.le_of_ble_eq_true rfl) (Nat.le_of_ble_eq_true rfl) dX0_sorry_7 ?_
    refine au_if_ne (tgt := 16) dX0_sorry_10 (by decide) (fun c10 => ?_) (fun c10 => ?_)
    · have c10 := au_b1 c10
      refine au_iconst dX0_sorry_16 rfl rfl ?_
      refine au_istore_n dX0_sorry_17 (show 2 < 4 by decide) ?_
      show au_Go G _ _ 18 [some (au_r XO), some (au_i o), some (au_i 0), none] [] (mi, si, hi, sl, r, nx) 0 0
      refine au_iconst dX0_sorry_18 rfl rfl ?_
      refine au_istore_n dX0_sorry_19 (show 3 < 4 by decide) ?_
      show au_Go G _ _ 20 [some (au_r XO), some (au_i o), some (au_i 0), some (au_i 0)] [] (mi, si, hi, sl, r, nx) 0 0
      have hl : ∀ (f : Nat) (k : Nat), ((k : Int) ≤ sn) → (sn - (k : Int)) < (f : Int) → au_Go G (yX0_sorry.cls, cX0_sorry, 4, (some .int), au_rm 2 0 0, yX0_sorry.name) (au_QM G (au_rm 2 0 0) (au_pure (au_i (if o = -1 ∨ (0 ≤ o ∧ o < n) then syN Ap o sn.toNat else -2)) (mi, si, hi, sl, r, nx))) 20 [some (au_r XO), some (au_i o), some (au_i (syN Ap o k)), some (au_i (k : Int))] [] (mi, si, hi, sl, r, nx) 0 0 := by
        intro f
        induction f with
        | zero => intro k h1 hf; exfalso; omega
        | succ f ih =>
          intro k h1 hf
          refine au_iload_n dX0_sorry_20 rfl ?_
          refine au_aload_n dX0_sorry_21 rfl ?_
          refine au_getf (C := RX0) (T := TX0) (N := 15) in_X0 (by decide) rfl 0 (by decide) rfl rfl q245 rfl dX0_sorry_22 (v := au_r XN) (congrArg au_q (fx_XO_0 hF)) ?_
          refine au_getN (C := RX1) (T := TX1) (N := 11) in_X1 (by decide) rfl 1 (by decide) rfl rfl q189 rfl dX0_sorry_25 (v := au_r XNrow) (congrArg au_q (fx_XN_1 hF)) ?_
          refine au_iconst dX0_sorry_28 rfl rfl ?_
          refine au_iald dX0_sorry_29 rfl (by omega) (by show _ < ((204 : Nat) : Int); omega) (v := au_i (sn)) (congrArg au_i (hSn)) ?_
          refine au_icmp_ge (tgt := 98) dX0_sorry_30 (by decide) (fun c30 => ?_) (fun c30 => ?_)
          · refine au_iload_n dX0_sorry_98 rfl ?_
            exact au_iret dX0_sorry_99 rfl rfl (Nat.le_of_ble_eq_true rfl) (Nat.le_of_ble_eq_true rfl) (au_pe (by rw [if_pos (by omega), show sn.toNat = k by omega]) rfl)
          · refine au_iload_n dX0_sorry_33 rfl ?_
            refine au_aload_n dX0_sorry_34 rfl ?_
            refine au_getf (C := RX0) (T := TX0) (N := 15) in_X0 (by decide) rfl 0 (by decide) rfl rfl q245 rfl dX0_sorry_35 (v := au_r XN) (congrArg au_q (fx_XO_0 hF)) ?_
            refine au_getN (C := RX1) (T := TX1) (N := 11) in_X1 (by decide) rfl 1 (by decide) rfl rfl q189 rfl dX0_sorry_38 (v := au_r XNrow) (congrArg au_q (fx_XN_1 hF)) ?_
            refine au_iload_n dX0_sorry_41 rfl ?_
            refine au_iconst dX0_sorry_42 rfl rfl ?_
            refine au_callSp (n := 2) (kX0_at G (k : Int) 4 (mi, si, hi, sl, r, nx) (by omega) (by omega) (by omega) (by omega)) (lw_S q898 q899 q130 q900) (by decide +kernel) rfl rfl rfl (Nat.le_of_ble_eq_true rfl) (Nat.le_of_ble_eq_true rfl) (Nat.le_of_ble_eq_true rfl) (Nat.le_of_ble_eq_true rfl) (Nat.le_of_ble_eq_true rfl) dX0_sorry_43 ?_
            refine au_iald dX0_sorry_46 rfl (by omega) (by show _ < ((204 : Nat) : Int); omega) (v := au_i (Ap (k : Int) 4)) (congrArg au_i (hAp _ _ (by omega) (by omega) (by omega) (by omega))) ?_
            refine au_iconst dX0_sorry_47 rfl rfl ?_
            refine au_icmp_eq (tgt := 89) dX0_sorry_48 (by decide) (fun c48 => ?_) (fun c48 => ?_)
            · refine au_iconst dX0_sorry_89 rfl rfl ?_
              refine au_iaddW dX0_sorry_90 ?_
              refine au_istore_n dX0_sorry_91 (show 2 < 4 by decide) ?_
              show au_Go G _ _ 92 [some (au_r XO), some (au_i o), some (au_i (au_w ((syN Ap o k) + 0))), some (au_i (k : Int))] [] (mi, si, hi, sl, r, nx) 0 0
              refine au_iinc dX0_sorry_92 rfl (show 3 < 4 by decide) (by omega) (by omega) (by decide) (by decide) ?_
              show au_Go G _ _ 95 [some (au_r XO), some (au_i o), some (au_i (au_w ((syN Ap o k) + 0))), some (au_i ((k : Int) + 1))] [] (mi, si, hi, sl, r, nx) 0 0
              refine au_goto (tgt := 20) dX0_sorry_95 (by decide) ?_
              have e1 : ∀ z : Int, z = syN Ap o (k + 1) → au_Go G (yX0_sorry.cls, cX0_sorry, 4, (some .int), au_rm 2 0 0, yX0_sorry.name) (au_QM G (au_rm 2 0 0) (au_pure (au_i (if o = -1 ∨ (0 ≤ o ∧ o < n) then syN Ap o sn.toNat else -2)) (mi, si, hi, sl, r, nx))) 20 [some (au_r XO), some (au_i o), some (au_i z), some (au_i ((k : Int) + 1))] [] (mi, si, hi, sl, r, nx) 0 0 := fun z hz => by rw [hz]; exact ih (k + 1) (by omega) (by omega)
              exact e1 _ (by simp only [syN]; split <;> first | rfl | (exfalso; omega))
            · refine au_iload_n dX0_sorry_51 rfl ?_
              refine au_iconst dX0_sorry_52 rfl rfl ?_
              refine au_icmp_eq (tgt := 73) dX0_sorry_53 (by decide) (fun c53 => ?_) (fun c53 => ?_)
              · refine au_aload_n dX0_sorry_73 rfl ?_
                refine au_getf (C := RX0) (T := TX0) (N := 15) in_X0 (by decide) rfl 0 (by decide) rfl rfl q245 rfl dX0_sorry_74 (v := au_r XN) (congrArg au_q (fx_XO_0 hF)) ?_
                refine au_getN (C := RX1) (T := TX1) (N := 11) in_X1 (by decide) rfl 1 (by decide) rfl rfl q189 rfl dX0_sorry_77 (v := au_r XNrow) (congrArg au_q (fx_XN_1 hF)) ?_
                refine au_iload_n dX0_sorry_80 rfl ?_
                refine au_iconst dX0_sorry_81 rfl rfl ?_
                refine au_callSp (n := 2) (kX0_at G (k : Int) 3 (mi, si, hi, sl, r, nx) (by omega) (by omega) (by omega) (by omega)) (lw_S q898 q899 q130 q900) (by decide +kernel) rfl rfl rfl (Nat.le_of_ble_eq_true rfl) (Nat.le_of_ble_eq_true rfl) (Nat.le_of_ble_eq_true rfl) (Nat.le_of_ble_eq_true rfl) (Nat.le_of_ble_eq_true rfl) dX0_sorry_82 ?_
                refine au_iald dX0_sorry_85 rfl (by omega) (by show _ < ((204 : Nat) : Int); omega) (v := au_i (Ap (k : Int) 3)) (congrArg au_i (hAp _ _ (by omega) (by omega) (by omega) (by omega))) ?_
                refine au_goto (tgt := 90) dX0_sorry_86 (by decide) ?_
                refine au_iaddW dX0_sorry_90 ?_
                refine au_istore_n dX0_sorry_91 (show 2 < 4 by decide) ?_
                show au_Go G _ _ 92 [some (au_r XO), some (au_i o), some (au_i (au_w ((syN Ap o k) + (Ap (k : Int) 3)))), some (au_i (k : Int))] [] (mi, si, hi, sl, r, nx) 0 0
                refine au_iinc dX0_sorry_92 rfl (show 3 < 4 by decide) (by omega) (by omega) (by decide) (by decide) ?_
                show au_Go G _ _ 95 [some (au_r XO), some (au_i o), some (au_i (au_w ((syN Ap o k) + (Ap (k : Int) 3)))), some (au_i ((k : Int) + 1))] [] (mi, si, hi, sl, r, nx) 0 0
                refine au_goto (tgt := 20) dX0_sorry_95 (by decide) ?_
                have e1 : ∀ z : Int, z = syN Ap o (k + 1) → au_Go G (yX0_sorry.cls, cX0_sorry, 4, (some .int), au_rm 2 0 0, yX0_sorry.name) (au_QM G (au_rm 2 0 0) (au_pure (au_i (if o = -1 ∨ (0 ≤ o ∧ o < n) then syN Ap o sn.toNat else -2)) (mi, si, hi, sl, r, nx))) 20 [some (au_r XO), some (au_i o), some (au_i z), some (au_i ((k : Int) + 1))] [] (mi, si, hi, sl, r, nx) 0 0 := fun z hz => by rw [hz]; exact ih (k + 1) (by omega) (by omega)
                exact e1 _ (by simp only [syN]; split <;> first | rfl | (exfalso; omega))
              · refine au_aload_n dX0_sorry_56 rfl ?_
                refine au_getf (C := RX0) (T := TX0) (N := 15) in_X0 (by decide) rfl 0 (by decide) rfl rfl q245 rfl dX0_sorry_57 (v := au_r XN) (congrArg au_q (fx_XO_0 hF)) ?_
                refine au_getN (C := RX1) (T := TX1) (N := 11) in_X1 (by decide) rfl 1 (by decide) rfl rfl q189 rfl dX0_sorry_60 (v := au_r XNrow) (congrArg au_q (fx_XN_1 hF)) ?_
                refine au_iload_n dX0_sorry_63 rfl ?_
                refine au_iconst dX0_sorry_64 rfl rfl ?_
                refine au_callSp (n := 2) (kX0_at G (k : Int) 0 (mi, si, hi, sl, r, nx) (by omega) (by omega) (by omega) (by omega)) (lw_S q898 q899 q130 q900) (by decide +kernel) rfl rfl rfl (Nat.le_of_ble_eq_true rfl) (Nat.le_of_ble_eq_true rfl) (Nat.le_of_ble_eq_true rfl) (Nat.le_of_ble_eq_true rfl) (Nat.le_of_ble_eq_true rfl) dX0_sorry_65 ?_
                refine au_iald dX0_sorry_68 rfl (by omega) (by show _ < ((204 : Nat) : Int); omega) (v := au_i (Ap (k : Int) 0)) (congrArg au_i (hAp _ _ (by omega) (by omega) (by omega) (by omega))) ?_
                refine au_iload_n dX0_sorry_69 rfl ?_
                refine au_icmp_ne (tgt := 89) dX0_sorry_70 (by decide) (fun c70 => ?_) (fun c70 => ?_)
                · refine au_iconst dX0_sorry_89 rfl rfl ?_
                  refine au_iaddW dX0_sorry_90 ?_
                  refine au_istore_n dX0_sorry_91 (show 2 < 4 by decide) ?_
                  show au_Go G _ _ 92 [some (au_r XO), some (au_i o), some (au_i (au_w ((syN Ap o k) + 0))), some (au_i (k : Int))] [] (mi, si, hi, sl, r, nx) 0 0
                  refine au_iinc dX0_sorry_92 rfl (show 3 < 4 by decide) (by omega) (by omega) (by decide) (by decide) ?_
                  show au_Go G _ _ 95 [some (au_r XO), some (au_i o), some (au_i (au_w ((syN Ap o k) + 0))), some (au_i ((k : Int) + 1))] [] (mi, si, hi, sl, r, nx) 0 0
                  refine au_goto (tgt := 20) dX0_sorry_95 (by decide) ?_
                  have e1 : ∀ z : Int, z = syN Ap o (k + 1) → au_Go G (yX0_sorry.cls, cX0_sorry, 4, (some .int), au_rm 2 0 0, yX0_sorry.name) (au_QM G (au_rm 2 0 0) (au_pure (au_i (if o = -1 ∨ (0 ≤ o ∧ o < n) then syN Ap o sn.toNat else -2)) (mi, si, hi, sl, r, nx))) 20 [some (au_r XO), some (au_i o), some (au_i z), some (au_i ((k : Int) + 1))] [] (mi, si, hi, sl, r, nx) 0 0 := fun z hz => by rw [hz]; exact ih (k + 1) (by omega) (by omega)
                  exact e1 _ (by simp only [syN]; split <;> first | rfl | (exfalso; omega))
                · refine au_aload_n dX0_sorry_73 rfl ?_
                  refine au_getf (C := RX0) (T := TX0) (N := 15) in_X0 (by decide) rfl 0 (by decide) rfl rfl q245 rfl dX0_sorry_74 (v := au_r XN) (congrArg au_q (fx_XO_0 hF)) ?_
                  refine au_getN (C := RX1) (T := TX1) (N := 11) in_X1 (by decide) rfl 1 (by decide) rfl rfl q189 rfl dX0_sorry_77 (v := au_r XNrow) (congrArg au_q (fx_XN_1 hF)) ?_
                  refine au_iload_n dX0_sorry_80 rfl ?_
                  refine au_iconst dX0_sorry_81 rfl rfl ?_
                  refine au_callSp (n := 2) (kX0_at G (k : Int) 3 (mi, si, hi, sl, r, nx) (by omega) (by omega) (by omega) (by omega)) (lw_S q898 q899 q130 q900) (by decide +kernel) rfl rfl rfl (Nat.le_of_ble_eq_true rfl) (Nat.le_of_ble_eq_true rfl) (Nat.le_of_ble_eq_true rfl) (Nat.le_of_ble_eq_true rfl) (Nat.le_of_ble_eq_true rfl) dX0_sorry_82 ?_
                  refine au_iald dX0_sorry_85 rfl (by omega) (by show _ < ((204 : Nat) : Int); omega) (v := au_i (Ap (k : Int) 3)) (congrArg au_i (hAp _ _ (by omega) (by omega) (by omega) (by omega))) ?_
                  refine au_goto (tgt := 90) dX0_sorry_86 (by decide) ?_
                  refine au_iaddW dX0_sorry_90 ?_
                  refine au_istore_n dX0_sorry_91 (show 2 < 4 by decide) ?_
                  show au_Go G _ _ 92 [some (au_r XO), some (au_i o), some (au_i (au_w ((syN Ap o k) + (Ap (k : Int) 3)))), some (au_i (k : Int))] [] (mi, si, hi, sl, r, nx) 0 0
                  refine au_iinc dX0_sorry_92 rfl (show 3 < 4 by decide) (by omega) (by omega) (by decide) (by decide) ?_
                  show au_Go G _ _ 95 [some (au_r XO), some (au_i o), some (au_i (au_w ((syN Ap o k) + (Ap (k : Int) 3)))), some (au_i ((k : Int) + 1))] [] (mi, si, hi, sl, r, nx) 0 0
                  refine au_goto (tgt := 20) dX0_sorry_95 (by decide) ?_
                  have e1 : ∀ z : Int, z = syN Ap o (k + 1) → au_Go G (yX0_sorry.cls, cX0_sorry, 4, (some .int), au_rm 2 0 0, yX0_sorry.name) (au_QM G (au_rm 2 0 0) (au_pure (au_i (if o = -1 ∨ (0 ≤ o ∧ o < n) then syN Ap o sn.toNat else -2)) (mi, si, hi, sl, r, nx))) 20 [some (au_r XO), some (au_i o), some (au_i z), some (au_i ((k : Int) + 1))] [] (mi, si, hi, sl, r, nx) 0 0 := fun z hz => by rw [hz]; exact ih (k + 1) (by omega) (by omega)
                  exact e1 _ (by simp only [syN]; split <;> first | rfl | (exfalso; omega))
      exact hl 11 0 (by omega) (by omega)
    · have c10 := au_b0 c10
      refine au_bipush dX0_sorry_13 rfl rfl ?_
      exact au_iret dX0_sorry_15 rfl rfl (Nat.le_of_ble_eq_true rfl) (Nat.le_of_ble_eq_true rfl) (au_pe (by rw [if_neg (by omega)]) rfl)
theorem kX0_book (G : au_G) (k w : Int) (mi si hi sl : au_A → Int → Int) (r : au_A → Int → Option au_A) (nx : Nat) (hF : Fix r) (wn : Int) (hWn : mi XNrow 83 = wn) (hwn : 0 ≤ wn ∧ wn ≤ 30) (Pg : Int → Int → Int) (hPg : ∀ k w, 0 ≤ k → k < 30 → 0 ≤ w → w ≤ 3 → mi XNrow (84 + 4 * k + w) = Pg k w) : au_Ctr G yX0_book cX0_book 3 (some .int) 1 0 0 [au_r XO, au_i k, au_i w] (mi, si, hi, sl, r, nx) (au_pure (au_i (bkR Pg wn k w)) (mi, si, hi, sl, r, nx)) := by
  refine au_of (by decide) (Nat.le_of_ble_eq_true rfl) ?_
  show au_Go G _ _ 0 [some (au_r XO), some (au_i k), some (au_i w)] [] (mi, si, hi, sl, r, nx) 0 0
  refine au_iload_n dX0_book_0 rfl ?_
  refine au_iconst dX0_book_1 rfl rfl ?_
  refine au_icmp_ne (tgt := 16) dX0_book_2 (by decide) (fun c2 => ?_) (fun c2 => ?_)
  · refine au_iload_n dX0_book_16 rfl ?_
    refine au_iconst dX0_book_17 rfl rfl ?_
    refine au_aload_n dX0_book_18 rfl ?_
    refine au_getf (C := RX0) (T := TX0) (N := 15) in_X0 (by decide) rfl 0 (by decide) rfl rfl q245 rfl dX0_book_19 (v := au_r XN) (congrArg au_q (fx_XO_0 hF)) ?_
    refine au_getN (C := RX1) (T := TX1) (N := 11) in_X1 (by decide) rfl 1 (by decide) rfl rfl q189 rfl dX0_book_22 (v := au_r XNrow) (congrArg au_q (fx_XN_1 hF)) ?_
    refine au_bipush dX0_book_25 rfl rfl ?_
    refine au_iald dX0_book_27 rfl (by omega) (by show _ < ((204 : Nat) : Int); omega) (v := au_i (wn)) (congrArg au_i (hWn)) ?_
    refine au_iconst dX0_book_28 rfl rfl ?_
    refine au_isub dX0_book_29 (by omega) (by omega) ?_
    refine au_callSp (n := 3) (kX0_in G k 0 (wn - 1) (mi, si, hi, sl, r, nx)) (lw_S q300 q301 q130 q302) (by decide +kernel) rfl rfl rfl (Nat.le_of_ble_eq_true rfl) (Nat.le_of_ble_eq_true rfl) (Nat.le_of_ble_eq_true rfl) (Nat.le_of_ble_eq_true rfl) (Nat.le_of_ble_eq_true rfl) dX0_book_30 ?_
    refine au_if_eq (tgt := 64) dX0_book_33 (by decide) (fun c33 => ?_) (fun c33 => ?_)
    · have c33 := au_b0 c33
      refine au_bipush dX0_book_64 rfl rfl ?_
      exact au_iret dX0_book_66 rfl rfl (Nat.le_of_ble_eq_true rfl) (Nat.le_of_ble_eq_true rfl) (by first | exact au_pe (by simp only [bkR]; rw [if_pos (by omega)]) rfl | exact au_pe (by simp only [bkR]; rw [if_neg (by omega), if_neg (by omega)]) rfl | exact au_pe (by simp only [bkR]; rw [if_neg (by omega), if_pos (by omega)]) rfl)
    · have c33 := au_b1 c33
      refine au_iload_n dX0_book_36 rfl ?_
      refine au_iconst dX0_book_37 rfl rfl ?_
      refine au_iconst dX0_book_38 rfl rfl ?_
      refine au_callSp (n := 3) (kX0_in G w 0 3 (mi, si, hi, sl, r, nx)) (lw_S q300 q301 q130 q302) (by decide +kernel) rfl rfl rfl (Nat.le_of_ble_eq_true rfl) (Nat.le_of_ble_eq_true rfl) (Nat.le_of_ble_eq_true rfl) (Nat.le_of_ble_eq_true rfl) (Nat.le_of_ble_eq_true rfl) dX0_book_39 ?_
      refine au_if_eq (tgt := 64) dX0_book_42 (by decide) (fun c42 => ?_) (fun c42 => ?_)
      · have c42 := au_b0 c42
        refine au_bipush dX0_book_64 rfl rfl ?_
        exact au_iret dX0_book_66 rfl rfl (Nat.le_of_ble_eq_true rfl) (Nat.le_of_ble_eq_true rfl) (by first | exact au_pe (by simp only [bkR]; rw [if_pos (by omega)]) rfl | exact au_pe (by simp only [bkR]; rw [if_neg (by omega), if_neg (by omega)]) rfl | exact au_pe (by simp only [bkR]; rw [if_neg (by omega), if_pos (by omega)]) rfl)
      · have c42 := au_b1 c42
        refine au_aload_n dX0_book_45 rfl ?_
        refine au_getf (C := RX0) (T := TX0) (N := 15) in_X0 (by decide) rfl 0 (by decide) rfl rfl q245 rfl dX0_book_46 (v := au_r XN) (congrArg au_q (fx_XO_0 hF)) ?_
        refine au_getN (C := RX1) (T := TX1) (N := 11) in_X1 (by decide) rfl 1 (by decide) rfl rfl q189 rfl dX0_book_49 (v := au_r XNrow) (congrArg au_q (fx_XN_1 hF)) ?_
        refine au_bipush dX0_book_52 rfl rfl ?_
        refine au_iconst dX0_book_54 rfl rfl ?_
        refine au_iload_n dX0_book_55 rfl ?_
        refine au_imul dX0_book_56 (by omega) (by omega) ?_
        refine au_iadd dX0_book_57 (by omega) (by omega) ?_
        refine au_iload_n dX0_book_58 rfl ?_
        refine au_iadd dX0_book_59 (by omega) (by omega) ?_
        refine au_iald dX0_book_60 rfl (by omega) (by show _ < ((204 : Nat) : Int); omega) (v := au_i (Pg k w)) (congrArg au_i (hPg _ _ (by omega) (by omega) (by omega) (by omega))) ?_
        refine au_goto (tgt := 66) dX0_book_61 (by decide) ?_
        exact au_iret dX0_book_66 rfl rfl (Nat.le_of_ble_eq_true rfl) (Nat.le_of_ble_eq_true rfl) (by first | exact au_pe (by simp only [bkR]; rw [if_pos (by omega)]) rfl | exact au_pe (by simp only [bkR]; rw [if_neg (by omega), if_neg (by omega)]) rfl | exact au_pe (by simp only [bkR]; rw [if_neg (by omega), if_pos (by omega)]) rfl)
  · refine au_aload_n dX0_book_5 rfl ?_
    refine au_getf (C := RX0) (T := TX0) (N := 15) in_X0 (by decide) rfl 0 (by decide) rfl rfl q245 rfl dX0_book_6 (v := au_r XN) (congrArg au_q (fx_XO_0 hF)) ?_
    refine au_getN (C := RX1) (T := TX1) (N := 11) in_X1 (by decide) rfl 1 (by decide) rfl rfl q189 rfl dX0_book_9 (v := au_r XNrow) (congrArg au_q (fx_XN_1 hF)) ?_
    refine au_bipush dX0_book_12 rfl rfl ?_
    refine au_iald dX0_book_14 rfl (by omega) (by show _ < ((204 : Nat) : Int); omega) (v := au_i (wn)) (congrArg au_i (hWn)) ?_
    exact au_iret dX0_book_15 rfl rfl (Nat.le_of_ble_eq_true rfl) (Nat.le_of_ble_eq_true rfl) (by first | exact au_pe (by simp only [bkR]; rw [if_pos (by omega)]) rfl | exact au_pe (by simp only [bkR]; rw [if_neg (by omega), if_neg (by omega)]) rfl | exact au_pe (by simp only [bkR]; rw [if_neg (by omega), if_pos (by omega)]) rfl)
theorem kX0_befell (G : au_G) (w : Int) (mi si hi sl : au_A → Int → Int) (r : au_A → Int → Option au_A) (nx : Nat) (hF : Fix r) (wn : Int) (hWn : mi XNrow 83 = wn) (hwn : 0 ≤ wn ∧ wn ≤ 30) (Pg : Int → Int → Int) (hPg : ∀ k w, 0 ≤ k → k < 30 → 0 ≤ w → w ≤ 3 → mi XNrow (84 + 4 * k + w) = Pg k w) : au_Ctr G yX0_befell cX0_befell 4 (some .int) 2 0 0 [au_r XO, au_i w] (mi, si, hi, sl, r, nx) (au_pure (au_i (if 0 ≤ w ∧ w ≤ 3 then bfN Pg w wn.toNat else -2)) (mi, si, hi, sl, r, nx)) := by
  refine au_of (by decide) (Nat.le_of_ble_eq_true rfl) ?_
  show au_Go G _ _ 0 [some (au_r XO), some (au_i w), none, none] [] (mi, si, hi, sl, r, nx) 0 0
  refine au_iload_n dX0_befell_0 rfl ?_
  refine au_iconst dX0_befell_1 rfl rfl ?_
  refine au_iconst dX0_befell_2 rfl rfl ?_
  refine au_callSp (n := 3) (kX0_in G w 0 3 (mi, si, hi, sl, r, nx)) (lw_S q300 q301 q130 q302) (by decide +kernel) rfl rfl rfl (Nat.le_of_ble_eq_true rfl) (Nat.le_of_ble_eq_true rfl) (Nat.le_of_ble_eq_true rfl) (Nat.le_of_ble_eq_true rfl) (Nat.le_of_ble_eq_true rfl) dX0_befell_3 ?_
  refine au_if_ne (tgt := 12) dX0_befell_6 (by decide) (fun c6 => ?_) (fun c6 => ?_)
  · have c6 := au_b1 c6
    refine au_iconst dX0_befell_12 rfl rfl ?_
    refine au_istore_n dX0_befell_13 (show 2 < 4 by decide) ?_
    show au_Go G _ _ 14 [some (au_r XO), some (au_i w), some (au_i 0), none] [] (mi, si, hi, sl, r, nx) 0 0
    refine au_iconst dX0_befell_14 rfl rfl ?_
    refine au_istore_n dX0_befell_15 (show 3 < 4 by decide) ?_
    show au_Go G _ _ 16 [some (au_r XO), some (au_i w), some (au_i 0), some (au_i 0)] [] (mi, si, hi, sl, r, nx) 0 0
    have hl : ∀ (f : Nat) (k : Nat), ((k : Int) ≤ wn) → (wn - (k : Int)) < (f : Int) → au_Go G (yX0_befell.cls, cX0_befell, 4, (some .int), au_rm 2 0 0, yX0_befell.name) (au_QM G (au_rm 2 0 0) (au_pure (au_i (if 0 ≤ w ∧ w ≤ 3 then bfN Pg w wn.toNat else -2)) (mi, si, hi, sl, r, nx))) 16 [some (au_r XO), some (au_i w), some (au_i (bfN Pg w k)), some (au_i (k : Int))] [] (mi, si, hi, sl, r, nx) 0 0 := by
      intro f
      induction f with
      | zero => intro k h1 hf; exfalso; omega
      | succ f ih =>
        intro k h1 hf
        refine au_iload_n dX0_befell_16 rfl ?_
        refine au_aload_n dX0_befell_17 rfl ?_
        refine au_getf (C := RX0) (T := TX0) (N := 15) in_X0 (by decide) rfl 0 (by decide) rfl rfl q245 rfl dX0_befell_18 (v := au_r XN) (congrArg au_q (fx_XO_0 hF)) ?_
        refine au_getN (C := RX1) (T := TX1) (N := 11) in_X1 (by decide) rfl 1 (by decide) rfl rfl q189 rfl dX0_befell_21 (v := au_r XNrow) (congrArg au_q (fx_XN_1 hF)) ?_
        refine au_bipush dX0_befell_24 rfl rfl ?_
        refine au_iald dX0_befell_26 rfl (by omega) (by show _ < ((204 : Nat) : Int); omega) (v := au_i (wn)) (congrArg au_i (hWn)) ?_
        refine au_icmp_ge (tgt := 64) dX0_befell_27 (by decide) (fun c27 => ?_) (fun c27 => ?_)
        · refine au_iload_n dX0_befell_64 rfl ?_
          exact au_iret dX0_befell_65 rfl rfl (Nat.le_of_ble_eq_true rfl) (Nat.le_of_ble_eq_true rfl) (au_pe (by rw [if_pos (by omega), show wn.toNat = k by omega]) rfl)
        · have hd := bfN_bd Pg w k
          refine au_iload_n dX0_befell_30 rfl ?_
          refine au_aload_n dX0_befell_31 rfl ?_
          refine au_getf (C := RX0) (T := TX0) (N := 15) in_X0 (by decide) rfl 0 (by decide) rfl rfl q245 rfl dX0_befell_32 (v := au_r XN) (congrArg au_q (fx_XO_0 hF)) ?_
          refine au_getN (C := RX1) (T := TX1) (N := 11) in_X1 (by decide) rfl 1 (by decide) rfl rfl q189 rfl dX0_befell_35 (v := au_r XNrow) (congrArg au_q (fx_XN_1 hF)) ?_
          refine au_bipush dX0_befell_38 rfl rfl ?_
          refine au_iconst dX0_befell_40 rfl rfl ?_
          refine au_iload_n dX0_befell_41 rfl ?_
          refine au_imul dX0_befell_42 (by omega) (by omega) ?_
          refine au_iadd dX0_befell_43 (by omega) (by omega) ?_
          refine au_iconst dX0_befell_44 rfl rfl ?_
          refine au_iadd dX0_befell_45 (by omega) (by omega) ?_
          refine au_iald dX0_befell_46 rfl (by omega) (by show _ < ((204 : Nat) : Int); omega) (v := au_i (Pg (k : Int) 2)) (congrArg au_i (hPg _ _ (by omega) (by omega) (by omega) (by omega))) ?_
          refine au_iload_n dX0_befell_47 rfl ?_
          refine au_icmp_ne (tgt := 55) dX0_befell_48 (by decide) (fun c48 => ?_) (fun c48 => ?_)
          · refine au_iconst dX0_befell_55 rfl rfl ?_
            refine au_iadd dX0_befell_56 (by omega) (by omega) ?_
            refine au_istore_n dX0_befell_57 (show 2 < 4 by decide) ?_
            show au_Go G _ _ 58 [some (au_r XO), some (au_i w), some (au_i ((bfN Pg w k) + 0)), some (au_i (k : Int))] [] (mi, si, hi, sl, r, nx) 0 0
            refine au_iinc dX0_befell_58 rfl (show 3 < 4 by decide) (by omega) (by omega) (by decide) (by decide) ?_
            show au_Go G _ _ 61 [some (au_r XO), some (au_i w), some (au_i ((bfN Pg w k) + 0)), some (au_i ((k : Int) + 1))] [] (mi, si, hi, sl, r, nx) 0 0
            refine au_goto (tgt := 16) dX0_befell_61 (by decide) ?_
            have e1 : ∀ z : Int, z = bfN Pg w (k + 1) → au_Go G (yX0_befell.cls, cX0_befell, 4, (some .int), au_rm 2 0 0, yX0_befell.name) (au_QM G (au_rm 2 0 0) (au_pure (au_i (if 0 ≤ w ∧ w ≤ 3 then bfN Pg w wn.toNat else -2)) (mi, si, hi, sl, r, nx))) 16 [some (au_r XO), some (au_i w), some (au_i z), some (au_i ((k : Int) + 1))] [] (mi, si, hi, sl, r, nx) 0 0 := fun z hz => by rw [hz]; exact ih (k + 1) (by omega) (by omega)
            exact e1 _ (by simp only [bfN]; split <;> omega)
          · refine au_iconst dX0_befell_51 rfl rfl ?_
            refine au_goto (tgt := 56) dX0_befell_52 (by decide) ?_
            refine au_iadd dX0_befell_56 (by omega) (by omega) ?_
            refine au_istore_n dX0_befell_57 (show 2 < 4 by decide) ?_
            show au_Go G _ _ 58 [some (au_r XO), some (au_i w), some (au_i ((bfN Pg w k) + 1)), some (au_i (k : Int))] [] (mi, si, hi, sl, r, nx) 0 0
            refine au_iinc dX0_befell_58 rfl (show 3 < 4 by decide) (by omega) (by omega) (by decide) (by decide) ?_
            show au_Go G _ _ 61 [some (au_r XO), some (au_i w), some (au_i ((bfN Pg w k) + 1)), some (au_i ((k : Int) + 1))] [] (mi, si, hi, sl, r, nx) 0 0
            refine au_goto (tgt := 16) dX0_befell_61 (by decide) ?_
            have e1 : ∀ z : Int, z = bfN Pg w (k + 1) → au_Go G (yX0_befell.cls, cX0_befell, 4, (some .int), au_rm 2 0 0, yX0_befell.name) (au_QM G (au_rm 2 0 0) (au_pure (au_i (if 0 ≤ w ∧ w ≤ 3 then bfN Pg w wn.toNat else -2)) (mi, si, hi, sl, r, nx))) 16 [some (au_r XO), some (au_i w), some (au_i z), some (au_i ((k : Int) + 1))] [] (mi, si, hi, sl, r, nx) 0 0 := fun z hz => by rw [hz]; exact ih (k + 1) (by omega) (by omega)
            exact e1 _ (by simp only [bfN]; split <;> omega)
    exact hl 31 0 (by omega) (by omega)
  · have c6 := au_b0 c6
    refine au_bipush dX0_befell_9 rfl rfl ?_
    exact au_iret dX0_befell_11 rfl rfl (Nat.le_of_ble_eq_true rfl) (Nat.le_of_ble_eq_true rfl) (au_pe (by rw [if_neg (by omega)]) rfl)
theorem kX2_deskOf (G : au_G) (o b : Int) (mi si hi sl : au_A → Int → Int) (r : au_A → Int → Option au_A) (nx : Nat) (hF : Fix r) (sn : Int) (hSn : mi MA 8 = sn) (hs : 0 ≤ sn ∧ sn ≤ 10) (Ap : Int → Int → Int) (hAp : ∀ k w, 0 ≤ k → k < 10 → 0 ≤ w → w ≤ 6 → mi MA (20 + 7 * k + w) = Ap k w) : au_Ctr G yX2_deskOf cX2_deskOf 5 (some .int) 1 0 0 [au_r MO, au_i o, au_i b] (mi, si, hi, sl, r, nx) (au_pure (au_i (dkN Ap o b sn.toNat)) (mi, si, hi, sl, r, nx)) := by
  refine au_of (by decide) (Nat.le_of_ble_eq_true rfl) ?_
  show au_Go G _ _ 0 [some (au_r MO), some (au_i o), some (au_i b), none, none] [] (mi, si, hi, sl, r, nx) 0 0
  refine au_iconst dX2_deskOf_0 rfl rfl ?_
  refine au_istore_n dX2_deskOf_1 (show 3 < 5 by decide) ?_
  show au_Go G _ _ 2 [some (au_r MO), some (au_i o), some (au_i b), some (au_i 0), none] [] (mi, si, hi, sl, r, nx) 0 0
  refine au_iconst dX2_deskOf_2 rfl rfl ?_
  refine au_istore dX2_deskOf_3 (show 4 < 5 by decide) ?_
  show au_Go G _ _ 5 [some (au_r MO), some (au_i o), some (au_i b), some (au_i 0), some (au_i 0)] [] (mi, si, hi, sl, r, nx) 0 0
  have hl : ∀ (f : Nat) (k : Nat), ((k : Int) ≤ sn) → (sn - (k : Int)) < (f : Int) → au_Go G (yX2_deskOf.cls, cX2_deskOf, 5, (some .int), au_rm 1 0 0, yX2_deskOf.name) (au_QM G (au_rm 1 0 0) (au_pure (au_i (dkN Ap o b sn.toNat)) (mi, si, hi, sl, r, nx))) 5 [some (au_r MO), some (au_i o), some (au_i b), some (au_i (dkN Ap o b k)), some (au_i (k : Int))] [] (mi, si, hi, sl, r, nx) 0 0 := by
    intro f
    induction f with
    | zero => intro k h1 hf; exfalso; omega
    | succ f ih =>
      intro k h1 hf
      refine au_iload dX2_deskOf_5 rfl ?_
      refine au_aload_n dX2_deskOf_7 rfl ?_
      refine au_getf (C := RX2) (T := TX2) (N := 35) in_X2 (by decide) rfl 0 (by decide) rfl rfl q1359 rfl dX2_deskOf_8 (v := au_r MA) (congrArg au_q (fx_MO_0 hF)) ?_
      refine au_bipush dX2_deskOf_11 rfl rfl ?_
      refine au_iald dX2_deskOf_13 rfl (by omega) (by show _ < ((4544 : Nat) : Int); omega) (v := au_i (sn)) (congrArg au_i (hSn)) ?_
      refine au_icmp_ge (tgt := 59) dX2_deskOf_14 (by decide) (fun c14 => ?_) (fun c14 => ?_)
      · refine au_iload_n dX2_deskOf_59 rfl ?_
        exact au_iret dX2_deskOf_60 rfl rfl (Nat.le_of_ble_eq_true rfl) (Nat.le_of_ble_eq_true rfl) (au_pe (by rw [show sn.toNat = k by omega]) rfl)
      · have hd := dkN_bd Ap o b k
        refine au_iload_n dX2_deskOf_17 rfl ?_
        refine au_iload dX2_deskOf_18 rfl ?_
        refine au_iload_n dX2_deskOf_20 rfl ?_
        refine au_icmp_eq (tgt := 50) dX2_deskOf_21 (by decide) (fun c21 => ?_) (fun c21 => ?_)
        · refine au_iconst dX2_deskOf_50 rfl rfl ?_
          refine au_iadd dX2_deskOf_51 (by omega) (by omega) ?_
          refine au_istore_n dX2_deskOf_52 (show 3 < 5 by decide) ?_
          show au_Go G _ _ 53 [some (au_r MO), some (au_i o), some (au_i b), some (au_i ((dkN Ap o b k) + 0)), some (au_i (k : Int))] [] (mi, si, hi, sl, r, nx) 0 0
          refine au_iinc dX2_deskOf_53 rfl (show 4 < 5 by decide) (by omega) (by omega) (by decide) (by decide) ?_
          show au_Go G _ _ 56 [some (au_r MO), some (au_i o), some (au_i b), some (au_i ((dkN Ap o b k) + 0)), some (au_i ((k : Int) + 1))] [] (mi, si, hi, sl, r, nx) 0 0
          refine au_goto (tgt := 5) dX2_deskOf_56 (by decide) ?_
          have e1 : ∀ z : Int, z = dkN Ap o b (k + 1) → au_Go G (yX2_deskOf.cls, cX2_deskOf, 5, (some .int), au_rm 1 0 0, yX2_deskOf.name) (au_QM G (au_rm 1 0 0) (au_pure (au_i (dkN Ap o b sn.toNat)) (mi, si, hi, sl, r, nx))) 5 [some (au_r MO), some (au_i o), some (au_i b), some (au_i z), some (au_i ((k : Int) + 1))] [] (mi, si, hi, sl, r, nx) 0 0 := fun z hz => by rw [hz]; exact ih (k + 1) (by omega) (by omega)
          exact e1 _ (by simp only [dkN]; split <;> omega)
        · refine au_aload_n dX2_deskOf_24 rfl ?_
          refine au_iload dX2_deskOf_25 rfl ?_
          refine au_iconst dX2_deskOf_27 rfl rfl ?_
          refine au_callVp (n := 2) (kX2_getA G (k : Int) 4 mi si hi sl r nx hF Ap hAp (by omega) (by omega) (by omega) (by omega)) (lw_V q1694 q1696 qs93 q134 q1697) rfl (by decide +kernel) (by decide) (T := TX2) (N := 35) rfl rfl rfl rfl (Nat.le_of_ble_eq_true rfl) (Nat.le_of_ble_eq_true rfl) (Nat.le_of_ble_eq_true rfl) (Nat.le_of_ble_eq_true rfl) (Nat.le_of_ble_eq_true rfl) dX2_deskOf_28 ?_
          refine au_iconst dX2_deskOf_31 rfl rfl ?_
          refine au_icmp_eq (tgt := 50) dX2_deskOf_32 (by decide) (fun c32 => ?_) (fun c32 => ?_)
          · refine au_iconst dX2_deskOf_50 rfl rfl ?_
            refine au_iadd dX2_deskOf_51 (by omega) (by omega) ?_
            refine au_istore_n dX2_deskOf_52 (show 3 < 5 by decide) ?_
            show au_Go G _ _ 53 [some (au_r MO), some (au_i o), some (au_i b), some (au_i ((dkN Ap o b k) + 0)), some (au_i (k : Int))] [] (mi, si, hi, sl, r, nx) 0 0
            refine au_iinc dX2_deskOf_53 rfl (show 4 < 5 by decide) (by omega) (by omega) (by decide) (by decide) ?_
            show au_Go G _ _ 56 [some (au_r MO), some (au_i o), some (au_i b), some (au_i ((dkN Ap o b k) + 0)), some (au_i ((k : Int) + 1))] [] (mi, si, hi, sl, r, nx) 0 0
            refine au_goto (tgt := 5) dX2_deskOf_56 (by decide) ?_
            have e1 : ∀ z : Int, z = dkN Ap o b (k + 1) → au_Go G (yX2_deskOf.cls, cX2_deskOf, 5, (some .int), au_rm 1 0 0, yX2_deskOf.name) (au_QM G (au_rm 1 0 0) (au_pure (au_i (dkN Ap o b sn.toNat)) (mi, si, hi, sl, r, nx))) 5 [some (au_r MO), some (au_i o), some (au_i b), some (au_i z), some (au_i ((k : Int) + 1))] [] (mi, si, hi, sl, r, nx) 0 0 := fun z hz => by rw [hz]; exact ih (k + 1) (by omega) (by omega)
            exact e1 _ (by simp only [dkN]; split <;> omega)
          · refine au_aload_n dX2_deskOf_35 rfl ?_
            refine au_iload dX2_deskOf_36 rfl ?_
            refine au_iconst dX2_deskOf_38 rfl rfl ?_
            refine au_callVp (n := 2) (kX2_getA G (k : Int) 2 mi si hi sl r nx hF Ap hAp (by omega) (by omega) (by omega) (by omega)) (lw_V q1694 q1696 qs93 q134 q1697) rfl (by decide +kernel) (by decide) (T := TX2) (N := 35) rfl rfl rfl rfl (Nat.le_of_ble_eq_true rfl) (Nat.le_of_ble_eq_true rfl) (Nat.le_of_ble_eq_true rfl) (Nat.le_of_ble_eq_true rfl) (Nat.le_of_ble_eq_true rfl) dX2_deskOf_39 ?_
            refine au_iload_n dX2_deskOf_42 rfl ?_
            refine au_icmp_ne (tgt := 50) dX2_deskOf_43 (by decide) (fun c43 => ?_) (fun c43 => ?_)
            · refine au_iconst dX2_deskOf_50 rfl rfl ?_
              refine au_iadd dX2_deskOf_51 (by omega) (by omega) ?_
              refine au_istore_n dX2_deskOf_52 (show 3 < 5 by decide) ?_
              show au_Go G _ _ 53 [some (au_r MO), some (au_i o), some (au_i b), some (au_i ((dkN Ap o b k) + 0)), some (au_i (k : Int))] [] (mi, si, hi, sl, r, nx) 0 0
              refine au_iinc dX2_deskOf_53 rfl (show 4 < 5 by decide) (by omega) (by omega) (by decide) (by decide) ?_
              show au_Go G _ _ 56 [some (au_r MO), some (au_i o), some (au_i b), some (au_i ((dkN Ap o b k) + 0)), some (au_i ((k : Int) + 1))] [] (mi, si, hi, sl, r, nx) 0 0
              refine au_goto (tgt := 5) dX2_deskOf_56 (by decide) ?_
              have e1 : ∀ z : Int, z = dkN Ap o b (k + 1) → au_Go G (yX2_deskOf.cls, cX2_deskOf, 5, (some .int), au_rm 1 0 0, yX2_deskOf.name) (au_QM G (au_rm 1 0 0) (au_pure (au_i (dkN Ap o b sn.toNat)) (mi, si, hi, sl, r, nx))) 5 [some (au_r MO), some (au_i o), some (au_i b), some (au_i z), some (au_i ((k : Int) + 1))] [] (mi, si, hi, sl, r, nx) 0 0 := fun z hz => by rw [hz]; exact ih (k + 1) (by omega) (by omega)
              exact e1 _ (by simp only [dkN]; split <;> omega)
            · refine au_iconst dX2_deskOf_46 rfl rfl ?_
              refine au_goto (tgt := 51) dX2_deskOf_47 (by decide) ?_
              refine au_iadd dX2_deskOf_51 (by omega) (by omega) ?_
              refine au_istore_n dX2_deskOf_52 (show 3 < 5 by decide) ?_
              show au_Go G _ _ 53 [some (au_r MO), some (au_i o), some (au_i b), some (au_i ((dkN Ap o b k) + 1)), some (au_i (k : Int))] [] (mi, si, hi, sl, r, nx) 0 0
              refine au_iinc dX2_deskOf_53 rfl (show 4 < 5 by decide) (by omega) (by omega) (by decide) (by decide) ?_
              show au_Go G _ _ 56 [some (au_r MO), some (au_i o), some (au_i b), some (au_i ((dkN Ap o b k) + 1)), some (au_i ((k : Int) + 1))] [] (mi, si, hi, sl, r, nx) 0 0
              refine au_goto (tgt := 5) dX2_deskOf_56 (by decide) ?_
              have e1 : ∀ z : Int, z = dkN Ap o b (k + 1) → au_Go G (yX2_deskOf.cls, cX2_deskOf, 5, (some .int), au_rm 1 0 0, yX2_deskOf.name) (au_QM G (au_rm 1 0 0) (au_pure (au_i (dkN Ap o b sn.toNat)) (mi, si, hi, sl, r, nx))) 5 [some (au_r MO), some (au_i o), some (au_i b), some (au_i z), some (au_i ((k : Int) + 1))] [] (mi, si, hi, sl, r, nx) 0 0 := fun z hz => by rw [hz]; exact ih (k + 1) (by omega) (by omega)
              exact e1 _ (by simp only [dkN]; split <;> omega)
  exact hl 11 0 (by omega) (by omega)
theorem kX2_stuck (G : au_G) (mi si hi sl : au_A → Int → Int) (r : au_A → Int → Option au_A) (nx : Nat) (hF : Fix r) (n : Int) (hN : mi MA 0 = n) (hn : 0 ≤ n ∧ n ≤ 10) (sn : Int) (hSn : mi MA 8 = sn) (hs : 0 ≤ sn ∧ sn ≤ 10) (Ap : Int → Int → Int) (hAp : ∀ k w, 0 ≤ k → k < 10 → 0 ≤ w → w ≤ 6 → mi MA (20 + 7 * k + w) = Ap k w) : au_Ctr G yX2_stuck cX2_stuck 4 (some .int) 2 0 0 [au_r MO] (mi, si, hi, sl, r, nx) (au_pure (au_i (stB (fun o => dkN Ap o (-1) sn.toNat) n.toNat)) (mi, si, hi, sl, r, nx)) := by
  refine au_of (by decide) (Nat.le_of_ble_eq_true rfl) ?_
  show au_Go G _ _ 0 [some (au_r MO), none, none, none] [] (mi, si, hi, sl, r, nx) 0 0
  refine au_iconst dX2_stuck_0 rfl rfl ?_
  refine au_istore_n dX2_stuck_1 (show 1 < 4 by decide) ?_
  show au_Go G _ _ 2 [some (au_r MO), some (au_i (-1)), none, none] [] (mi, si, hi, sl, r, nx) 0 0
  refine au_iconst dX2_stuck_2 rfl rfl ?_
  refine au_istore_n dX2_stuck_3 (show 2 < 4 by decide) ?_
  show au_Go G _ _ 4 [some (au_r MO), some (au_i (-1)), some (au_i 0), none] [] (mi, si, hi, sl, r, nx) 0 0
  refine au_iconst dX2_stuck_4 rfl rfl ?_
  refine au_istore_n dX2_stuck_5 (show 3 < 4 by decide) ?_
  show au_Go G _ _ 6 [some (au_r MO), some (au_i (-1)), some (au_i 0), some (au_i 0)] [] (mi, si, hi, sl, r, nx) 0 0
  have hl : ∀ (f : Nat) (k : Nat) (ms : Int), ((k : Int) ≤ n) → (ms = (if stB (fun o => dkN Ap o (-1) sn.toNat) k = -1 then 0 else (fun o => dkN Ap o (-1) sn.toNat) (stB (fun o => dkN Ap o (-1) sn.toNat) k))) → (n - (k : Int)) < (f : Int) → au_Go G (yX2_stuck.cls, cX2_stuck, 4, (some .int), au_rm 2 0 0, yX2_stuck.name) (au_QM G (au_rm 2 0 0) (au_pure (au_i (stB (fun o => dkN Ap o (-1) sn.toNat) n.toNat)) (mi, si, hi, sl, r, nx))) 6 [some (au_r MO), some (au_i (stB (fun o => dkN Ap o (-1) sn.toNat) k)), some (au_i ms), some (au_i (k : Int))] [] (mi, si, hi, sl, r, nx) 0 0 := by
    intro f
    induction f with
    | zero => intro k ms h1 h2 hf; exfalso; omega
    | succ f ih =>
      intro k ms h1 h2 hf
      refine au_iload_n dX2_stuck_6 rfl ?_
      refine au_aload_n dX2_stuck_7 rfl ?_
      refine au_getf (C := RX2) (T := TX2) (N := 35) in_X2 (by decide) rfl 0 (by decide) rfl rfl q1359 rfl dX2_stuck_8 (v := au_r MA) (congrArg au_q (fx_MO_0 hF)) ?_
      refine au_iconst dX2_stuck_11 rfl rfl ?_
      refine au_iald dX2_stuck_12 rfl (by omega) (by show _ < ((4544 : Nat) : Int); omega) (v := au_i (n)) (congrArg au_i (hN)) ?_
      refine au_icmp_ge (tgt := 44) dX2_stuck_13 (by decide) (fun c13 => ?_) (fun c13 => ?_)
      · refine au_iload_n dX2_stuck_44 rfl ?_
        exact au_iret dX2_stuck_45 rfl rfl (Nat.le_of_ble_eq_true rfl) (Nat.le_of_ble_eq_true rfl) (au_pe (by rw [show n.toNat = k by omega]) rfl)
      · refine au_aload_n dX2_stuck_16 rfl ?_
        refine au_iload_n dX2_stuck_17 rfl ?_
        refine au_iconst dX2_stuck_18 rfl rfl ?_
        refine au_callVp (n := 2) (kX2_deskOf G (k : Int) (-1) mi si hi sl r nx hF sn hSn hs Ap hAp ) (lw_V q1726 q1728 qs100 q134 q1729) rfl (by decide +kernel) (by decide) (T := TX2) (N := 35) rfl rfl rfl rfl (Nat.le_of_ble_eq_true rfl) (Nat.le_of_ble_eq_true rfl) (Nat.le_of_ble_eq_true rfl) (Nat.le_of_ble_eq_true rfl) (Nat.le_of_ble_eq_true rfl) dX2_stuck_19 ?_
        refine au_iload_n dX2_stuck_22 rfl ?_
        refine au_icmp_gt (tgt := 29) dX2_stuck_23 (by decide) (fun c23 => ?_) (fun c23 => ?_)
        · refine au_aload_n dX2_stuck_29 rfl ?_
          refine au_iload_n dX2_stuck_30 rfl ?_
          refine au_iconst dX2_stuck_31 rfl rfl ?_
          refine au_callVp (n := 2) (kX2_deskOf G (k : Int) (-1) mi si hi sl r nx hF sn hSn hs Ap hAp ) (lw_V q1726 q1728 qs100 q134 q1729) rfl (by decide +kernel) (by decide) (T := TX2) (N := 35) rfl rfl rfl rfl (Nat.le_of_ble_eq_true rfl) (Nat.le_of_ble_eq_true rfl) (Nat.le_of_ble_eq_true rfl) (Nat.le_of_ble_eq_true rfl) (Nat.le_of_ble_eq_true rfl) dX2_stuck_32 ?_
          refine au_istore_n dX2_stuck_35 (show 2 < 4 by decide) ?_
          show au_Go G _ _ 36 [some (au_r MO), some (au_i (stB (fun o => dkN Ap o (-1) sn.toNat) k)), some (au_i (dkN Ap (k : Int) (-1) sn.toNat)), some (au_i (k : Int))] [] (mi, si, hi, sl, r, nx) 0 0
          refine au_iload_n dX2_stuck_36 rfl ?_
          refine au_istore_n dX2_stuck_37 (show 1 < 4 by decide) ?_
          show au_Go G _ _ 38 [some (au_r MO), some (au_i (k : Int)), some (au_i (dkN Ap (k : Int) (-1) sn.toNat)), some (au_i (k : Int))] [] (mi, si, hi, sl, r, nx) 0 0
          refine au_iinc dX2_stuck_38 rfl (show 3 < 4 by decide) (by omega) (by omega) (by decide) (by decide) ?_
          show au_Go G _ _ 41 [some (au_r MO), some (au_i (k : Int)), some (au_i (dkN Ap (k : Int) (-1) sn.toNat)), some (au_i ((k : Int) + 1))] [] (mi, si, hi, sl, r, nx) 0 0
          refine au_goto (tgt := 6) dX2_stuck_41 (by decide) ?_
          have e1 : ∀ z w : Int, z = stB (fun o => dkN Ap o (-1) sn.toNat) (k + 1) → w = (if stB (fun o => dkN Ap o (-1) sn.toNat) (k + 1) = -1 then 0 else (fun o => dkN Ap o (-1) sn.toNat) (stB (fun o => dkN Ap o (-1) sn.toNat) (k + 1))) → au_Go G (yX2_stuck.cls, cX2_stuck, 4, (some .int), au_rm 2 0 0, yX2_stuck.name) (au_QM G (au_rm 2 0 0) (au_pure (au_i (stB (fun o => dkN Ap o (-1) sn.toNat) n.toNat)) (mi, si, hi, sl, r, nx))) 6 [some (au_r MO), some (au_i z), some (au_i w), some (au_i ((k : Int) + 1))] [] (mi, si, hi, sl, r, nx) 0 0 := fun z w hz hw => by rw [hz]; exact ih (k + 1) w (by omega) hw (by omega)
          have hst : stB (fun o => dkN Ap o (-1) sn.toNat) (k + 1) = if ms < dkN Ap (k : Int) (-1) sn.toNat then (k : Int) else stB (fun o => dkN Ap o (-1) sn.toNat) k := by simp only [stB]; rw [h2]
          exact e1 _ _ (by rw [hst]; split <;> omega) (by rw [hst]; split <;> (try rw [if_neg (by omega)]) <;> (try rw [← h2]) <;> first | rfl | omega)
        · refine au_goto (tgt := 38) dX2_stuck_26 (by decide) ?_
          refine au_iinc dX2_stuck_38 rfl (show 3 < 4 by decide) (by omega) (by omega) (by decide) (by decide) ?_
          show au_Go G _ _ 41 [some (au_r MO), some (au_i (stB (fun o => dkN Ap o (-1) sn.toNat) k)), some (au_i ms), some (au_i ((k : Int) + 1))] [] (mi, si, hi, sl, r, nx) 0 0
          refine au_goto (tgt := 6) dX2_stuck_41 (by decide) ?_
          have e1 : ∀ z w : Int, z = stB (fun o => dkN Ap o (-1) sn.toNat) (k + 1) → w = (if stB (fun o => dkN Ap o (-1) sn.toNat) (k + 1) = -1 then 0 else (fun o => dkN Ap o (-1) sn.toNat) (stB (fun o => dkN Ap o (-1) sn.toNat) (k + 1))) → au_Go G (yX2_stuck.cls, cX2_stuck, 4, (some .int), au_rm 2 0 0, yX2_stuck.name) (au_QM G (au_rm 2 0 0) (au_pure (au_i (stB (fun o => dkN Ap o (-1) sn.toNat) n.toNat)) (mi, si, hi, sl, r, nx))) 6 [some (au_r MO), some (au_i z), some (au_i w), some (au_i ((k : Int) + 1))] [] (mi, si, hi, sl, r, nx) 0 0 := fun z w hz hw => by rw [hz]; exact ih (k + 1) w (by omega) hw (by omega)
          have hst : stB (fun o => dkN Ap o (-1) sn.toNat) (k + 1) = if ms < dkN Ap (k : Int) (-1) sn.toNat then (k : Int) else stB (fun o => dkN Ap o (-1) sn.toNat) k := by simp only [stB]; rw [h2]
          exact e1 _ _ (by rw [hst]; split <;> omega) (by rw [hst]; split <;> (try rw [if_neg (by omega)]) <;> (try rw [← h2]) <;> first | rfl | omega)
  exact hl 11 0 0 (by omega) rfl (by omega)
theorem kX2_eldest (G : au_G) (mi si hi sl : au_A → Int → Int) (r : au_A → Int → Option au_A) (nx : Nat) (hF : Fix r) (sn : Int) (hSn : mi MA 8 = sn) (hs : 0 ≤ sn ∧ sn ≤ 10) (Ap : Int → Int → Int) (hAp : ∀ k w, 0 ≤ k → k < 10 → 0 ≤ w → w ≤ 6 → mi MA (20 + 7 * k + w) = Ap k w) : au_Ctr G yX2_eldest cX2_eldest 3 (some .int) 1 0 0 [au_r MO] (mi, si, hi, sl, r, nx) (au_pure (au_i (elB Ap sn.toNat)) (mi, si, hi, sl, r, nx)) := by
  refine au_of (by decide) (Nat.le_of_ble_eq_true rfl) ?_
  show au_Go G _ _ 0 [some (au_r MO), none, none] [] (mi, si, hi, sl, r, nx) 0 0
  refine au_iconst dX2_eldest_0 rfl rfl ?_
  refine au_istore_n dX2_eldest_1 (show 1 < 3 by decide) ?_
  show au_Go G _ _ 2 [some (au_r MO), some (au_i (-1)), none] [] (mi, si, hi, sl, r, nx) 0 0
  refine au_iconst dX2_eldest_2 rfl rfl ?_
  refine au_istore_n dX2_eldest_3 (show 2 < 3 by decide) ?_
  show au_Go G _ _ 4 [some (au_r MO), some (au_i (-1)), some (au_i 0)] [] (mi, si, hi, sl, r, nx) 0 0
  have hl : ∀ (f : Nat) (k : Nat), ((k : Int) ≤ sn) → (sn - (k : Int)) < (f : Int) → au_Go G (yX2_eldest.cls, cX2_eldest, 3, (some .int), au_rm 1 0 0, yX2_eldest.name) (au_QM G (au_rm 1 0 0) (au_pure (au_i (elB Ap sn.toNat)) (mi, si, hi, sl, r, nx))) 4 [some (au_r MO), some (au_i (elB Ap k)), some (au_i (k : Int))] [] (mi, si, hi, sl, r, nx) 0 0 := by
    intro f
    induction f with
    | zero => intro k h1 hf; exfalso; omega
    | succ f ih =>
      intro k h1 hf
      refine au_iload_n dX2_eldest_4 rfl ?_
      refine au_aload_n dX2_eldest_5 rfl ?_
      refine au_getf (C := RX2) (T := TX2) (N := 35) in_X2 (by decide) rfl 0 (by decide) rfl rfl q1359 rfl dX2_eldest_6 (v := au_r MA) (congrArg au_q (fx_MO_0 hF)) ?_
      refine au_bipush dX2_eldest_9 rfl rfl ?_
      refine au_iald dX2_eldest_11 rfl (by omega) (by show _ < ((4544 : Nat) : Int); omega) (v := au_i (sn)) (congrArg au_i (hSn)) ?_
      refine au_icmp_ge (tgt := 53) dX2_eldest_12 (by decide) (fun c12 => ?_) (fun c12 => ?_)
      · refine au_iload_n dX2_eldest_53 rfl ?_
        exact au_iret dX2_eldest_54 rfl rfl (Nat.le_of_ble_eq_true rfl) (Nat.le_of_ble_eq_true rfl) (au_pe (by rw [show sn.toNat = k by omega]) rfl)
      · have hd := elB_bd Ap k
        refine au_aload_n dX2_eldest_15 rfl ?_
        refine au_iload_n dX2_eldest_16 rfl ?_
        refine au_iconst dX2_eldest_17 rfl rfl ?_
        refine au_callVp (n := 2) (kX2_getA G (k : Int) 4 mi si hi sl r nx hF Ap hAp (by omega) (by omega) (by omega) (by omega)) (lw_V q1694 q1696 qs93 q134 q1697) rfl (by decide +kernel) (by decide) (T := TX2) (N := 35) rfl rfl rfl rfl (Nat.le_of_ble_eq_true rfl) (Nat.le_of_ble_eq_true rfl) (Nat.le_of_ble_eq_true rfl) (Nat.le_of_ble_eq_true rfl) (Nat.le_of_ble_eq_true rfl) dX2_eldest_18 ?_
        refine au_iconst dX2_eldest_21 rfl rfl ?_
        refine au_icmp_eq (tgt := 47) dX2_eldest_22 (by decide) (fun c22 => ?_) (fun c22 => ?_)
        · refine au_iinc dX2_eldest_47 rfl (show 2 < 3 by decide) (by omega) (by omega) (by decide) (by decide) ?_
          show au_Go G _ _ 50 [some (au_r MO), some (au_i (elB Ap k)), some (au_i ((k : Int) + 1))] [] (mi, si, hi, sl, r, nx) 0 0
          refine au_goto (tgt := 4) dX2_eldest_50 (by decide) ?_
          have e1 : ∀ z : Int, z = elB Ap (k + 1) → au_Go G (yX2_eldest.cls, cX2_eldest, 3, (some .int), au_rm 1 0 0, yX2_eldest.name) (au_QM G (au_rm 1 0 0) (au_pure (au_i (elB Ap sn.toNat)) (mi, si, hi, sl, r, nx))) 4 [some (au_r MO), some (au_i z), some (au_i ((k : Int) + 1))] [] (mi, si, hi, sl, r, nx) 0 0 := fun z hz => by rw [hz]; exact ih (k + 1) (by omega) (by omega)
          exact e1 _ (by simp only [elB]; split <;> omega)
        · refine au_iload_n dX2_eldest_25 rfl ?_
          refine au_iconst dX2_eldest_26 rfl rfl ?_
          refine au_icmp_eq (tgt := 45) dX2_eldest_27 (by decide) (fun c27 => ?_) (fun c27 => ?_)
          · refine au_iload_n dX2_eldest_45 rfl ?_
            refine au_istore_n dX2_eldest_46 (show 1 < 3 by decide) ?_
            show au_Go G _ _ 47 [some (au_r MO), some (au_i (k : Int)), some (au_i (k : Int))] [] (mi, si, hi, sl, r, nx) 0 0
            refine au_iinc dX2_eldest_47 rfl (show 2 < 3 by decide) (by omega) (by omega) (by decide) (by decide) ?_
            show au_Go G _ _ 50 [some (au_r MO), some (au_i (k : Int)), some (au_i ((k : Int) + 1))] [] (mi, si, hi, sl, r, nx) 0 0
            refine au_goto (tgt := 4) dX2_eldest_50 (by decide) ?_
            have e1 : ∀ z : Int, z = elB Ap (k + 1) → au_Go G (yX2_eldest.cls, cX2_eldest, 3, (some .int), au_rm 1 0 0, yX2_eldest.name) (au_QM G (au_rm 1 0 0) (au_pure (au_i (elB Ap sn.toNat)) (mi, si, hi, sl, r, nx))) 4 [some (au_r MO), some (au_i z), some (au_i ((k : Int) + 1))] [] (mi, si, hi, sl, r, nx) 0 0 := fun z hz => by rw [hz]; exact ih (k + 1) (by omega) (by omega)
            exact e1 _ (by simp only [elB]; split <;> omega)
          · refine au_aload_n dX2_eldest_30 rfl ?_
            refine au_iload_n dX2_eldest_31 rfl ?_
            refine au_iconst dX2_eldest_32 rfl rfl ?_
            refine au_callVp (n := 2) (kX2_getA G (k : Int) 5 mi si hi sl r nx hF Ap hAp (by omega) (by omega) (by omega) (by omega)) (lw_V q1694 q1696 qs93 q134 q1697) rfl (by decide +kernel) (by decide) (T := TX2) (N := 35) rfl rfl rfl rfl (Nat.le_of_ble_eq_true rfl) (Nat.le_of_ble_eq_true rfl) (Nat.le_of_ble_eq_true rfl) (Nat.le_of_ble_eq_true rfl) (Nat.le_of_ble_eq_true rfl) dX2_eldest_33 ?_
            refine au_aload_n dX2_eldest_36 rfl ?_
            refine au_iload_n dX2_eldest_37 rfl ?_
            refine au_iconst dX2_eldest_38 rfl rfl ?_
            refine au_callVp (n := 2) (kX2_getA G (elB Ap k) 5 mi si hi sl r nx hF Ap hAp (by omega) (by omega) (by omega) (by omega)) (lw_V q1694 q1696 qs93 q134 q1697) rfl (by decide +kernel) (by decide) (T := TX2) (N := 35) rfl rfl rfl rfl (Nat.le_of_ble_eq_true rfl) (Nat.le_of_ble_eq_true rfl) (Nat.le_of_ble_eq_true rfl) (Nat.le_of_ble_eq_true rfl) (Nat.le_of_ble_eq_true rfl) dX2_eldest_39 ?_
            refine au_icmp_ge (tgt := 47) dX2_eldest_42 (by decide) (fun c42 => ?_) (fun c42 => ?_)
            · refine au_iinc dX2_eldest_47 rfl (show 2 < 3 by decide) (by omega) (by omega) (by decide) (by decide) ?_
              show au_Go G _ _ 50 [some (au_r MO), some (au_i (elB Ap k)), some (au_i ((k : Int) + 1))] [] (mi, si, hi, sl, r, nx) 0 0
              refine au_goto (tgt := 4) dX2_eldest_50 (by decide) ?_
              have e1 : ∀ z : Int, z = elB Ap (k + 1) → au_Go G (yX2_eldest.cls, cX2_eldest, 3, (some .int), au_rm 1 0 0, yX2_eldest.name) (au_QM G (au_rm 1 0 0) (au_pure (au_i (elB Ap sn.toNat)) (mi, si, hi, sl, r, nx))) 4 [some (au_r MO), some (au_i z), some (au_i ((k : Int) + 1))] [] (mi, si, hi, sl, r, nx) 0 0 := fun z hz => by rw [hz]; exact ih (k + 1) (by omega) (by omega)
              exact e1 _ (by simp only [elB]; split <;> omega)
            · refine au_iload_n dX2_eldest_45 rfl ?_
              refine au_istore_n dX2_eldest_46 (show 1 < 3 by decide) ?_
              show au_Go G _ _ 47 [some (au_r MO), some (au_i (k : Int)), some (au_i (k : Int))] [] (mi, si, hi, sl, r, nx) 0 0
              refine au_iinc dX2_eldest_47 rfl (show 2 < 3 by decide) (by omega) (by omega) (by decide) (by decide) ?_
              show au_Go G _ _ 50 [some (au_r MO), some (au_i (k : Int)), some (au_i ((k : Int) + 1))] [] (mi, si, hi, sl, r, nx) 0 0
              refine au_goto (tgt := 4) dX2_eldest_50 (by decide) ?_
              have e1 : ∀ z : Int, z = elB Ap (k + 1) → au_Go G (yX2_eldest.cls, cX2_eldest, 3, (some .int), au_rm 1 0 0, yX2_eldest.name) (au_QM G (au_rm 1 0 0) (au_pure (au_i (elB Ap sn.toNat)) (mi, si, hi, sl, r, nx))) 4 [some (au_r MO), some (au_i z), some (au_i ((k : Int) + 1))] [] (mi, si, hi, sl, r, nx) 0 0 := fun z hz => by rw [hz]; exact ih (k + 1) (by omega) (by omega)
              exact e1 _ (by simp only [elB]; split <;> omega)
  exact hl 11 0 (by omega) (by omega)
theorem kX2_sorry (G : au_G) (o : Int) (mi si hi sl : au_A → Int → Int) (r : au_A → Int → Option au_A) (nx : Nat) (hF : Fix r) (n : Int) (hN : mi MA 0 = n) (hn : 0 ≤ n ∧ n ≤ 10) (sn : Int) (hSn : mi MA 8 = sn) (hs : 0 ≤ sn ∧ sn ≤ 10) (Ap : Int → Int → Int) (hAp : ∀ k w, 0 ≤ k → k < 10 → 0 ≤ w → w ≤ 6 → mi MA (20 + 7 * k + w) = Ap k w) : au_Ctr G yX2_sorry cX2_sorry 4 (some .int) 2 0 0 [au_r MO, au_i o] (mi, si, hi, sl, r, nx) (au_pure (au_i (if o = -1 ∨ (0 ≤ o ∧ o < n) then syN Ap o sn.toNat else -2)) (mi, si, hi, sl, r, nx)) := by
  refine au_of (by decide) (Nat.le_of_ble_eq_true rfl) ?_
  show au_Go G _ _ 0 [some (au_r MO), some (au_i o), none, none] [] (mi, si, hi, sl, r, nx) 0 0
  refine au_iload_n dX2_sorry_0 rfl ?_
  refine au_iconst dX2_sorry_1 rfl rfl ?_
  refine au_icmp_eq (tgt := 16) dX2_sorry_2 (by decide) (fun c2 => ?_) (fun c2 => ?_)
  · refine au_iconst dX2_sorry_16 rfl rfl ?_
    refine au_istore_n dX2_sorry_17 (show 2 < 4 by decide) ?_
    show au_Go G _ _ 18 [some (au_r MO), some (au_i o), some (au_i 0), none] [] (mi, si, hi, sl, r, nx) 0 0
    refine au_iconst dX2_sorry_18 rfl rfl ?_
    refine au_istore_n dX2_sorry_19 (show 3 < 4 by decide) ?_
    show au_Go G _ _ 20 [some (au_r MO), some (au_i o), some (au_i 0), some (au_i 0)] [] (mi, si, hi, sl, r, nx) 0 0
    have hl : ∀ (f : Nat) (k : Nat), ((k : Int) ≤ sn) → (sn - (k : Int)) < (f : Int) → au_Go G (yX2_sorry.cls, cX2_sorry, 4, (some .int), au_rm 2 0 0, yX2_sorry.name) (au_QM G (au_rm 2 0 0) (au_pure (au_i (if o = -1 ∨ (0 ≤ o ∧ o < n) then syN Ap o sn.toNat else -2)) (mi, si, hi, sl, r, nx))) 20 [some (au_r MO), some (au_i o), some (au_i (syN Ap o k)), some (au_i (k : Int))] [] (mi, si, hi, sl, r, nx) 0 0 := by
      intro f
      induction f with
      | zero => intro k h1 hf; exfalso; omega
      | succ f ih =>
        intro k h1 hf
        refine au_iload_n dX2_sorry_20 rfl ?_
        refine au_aload_n dX2_sorry_21 rfl ?_
        refine au_getf (C := RX2) (T := TX2) (N := 35) in_X2 (by decide) rfl 0 (by decide) rfl rfl q1359 rfl dX2_sorry_22 (v := au_r MA) (congrArg au_q (fx_MO_0 hF)) ?_
        refine au_bipush dX2_sorry_25 rfl rfl ?_
        refine au_iald dX2_sorry_27 rfl (by omega) (by show _ < ((4544 : Nat) : Int); omega) (v := au_i (sn)) (congrArg au_i (hSn)) ?_
        refine au_icmp_ge (tgt := 75) dX2_sorry_28 (by decide) (fun c28 => ?_) (fun c28 => ?_)
        · refine au_iload_n dX2_sorry_75 rfl ?_
          exact au_iret dX2_sorry_76 rfl rfl (Nat.le_of_ble_eq_true rfl) (Nat.le_of_ble_eq_true rfl) (au_pe (by rw [if_pos (by omega), show sn.toNat = k by omega]) rfl)
        · refine au_iload_n dX2_sorry_31 rfl ?_
          refine au_aload_n dX2_sorry_32 rfl ?_
          refine au_iload_n dX2_sorry_33 rfl ?_
          refine au_iconst dX2_sorry_34 rfl rfl ?_
          refine au_callVp (n := 2) (kX2_getA G (k : Int) 4 mi si hi sl r nx hF Ap hAp (by omega) (by omega) (by omega) (by omega)) (lw_V q1694 q1696 qs93 q134 q1697) rfl (by decide +kernel) (by decide) (T := TX2) (N := 35) rfl rfl rfl rfl (Nat.le_of_ble_eq_true rfl) (Nat.le_of_ble_eq_true rfl) (Nat.le_of_ble_eq_true rfl) (Nat.le_of_ble_eq_true rfl) (Nat.le_of_ble_eq_true rfl) dX2_sorry_35 ?_
          refine au_iconst dX2_sorry_38 rfl rfl ?_
          refine au_icmp_eq (tgt := 66) dX2_sorry_39 (by decide) (fun c39 => ?_) (fun c39 => ?_)
          · refine au_iconst dX2_sorry_66 rfl rfl ?_
            refine au_iaddW dX2_sorry_67 ?_
            refine au_istore_n dX2_sorry_68 (show 2 < 4 by decide) ?_
            show au_Go G _ _ 69 [some (au_r MO), some (au_i o), some (au_i (au_w ((syN Ap o k) + 0))), some (au_i (k : Int))] [] (mi, si, hi, sl, r, nx) 0 0
            refine au_iinc dX2_sorry_69 rfl (show 3 < 4 by decide) (by omega) (by omega) (by decide) (by decide) ?_
            show au_Go G _ _ 72 [some (au_r MO), some (au_i o), some (au_i (au_w ((syN Ap o k) + 0))), some (au_i ((k : Int) + 1))] [] (mi, si, hi, sl, r, nx) 0 0
            refine au_goto (tgt := 20) dX2_sorry_72 (by decide) ?_
            have e1 : ∀ z : Int, z = syN Ap o (k + 1) → au_Go G (yX2_sorry.cls, cX2_sorry, 4, (some .int), au_rm 2 0 0, yX2_sorry.name) (au_QM G (au_rm 2 0 0) (au_pure (au_i (if o = -1 ∨ (0 ≤ o ∧ o < n) then syN Ap o sn.toNat else -2)) (mi, si, hi, sl, r, nx))) 20 [some (au_r MO), some (au_i o), some (au_i z), some (au_i ((k : Int) + 1))] [] (mi, si, hi, sl, r, nx) 0 0 := fun z hz => by rw [hz]; exact ih (k + 1) (by omega) (by omega)
            exact e1 _ (by simp only [syN]; split <;> first | rfl | (exfalso; omega))
          · refine au_iload_n dX2_sorry_42 rfl ?_
            refine au_iconst dX2_sorry_43 rfl rfl ?_
            refine au_icmp_eq (tgt := 57) dX2_sorry_44 (by decide) (fun c44 => ?_) (fun c44 => ?_)
            · refine au_aload_n dX2_sorry_57 rfl ?_
              refine au_iload_n dX2_sorry_58 rfl ?_
              refine au_iconst dX2_sorry_59 rfl rfl ?_
              refine au_callVp (n := 2) (kX2_getA G (k : Int) 3 mi si hi sl r nx hF Ap hAp (by omega) (by omega) (by omega) (by omega)) (lw_V q1694 q1696 qs93 q134 q1697) rfl (by decide +kernel) (by decide) (T := TX2) (N := 35) rfl rfl rfl rfl (Nat.le_of_ble_eq_true rfl) (Nat.le_of_ble_eq_true rfl) (Nat.le_of_ble_eq_true rfl) (Nat.le_of_ble_eq_true rfl) (Nat.le_of_ble_eq_true rfl) dX2_sorry_60 ?_
              refine au_goto (tgt := 67) dX2_sorry_63 (by decide) ?_
              refine au_iaddW dX2_sorry_67 ?_
              refine au_istore_n dX2_sorry_68 (show 2 < 4 by decide) ?_
              show au_Go G _ _ 69 [some (au_r MO), some (au_i o), some (au_i (au_w ((syN Ap o k) + (Ap (k : Int) 3)))), some (au_i (k : Int))] [] (mi, si, hi, sl, r, nx) 0 0
              refine au_iinc dX2_sorry_69 rfl (show 3 < 4 by decide) (by omega) (by omega) (by decide) (by decide) ?_
              show au_Go G _ _ 72 [some (au_r MO), some (au_i o), some (au_i (au_w ((syN Ap o k) + (Ap (k : Int) 3)))), some (au_i ((k : Int) + 1))] [] (mi, si, hi, sl, r, nx) 0 0
              refine au_goto (tgt := 20) dX2_sorry_72 (by decide) ?_
              have e1 : ∀ z : Int, z = syN Ap o (k + 1) → au_Go G (yX2_sorry.cls, cX2_sorry, 4, (some .int), au_rm 2 0 0, yX2_sorry.name) (au_QM G (au_rm 2 0 0) (au_pure (au_i (if o = -1 ∨ (0 ≤ o ∧ o < n) then syN Ap o sn.toNat else -2)) (mi, si, hi, sl, r, nx))) 20 [some (au_r MO), some (au_i o), some (au_i z), some (au_i ((k : Int) + 1))] [] (mi, si, hi, sl, r, nx) 0 0 := fun z hz => by rw [hz]; exact ih (k + 1) (by omega) (by omega)
              exact e1 _ (by simp only [syN]; split <;> first | rfl | (exfalso; omega))
            · refine au_aload_n dX2_sorry_47 rfl ?_
              refine au_iload_n dX2_sorry_48 rfl ?_
              refine au_iconst dX2_sorry_49 rfl rfl ?_
              refine au_callVp (n := 2) (kX2_getA G (k : Int) 0 mi si hi sl r nx hF Ap hAp (by omega) (by omega) (by omega) (by omega)) (lw_V q1694 q1696 qs93 q134 q1697) rfl (by decide +kernel) (by decide) (T := TX2) (N := 35) rfl rfl rfl rfl (Nat.le_of_ble_eq_true rfl) (Nat.le_of_ble_eq_true rfl) (Nat.le_of_ble_eq_true rfl) (Nat.le_of_ble_eq_true rfl) (Nat.le_of_ble_eq_true rfl) dX2_sorry_50 ?_
              refine au_iload_n dX2_sorry_53 rfl ?_
              refine au_icmp_ne (tgt := 66) dX2_sorry_54 (by decide) (fun c54 => ?_) (fun c54 => ?_)
              · refine au_iconst dX2_sorry_66 rfl rfl ?_
                refine au_iaddW dX2_sorry_67 ?_
                refine au_istore_n dX2_sorry_68 (show 2 < 4 by decide) ?_
                show au_Go G _ _ 69 [some (au_r MO), some (au_i o), some (au_i (au_w ((syN Ap o k) + 0))), some (au_i (k : Int))] [] (mi, si, hi, sl, r, nx) 0 0
                refine au_iinc dX2_sorry_69 rfl (show 3 < 4 by decide) (by omega) (by omega) (by decide) (by decide) ?_
                show au_Go G _ _ 72 [some (au_r MO), some (au_i o), some (au_i (au_w ((syN Ap o k) + 0))), some (au_i ((k : Int) + 1))] [] (mi, si, hi, sl, r, nx) 0 0
                refine au_goto (tgt := 20) dX2_sorry_72 (by decide) ?_
                have e1 : ∀ z : Int, z = syN Ap o (k + 1) → au_Go G (yX2_sorry.cls, cX2_sorry, 4, (some .int), au_rm 2 0 0, yX2_sorry.name) (au_QM G (au_rm 2 0 0) (au_pure (au_i (if o = -1 ∨ (0 ≤ o ∧ o < n) then syN Ap o sn.toNat else -2)) (mi, si, hi, sl, r, nx))) 20 [some (au_r MO), some (au_i o), some (au_i z), some (au_i ((k : Int) + 1))] [] (mi, si, hi, sl, r, nx) 0 0 := fun z hz => by rw [hz]; exact ih (k + 1) (by omega) (by omega)
                exact e1 _ (by simp only [syN]; split <;> first | rfl | (exfalso; omega))
              · refine au_aload_n dX2_sorry_57 rfl ?_
                refine au_iload_n dX2_sorry_58 rfl ?_
                refine au_iconst dX2_sorry_59 rfl rfl ?_
                refine au_callVp (n := 2) (kX2_getA G (k : Int) 3 mi si hi sl r nx hF Ap hAp (by omega) (by omega) (by omega) (by omega)) (lw_V q1694 q1696 qs93 q134 q1697) rfl (by decide +kernel) (by decide) (T := TX2) (N := 35) rfl rfl rfl rfl (Nat.le_of_ble_eq_true rfl) (Nat.le_of_ble_eq_true rfl) (Nat.le_of_ble_eq_true rfl) (Nat.le_of_ble_eq_true rfl) (Nat.le_of_ble_eq_true rfl) dX2_sorry_60 ?_
                refine au_goto (tgt := 67) dX2_sorry_63 (by decide) ?_
                refine au_iaddW dX2_sorry_67 ?_
                refine au_istore_n dX2_sorry_68 (show 2 < 4 by decide) ?_
                show au_Go G _ _ 69 [some (au_r MO), some (au_i o), some (au_i (au_w ((syN Ap o k) + (Ap (k : Int) 3)))), some (au_i (k : Int))] [] (mi, si, hi, sl, r, nx) 0 0
                refine au_iinc dX2_sorry_69 rfl (show 3 < 4 by decide) (by omega) (by omega) (by decide) (by decide) ?_
                show au_Go G _ _ 72 [some (au_r MO), some (au_i o), some (au_i (au_w ((syN Ap o k) + (Ap (k : Int) 3)))), some (au_i ((k : Int) + 1))] [] (mi, si, hi, sl, r, nx) 0 0
                refine au_goto (tgt := 20) dX2_sorry_72 (by decide) ?_
                have e1 : ∀ z : Int, z = syN Ap o (k + 1) → au_Go G (yX2_sorry.cls, cX2_sorry, 4, (some .int), au_rm 2 0 0, yX2_sorry.name) (au_QM G (au_rm 2 0 0) (au_pure (au_i (if o = -1 ∨ (0 ≤ o ∧ o < n) then syN Ap o sn.toNat else -2)) (mi, si, hi, sl, r, nx))) 20 [some (au_r MO), some (au_i o), some (au_i z), some (au_i ((k : Int) + 1))] [] (mi, si, hi, sl, r, nx) 0 0 := fun z hz => by rw [hz]; exact ih (k + 1) (by omega) (by omega)
                exact e1 _ (by simp only [syN]; split <;> first | rfl | (exfalso; omega))
    exact hl 11 0 (by omega) (by omega)
  · refine au_aload_n dX2_sorry_5 rfl ?_
    refine au_iload_n dX2_sorry_6 rfl ?_
    refine au_callVp (n := 1) (kX2_isOfficer G o mi si hi sl r nx hF n hN hn ) (lw_V q1471 q1473 qs56 q134 q1474) rfl (by decide +kernel) (by decide) (T := TX2) (N := 35) rfl rfl rfl rfl (Nat.le_of_ble_eq_true rfl) (Nat.le_of_ble_eq_true rfl) (Nat.le_of_ble_eq_true rfl) (Nat.le_of_ble_eq_true rfl) (Nat.le_of_ble_eq_true rfl) dX2_sorry_7 ?_
    refine au_if_ne (tgt := 16) dX2_sorry_10 (by decide) (fun c10 => ?_) (fun c10 => ?_)
    · have c10 := au_b1 c10
      refine au_iconst dX2_sorry_16 rfl rfl ?_
      refine au_istore_n dX2_sorry_17 (show 2 < 4 by decide) ?_
      show au_Go G _ _ 18 [some (au_r MO), some (au_i o), some (au_i 0), none] [] (mi, si, hi, sl, r, nx) 0 0
      refine au_iconst dX2_sorry_18 rfl rfl ?_
      refine au_istore_n dX2_sorry_19 (show 3 < 4 by decide) ?_
      show au_Go G _ _ 20 [some (au_r MO), some (au_i o), some (au_i 0), some (au_i 0)] [] (mi, si, hi, sl, r, nx) 0 0
      have hl : ∀ (f : Nat) (k : Nat), ((k : Int) ≤ sn) → (sn - (k : Int)) < (f : Int) → au_Go G (yX2_sorry.cls, cX2_sorry, 4, (some .int), au_rm 2 0 0, yX2_sorry.name) (au_QM G (au_rm 2 0 0) (au_pure (au_i (if o = -1 ∨ (0 ≤ o ∧ o < n) then syN Ap o sn.toNat else -2)) (mi, si, hi, sl, r, nx))) 20 [some (au_r MO), some (au_i o), some (au_i (syN Ap o k)), some (au_i (k : Int))] [] (mi, si, hi, sl, r, nx) 0 0 := by
        intro f
        induction f with
        | zero => intro k h1 hf; exfalso; omega
        | succ f ih =>
          intro k h1 hf
          refine au_iload_n dX2_sorry_20 rfl ?_
          refine au_aload_n dX2_sorry_21 rfl ?_
          refine au_getf (C := RX2) (T := TX2) (N := 35) in_X2 (by decide) rfl 0 (by decide) rfl rfl q1359 rfl dX2_sorry_22 (v := au_r MA) (congrArg au_q (fx_MO_0 hF)) ?_
          refine au_bipush dX2_sorry_25 rfl rfl ?_
          refine au_iald dX2_sorry_27 rfl (by omega) (by show _ < ((4544 : Nat) : Int); omega) (v := au_i (sn)) (congrArg au_i (hSn)) ?_
          refine au_icmp_ge (tgt := 75) dX2_sorry_28 (by decide) (fun c28 => ?_) (fun c28 => ?_)
          · refine au_iload_n dX2_sorry_75 rfl ?_
            exact au_iret dX2_sorry_76 rfl rfl (Nat.le_of_ble_eq_true rfl) (Nat.le_of_ble_eq_true rfl) (au_pe (by rw [if_pos (by omega), show sn.toNat = k by omega]) rfl)
          · refine au_iload_n dX2_sorry_31 rfl ?_
            refine au_aload_n dX2_sorry_32 rfl ?_
            refine au_iload_n dX2_sorry_33 rfl ?_
            refine au_iconst dX2_sorry_34 rfl rfl ?_
            refine au_callVp (n := 2) (kX2_getA G (k : Int) 4 mi si hi sl r nx hF Ap hAp (by omega) (by omega) (by omega) (by omega)) (lw_V q1694 q1696 qs93 q134 q1697) rfl (by decide +kernel) (by decide) (T := TX2) (N := 35) rfl rfl rfl rfl (Nat.le_of_ble_eq_true rfl) (Nat.le_of_ble_eq_true rfl) (Nat.le_of_ble_eq_true rfl) (Nat.le_of_ble_eq_true rfl) (Nat.le_of_ble_eq_true rfl) dX2_sorry_35 ?_
            refine au_iconst dX2_sorry_38 rfl rfl ?_
            refine au_icmp_eq (tgt := 66) dX2_sorry_39 (by decide) (fun c39 => ?_) (fun c39 => ?_)
            · refine au_iconst dX2_sorry_66 rfl rfl ?_
              refine au_iaddW dX2_sorry_67 ?_
              refine au_istore_n dX2_sorry_68 (show 2 < 4 by decide) ?_
              show au_Go G _ _ 69 [some (au_r MO), some (au_i o), some (au_i (au_w ((syN Ap o k) + 0))), some (au_i (k : Int))] [] (mi, si, hi, sl, r, nx) 0 0
              refine au_iinc dX2_sorry_69 rfl (show 3 < 4 by decide) (by omega) (by omega) (by decide) (by decide) ?_
              show au_Go G _ _ 72 [some (au_r MO), some (au_i o), some (au_i (au_w ((syN Ap o k) + 0))), some (au_i ((k : Int) + 1))] [] (mi, si, hi, sl, r, nx) 0 0
              refine au_goto (tgt := 20) dX2_sorry_72 (by decide) ?_
              have e1 : ∀ z : Int, z = syN Ap o (k + 1) → au_Go G (yX2_sorry.cls, cX2_sorry, 4, (some .int), au_rm 2 0 0, yX2_sorry.name) (au_QM G (au_rm 2 0 0) (au_pure (au_i (if o = -1 ∨ (0 ≤ o ∧ o < n) then syN Ap o sn.toNat else -2)) (mi, si, hi, sl, r, nx))) 20 [some (au_r MO), some (au_i o), some (au_i z), some (au_i ((k : Int) + 1))] [] (mi, si, hi, sl, r, nx) 0 0 := fun z hz => by rw [hz]; exact ih (k + 1) (by omega) (by omega)
              exact e1 _ (by simp only [syN]; split <;> first | rfl | (exfalso; omega))
            · refine au_iload_n dX2_sorry_42 rfl ?_
              refine au_iconst dX2_sorry_43 rfl rfl ?_
              refine au_icmp_eq (tgt := 57) dX2_sorry_44 (by decide) (fun c44 => ?_) (fun c44 => ?_)
              · refine au_aload_n dX2_sorry_57 rfl ?_
                refine au_iload_n dX2_sorry_58 rfl ?_
                refine au_iconst dX2_sorry_59 rfl rfl ?_
                refine au_callVp (n := 2) (kX2_getA G (k : Int) 3 mi si hi sl r nx hF Ap hAp (by omega) (by omega) (by omega) (by omega)) (lw_V q1694 q1696 qs93 q134 q1697) rfl (by decide +kernel) (by decide) (T := TX2) (N := 35) rfl rfl rfl rfl (Nat.le_of_ble_eq_true rfl) (Nat.le_of_ble_eq_true rfl) (Nat.le_of_ble_eq_true rfl) (Nat.le_of_ble_eq_true rfl) (Nat.le_of_ble_eq_true rfl) dX2_sorry_60 ?_
                refine au_goto (tgt := 67) dX2_sorry_63 (by decide) ?_
                refine au_iaddW dX2_sorry_67 ?_
                refine au_istore_n dX2_sorry_68 (show 2 < 4 by decide) ?_
                show au_Go G _ _ 69 [some (au_r MO), some (au_i o), some (au_i (au_w ((syN Ap o k) + (Ap (k : Int) 3)))), some (au_i (k : Int))] [] (mi, si, hi, sl, r, nx) 0 0
                refine au_iinc dX2_sorry_69 rfl (show 3 < 4 by decide) (by omega) (by omega) (by decide) (by decide) ?_
                show au_Go G _ _ 72 [some (au_r MO), some (au_i o), some (au_i (au_w ((syN Ap o k) + (Ap (k : Int) 3)))), some (au_i ((k : Int) + 1))] [] (mi, si, hi, sl, r, nx) 0 0
                refine au_goto (tgt := 20) dX2_sorry_72 (by decide) ?_
                have e1 : ∀ z : Int, z = syN Ap o (k + 1) → au_Go G (yX2_sorry.cls, cX2_sorry, 4, (some .int), au_rm 2 0 0, yX2_sorry.name) (au_QM G (au_rm 2 0 0) (au_pure (au_i (if o = -1 ∨ (0 ≤ o ∧ o < n) then syN Ap o sn.toNat else -2)) (mi, si, hi, sl, r, nx))) 20 [some (au_r MO), some (au_i o), some (au_i z), some (au_i ((k : Int) + 1))] [] (mi, si, hi, sl, r, nx) 0 0 := fun z hz => by rw [hz]; exact ih (k + 1) (by omega) (by omega)
                exact e1 _ (by simp only [syN]; split <;> first | rfl | (exfalso; omega))
              · refine au_aload_n dX2_sorry_47 rfl ?_
                refine au_iload_n dX2_sorry_48 rfl ?_
                refine au_iconst dX2_sorry_49 rfl rfl ?_
                refine au_callVp (n := 2) (kX2_getA G (k : Int) 0 mi si hi sl r nx hF Ap hAp (by omega) (by omega) (by omega) (by omega)) (lw_V q1694 q1696 qs93 q134 q1697) rfl (by decide +kernel) (by decide) (T := TX2) (N := 35) rfl rfl rfl rfl (Nat.le_of_ble_eq_true rfl) (Nat.le_of_ble_eq_true rfl) (Nat.le_of_ble_eq_true rfl) (Nat.le_of_ble_eq_true rfl) (Nat.le_of_ble_eq_true rfl) dX2_sorry_50 ?_
                refine au_iload_n dX2_sorry_53 rfl ?_
                refine au_icmp_ne (tgt := 66) dX2_sorry_54 (by decide) (fun c54 => ?_) (fun c54 => ?_)
                · refine au_iconst dX2_sorry_66 rfl rfl ?_
                  refine au_iaddW dX2_sorry_67 ?_
                  refine au_istore_n dX2_sorry_68 (show 2 < 4 by decide) ?_
                  show au_Go G _ _ 69 [some (au_r MO), some (au_i o), some (au_i (au_w ((syN Ap o k) + 0))), some (au_i (k : Int))] [] (mi, si, hi, sl, r, nx) 0 0
                  refine au_iinc dX2_sorry_69 rfl (show 3 < 4 by decide) (by omega) (by omega) (by decide) (by decide) ?_
                  show au_Go G _ _ 72 [some (au_r MO), some (au_i o), some (au_i (au_w ((syN Ap o k) + 0))), some (au_i ((k : Int) + 1))] [] (mi, si, hi, sl, r, nx) 0 0
                  refine au_goto (tgt := 20) dX2_sorry_72 (by decide) ?_
                  have e1 : ∀ z : Int, z = syN Ap o (k + 1) → au_Go G (yX2_sorry.cls, cX2_sorry, 4, (some .int), au_rm 2 0 0, yX2_sorry.name) (au_QM G (au_rm 2 0 0) (au_pure (au_i (if o = -1 ∨ (0 ≤ o ∧ o < n) then syN Ap o sn.toNat else -2)) (mi, si, hi, sl, r, nx))) 20 [some (au_r MO), some (au_i o), some (au_i z), some (au_i ((k : Int) + 1))] [] (mi, si, hi, sl, r, nx) 0 0 := fun z hz => by rw [hz]; exact ih (k + 1) (by omega) (by omega)
                  exact e1 _ (by simp only [syN]; split <;> first | rfl | (exfalso; omega))
                · refine au_aload_n dX2_sorry_57 rfl ?_
                  refine au_iload_n dX2_sorry_58 rfl ?_
                  refine au_iconst dX2_sorry_59 rfl rfl ?_
                  refine au_callVp (n := 2) (kX2_getA G (k : Int) 3 mi si hi sl r nx hF Ap hAp (by omega) (by omega) (by omega) (by omega)) (lw_V q1694 q1696 qs93 q134 q1697) rfl (by decide +kernel) (by decide) (T := TX2) (N := 35) rfl rfl rfl rfl (Nat.le_of_ble_eq_true rfl) (Nat.le_of_ble_eq_true rfl) (Nat.le_of_ble_eq_true rfl) (Nat.le_of_ble_eq_true rfl) (Nat.le_of_ble_eq_true rfl) dX2_sorry_60 ?_
                  refine au_goto (tgt := 67) dX2_sorry_63 (by decide) ?_
                  refine au_iaddW dX2_sorry_67 ?_
                  refine au_istore_n dX2_sorry_68 (show 2 < 4 by decide) ?_
                  show au_Go G _ _ 69 [some (au_r MO), some (au_i o), some (au_i (au_w ((syN Ap o k) + (Ap (k : Int) 3)))), some (au_i (k : Int))] [] (mi, si, hi, sl, r, nx) 0 0
                  refine au_iinc dX2_sorry_69 rfl (show 3 < 4 by decide) (by omega) (by omega) (by decide) (by decide) ?_
                  show au_Go G _ _ 72 [some (au_r MO), some (au_i o), some (au_i (au_w ((syN Ap o k) + (Ap (k : Int) 3)))), some (au_i ((k : Int) + 1))] [] (mi, si, hi, sl, r, nx) 0 0
                  refine au_goto (tgt := 20) dX2_sorry_72 (by decide) ?_
                  have e1 : ∀ z : Int, z = syN Ap o (k + 1) → au_Go G (yX2_sorry.cls, cX2_sorry, 4, (some .int), au_rm 2 0 0, yX2_sorry.name) (au_QM G (au_rm 2 0 0) (au_pure (au_i (if o = -1 ∨ (0 ≤ o ∧ o < n) then syN Ap o sn.toNat else -2)) (mi, si, hi, sl, r, nx))) 20 [some (au_r MO), some (au_i o), some (au_i z), some (au_i ((k : Int) + 1))] [] (mi, si, hi, sl, r, nx) 0 0 := fun z hz => by rw [hz]; exact ih (k + 1) (by omega) (by omega)
                  exact e1 _ (by simp only [syN]; split <;> first | rfl | (exfalso; omega))
      exact hl 11 0 (by omega) (by omega)
    · have c10 := au_b0 c10
      refine au_bipush dX2_sorry_13 rfl rfl ?_
      exact au_iret dX2_sorry_15 rfl rfl (Nat.le_of_ble_eq_true rfl) (Nat.le_of_ble_eq_true rfl) (au_pe (by rw [if_neg (by omega)]) rfl)
theorem kX2_book (G : au_G) (k w : Int) (mi si hi sl : au_A → Int → Int) (r : au_A → Int → Option au_A) (nx : Nat) (hF : Fix r) (wn : Int) (hWn : mi MA 9 = wn) (hwn : 0 ≤ wn ∧ wn ≤ 30) (Pg : Int → Int → Int) (hPg : ∀ k, 0 ≤ k → k < 30 → (mi MA (4484 + 2 * k) = Pg k 0 ∧ mi MA (4484 + 2 * k + 1) = (Pg k 1 * 4 + Pg k 2) * 10000 + Pg k 3) ∧ (0 ≤ Pg k 1 ∧ Pg k 1 ≤ 9) ∧ (0 ≤ Pg k 2 ∧ Pg k 2 ≤ 3) ∧ 0 ≤ Pg k 3 ∧ Pg k 3 ≤ 9999) : au_Ctr G yX2_book cX2_book 4 (some .int) 1 0 0 [au_r MO, au_i k, au_i w] (mi, si, hi, sl, r, nx) (au_pure (au_i (bkR Pg wn k w)) (mi, si, hi, sl, r, nx)) := by
  refine au_of (by decide) (Nat.le_of_ble_eq_true rfl) ?_
  show au_Go G _ _ 0 [some (au_r MO), some (au_i k), some (au_i w), none] [] (mi, si, hi, sl, r, nx) 0 0
  refine au_iload_n dX2_book_0 rfl ?_
  refine au_iconst dX2_book_1 rfl rfl ?_
  refine au_icmp_ne (tgt := 13) dX2_book_2 (by decide) (fun c2 => ?_) (fun c2 => ?_)
  · refine au_iload_n dX2_book_13 rfl ?_
    refine au_iconst dX2_book_14 rfl rfl ?_
    refine au_aload_n dX2_book_15 rfl ?_
    refine au_getf (C := RX2) (T := TX2) (N := 35) in_X2 (by decide) rfl 0 (by decide) rfl rfl q1359 rfl dX2_book_16 (v := au_r MA) (congrArg au_q (fx_MO_0 hF)) ?_
    refine au_bipush dX2_book_19 rfl rfl ?_
    refine au_iald dX2_book_21 rfl (by omega) (by show _ < ((4544 : Nat) : Int); omega) (v := au_i (wn)) (congrArg au_i (hWn)) ?_
    refine au_iconst dX2_book_22 rfl rfl ?_
    refine au_isub dX2_book_23 (by omega) (by omega) ?_
    refine au_callSp (n := 3) (kX2_isIn G k 0 (wn - 1) (mi, si, hi, sl, r, nx)) (lw_S q1475 q1476 q134 q1477) (by decide +kernel) rfl rfl rfl (Nat.le_of_ble_eq_true rfl) (Nat.le_of_ble_eq_true rfl) (Nat.le_of_ble_eq_true rfl) (Nat.le_of_ble_eq_true rfl) (Nat.le_of_ble_eq_true rfl) dX2_book_24 ?_
    refine au_if_ne (tgt := 33) dX2_book_27 (by decide) (fun c27 => ?_) (fun c27 => ?_)
    · have c27 := au_b1 c27
      obtain ⟨⟨hg1, hg2⟩, hg3, hg4, hg5⟩ := hPg k (by omega) (by omega)
      refine au_aload_n dX2_book_33 rfl ?_
      refine au_getf (C := RX2) (T := TX2) (N := 35) in_X2 (by decide) rfl 0 (by decide) rfl rfl q1359 rfl dX2_book_34 (v := au_r MA) (congrArg au_q (fx_MO_0 hF)) ?_
      refine au_sipush dX2_book_37 rfl rfl ?_
      refine au_iconst dX2_book_40 rfl rfl ?_
      refine au_iload_n dX2_book_41 rfl ?_
      refine au_imul dX2_book_42 (by omega) (by omega) ?_
      refine au_iadd dX2_book_43 (by omega) (by omega) ?_
      refine au_iconst dX2_book_44 rfl rfl ?_
      refine au_iadd dX2_book_45 (by omega) (by omega) ?_
      refine au_iald dX2_book_46 rfl (by omega) (by show _ < ((4544 : Nat) : Int); omega) (v := au_i (mi MA ((4484 + (2 * k)) + 1))) (by rfl) ?_
      refine au_istore_n dX2_book_47 (show 3 < 4 by decide) ?_
      show au_Go G _ _ 48 [some (au_r MO), some (au_i k), some (au_i w), some (au_i (mi MA ((4484 + (2 * k)) + 1)))] [] (mi, si, hi, sl, r, nx) 0 0
      refine au_iload_n dX2_book_48 rfl ?_
      refine au_if_ne (tgt := 67) dX2_book_49 (by decide) (fun c49 => ?_) (fun c49 => ?_)
      · refine au_iload_n dX2_book_67 rfl ?_
        refine au_iconst dX2_book_68 rfl rfl ?_
        refine au_icmp_ne (tgt := 80) dX2_book_69 (by decide) (fun c69 => ?_) (fun c69 => ?_)
        · refine au_iload_n dX2_book_80 rfl ?_
          refine au_iconst dX2_book_81 rfl rfl ?_
          refine au_icmp_ne (tgt := 95) dX2_book_82 (by decide) (fun c82 => ?_) (fun c82 => ?_)
          · refine au_iload_n dX2_book_95 rfl ?_
            refine au_iconst dX2_book_96 rfl rfl ?_
            refine au_icmp_ne (tgt := 108) dX2_book_97 (by decide) (fun c97 => ?_) (fun c97 => ?_)
            · refine au_bipush dX2_book_108 rfl rfl ?_
              refine au_iret dX2_book_110 rfl rfl (Nat.le_of_ble_eq_true rfl) (Nat.le_of_ble_eq_true rfl) ?_
              first
              | exact au_pe (by simp only [bkR]; rw [if_pos (by omega)]) rfl
              | exact au_pe (by simp only [bkR]; rw [if_neg (by omega), if_neg (by omega)]) rfl
              | exact au_pe (by simp only [bkR]; rw [if_neg (by omega), if_pos (by omega)]; first | (rw [c49]; omega) | (rw [c69]; omega) | (rw [c82]; omega) | (rw [c97]; omega)) rfl
            · refine au_iload_n dX2_book_100 rfl ?_
              refine au_sipush dX2_book_101 rfl rfl ?_
              refine au_irem dX2_book_104 (by omega) (by omega) ?_
              refine au_goto (tgt := 110) dX2_book_105 (by decide) ?_
              refine au_iret dX2_book_110 rfl rfl (Nat.le_of_ble_eq_true rfl) (Nat.le_of_ble_eq_true rfl) ?_
              first
              | exact au_pe (by simp only [bkR]; rw [if_pos (by omega)]) rfl
              | exact au_pe (by simp only [bkR]; rw [if_neg (by omega), if_neg (by omega)]) rfl
              | exact au_pe (by simp only [bkR]; rw [if_neg (by omega), if_pos (by omega)]; first | (rw [c49]; omega) | (rw [c69]; omega) | (rw [c82]; omega) | (rw [c97]; omega)) rfl
          · refine au_iload_n dX2_book_85 rfl ?_
            refine au_sipush dX2_book_86 rfl rfl ?_
            refine au_idiv dX2_book_89 (by omega) (by omega) ?_
            refine au_iconst dX2_book_90 rfl rfl ?_
            refine au_irem dX2_book_91 (by omega) (by omega) ?_
            refine au_goto (tgt := 110) dX2_book_92 (by decide) ?_
            refine au_iret dX2_book_110 rfl rfl (Nat.le_of_ble_eq_true rfl) (Nat.le_of_ble_eq_true rfl) ?_
            first
            | exact au_pe (by simp only [bkR]; rw [if_pos (by omega)]) rfl
            | exact au_pe (by simp only [bkR]; rw [if_neg (by omega), if_neg (by omega)]) rfl
            | exact au_pe (by simp only [bkR]; rw [if_neg (by omega), if_pos (by omega)]; first | (rw [c49]; omega) | (rw [c69]; omega) | (rw [c82]; omega) | (rw [c97]; omega)) rfl
        · refine au_iload_n dX2_book_72 rfl ?_
          refine au_ldcw q1839 rfl dX2_book_73 ?_
          show au_Go G _ _ 76 [some (au_r MO), some (au_i k), some (au_i w), some (au_i (mi MA ((4484 + (2 * k)) + 1)))] [au_i 40000, au_i (mi MA ((4484 + (2 * k)) + 1))] (mi, si, hi, sl, r, nx) 0 0
          refine au_idiv dX2_book_76 (by omega) (by omega) ?_
          refine au_goto (tgt := 110) dX2_book_77 (by decide) ?_
          refine au_iret dX2_book_110 rfl rfl (Nat.le_of_ble_eq_true rfl) (Nat.le_of_ble_eq_true rfl) ?_
          first
          | exact au_pe (by simp only [bkR]; rw [if_pos (by omega)]) rfl
          | exact au_pe (by simp only [bkR]; rw [if_neg (by omega), if_neg (by omega)]) rfl
          | exact au_pe (by simp only [bkR]; rw [if_neg (by omega), if_pos (by omega)]; first | (rw [c49]; omega) | (rw [c69]; omega) | (rw [c82]; omega) | (rw [c97]; omega)) rfl
      · refine au_aload_n dX2_book_52 rfl ?_
        refine au_getf (C := RX2) (T := TX2) (N := 35) in_X2 (by decide) rfl 0 (by decide) rfl rfl q1359 rfl dX2_book_53 (v := au_r MA) (congrArg au_q (fx_MO_0 hF)) ?_
        refine au_sipush dX2_book_56 rfl rfl ?_
        refine au_iconst dX2_book_59 rfl rfl ?_
        refine au_iload_n dX2_book_60 rfl ?_
        refine au_imul dX2_book_61 (by omega) (by omega) ?_
        refine au_iadd dX2_book_62 (by omega) (by omega) ?_
        refine au_iald dX2_book_63 rfl (by omega) (by show _ < ((4544 : Nat) : Int); omega) (v := au_i (mi MA (4484 + (2 * k)))) (by rfl) ?_
        refine au_goto (tgt := 110) dX2_book_64 (by decide) ?_
        refine au_iret dX2_book_110 rfl rfl (Nat.le_of_ble_eq_true rfl) (Nat.le_of_ble_eq_true rfl) ?_
        first
        | exact au_pe (by simp only [bkR]; rw [if_pos (by omega)]) rfl
        | exact au_pe (by simp only [bkR]; rw [if_neg (by omega), if_neg (by omega)]) rfl
        | exact au_pe (by simp only [bkR]; rw [if_neg (by omega), if_pos (by omega)]; first | (rw [c49]; omega) | (rw [c69]; omega) | (rw [c82]; omega) | (rw [c97]; omega)) rfl
    · have c27 := au_b0 c27
      refine au_bipush dX2_book_30 rfl rfl ?_
      refine au_iret dX2_book_32 rfl rfl (Nat.le_of_ble_eq_true rfl) (Nat.le_of_ble_eq_true rfl) ?_
      first
      | exact au_pe (by simp only [bkR]; rw [if_pos (by omega)]) rfl
      | exact au_pe (by simp only [bkR]; rw [if_neg (by omega), if_neg (by omega)]) rfl
      | exact au_pe (by simp only [bkR]; rw [if_neg (by omega), if_pos (by omega)]; first | (rw [c49]; omega) | (rw [c69]; omega) | (rw [c82]; omega) | (rw [c97]; omega)) rfl
  · refine au_aload_n dX2_book_5 rfl ?_
    refine au_getf (C := RX2) (T := TX2) (N := 35) in_X2 (by decide) rfl 0 (by decide) rfl rfl q1359 rfl dX2_book_6 (v := au_r MA) (congrArg au_q (fx_MO_0 hF)) ?_
    refine au_bipush dX2_book_9 rfl rfl ?_
    refine au_iald dX2_book_11 rfl (by omega) (by show _ < ((4544 : Nat) : Int); omega) (v := au_i (wn)) (congrArg au_i (hWn)) ?_
    refine au_iret dX2_book_12 rfl rfl (Nat.le_of_ble_eq_true rfl) (Nat.le_of_ble_eq_true rfl) ?_
    first
    | exact au_pe (by simp only [bkR]; rw [if_pos (by omega)]) rfl
    | exact au_pe (by simp only [bkR]; rw [if_neg (by omega), if_neg (by omega)]) rfl
    | exact au_pe (by simp only [bkR]; rw [if_neg (by omega), if_pos (by omega)]; first | (rw [c49]; omega) | (rw [c69]; omega) | (rw [c82]; omega) | (rw [c97]; omega)) rfl
theorem kX2_befell (G : au_G) (w : Int) (mi si hi sl : au_A → Int → Int) (r : au_A → Int → Option au_A) (nx : Nat) (hF : Fix r) (wn : Int) (hWn : mi MA 9 = wn) (hwn : 0 ≤ wn ∧ wn ≤ 30) (Pg : Int → Int → Int) (hPg : ∀ k, 0 ≤ k → k < 30 → (mi MA (4484 + 2 * k) = Pg k 0 ∧ mi MA (4484 + 2 * k + 1) = (Pg k 1 * 4 + Pg k 2) * 10000 + Pg k 3) ∧ (0 ≤ Pg k 1 ∧ Pg k 1 ≤ 9) ∧ (0 ≤ Pg k 2 ∧ Pg k 2 ≤ 3) ∧ 0 ≤ Pg k 3 ∧ Pg k 3 ≤ 9999) : au_Ctr G yX2_befell cX2_befell 4 (some .int) 2 0 0 [au_r MO, au_i w] (mi, si, hi, sl, r, nx) (au_pure (au_i (if 0 ≤ w ∧ w ≤ 3 then bfN Pg w wn.toNat else -2)) (mi, si, hi, sl, r, nx)) := by
  refine au_of (by decide) (Nat.le_of_ble_eq_true rfl) ?_
  show au_Go G _ _ 0 [some (au_r MO), some (au_i w), none, none] [] (mi, si, hi, sl, r, nx) 0 0
  refine au_iload_n dX2_befell_0 rfl ?_
  refine au_iconst dX2_befell_1 rfl rfl ?_
  refine au_iconst dX2_befell_2 rfl rfl ?_
  refine au_callSp (n := 3) (kX2_isIn G w 0 3 (mi, si, hi, sl, r, nx)) (lw_S q1475 q1476 q134 q1477) (by decide +kernel) rfl rfl rfl (Nat.le_of_ble_eq_true rfl) (Nat.le_of_ble_eq_true rfl) (Nat.le_of_ble_eq_true rfl) (Nat.le_of_ble_eq_true rfl) (Nat.le_of_ble_eq_true rfl) dX2_befell_3 ?_
  refine au_if_ne (tgt := 12) dX2_befell_6 (by decide) (fun c6 => ?_) (fun c6 => ?_)
  · have c6 := au_b1 c6
    refine au_iconst dX2_befell_12 rfl rfl ?_
    refine au_istore_n dX2_befell_13 (show 2 < 4 by decide) ?_
    show au_Go G _ _ 14 [some (au_r MO), some (au_i w), some (au_i 0), none] [] (mi, si, hi, sl, r, nx) 0 0
    refine au_iconst dX2_befell_14 rfl rfl ?_
    refine au_istore_n dX2_befell_15 (show 3 < 4 by decide) ?_
    show au_Go G _ _ 16 [some (au_r MO), some (au_i w), some (au_i 0), some (au_i 0)] [] (mi, si, hi, sl, r, nx) 0 0
    have hl : ∀ (f : Nat) (k : Nat), ((k : Int) ≤ wn) → (wn - (k : Int)) < (f : Int) → au_Go G (yX2_befell.cls, cX2_befell, 4, (some .int), au_rm 2 0 0, yX2_befell.name) (au_QM G (au_rm 2 0 0) (au_pure (au_i (if 0 ≤ w ∧ w ≤ 3 then bfN Pg w wn.toNat else -2)) (mi, si, hi, sl, r, nx))) 16 [some (au_r MO), some (au_i w), some (au_i (bfN Pg w k)), some (au_i (k : Int))] [] (mi, si, hi, sl, r, nx) 0 0 := by
      intro f
      induction f with
      | zero => intro k h1 hf; exfalso; omega
      | succ f ih =>
        intro k h1 hf
        refine au_iload_n dX2_befell_16 rfl ?_
        refine au_aload_n dX2_befell_17 rfl ?_
        refine au_getf (C := RX2) (T := TX2) (N := 35) in_X2 (by decide) rfl 0 (by decide) rfl rfl q1359 rfl dX2_befell_18 (v := au_r MA) (congrArg au_q (fx_MO_0 hF)) ?_
        refine au_bipush dX2_befell_21 rfl rfl ?_
        refine au_iald dX2_befell_23 rfl (by omega) (by show _ < ((4544 : Nat) : Int); omega) (v := au_i (wn)) (congrArg au_i (hWn)) ?_
        refine au_icmp_ge (tgt := 51) dX2_befell_24 (by decide) (fun c24 => ?_) (fun c24 => ?_)
        · refine au_iload_n dX2_befell_51 rfl ?_
          exact au_iret dX2_befell_52 rfl rfl (Nat.le_of_ble_eq_true rfl) (Nat.le_of_ble_eq_true rfl) (au_pe (by rw [if_pos (by omega), show wn.toNat = k by omega]) rfl)
        · have hd := bfN_bd Pg w k
          have hbk : bkR Pg wn (k : Int) 2 = Pg (k : Int) 2 := by simp only [bkR]; rw [if_neg (by omega), if_pos (by omega)]
          refine au_iload_n dX2_befell_27 rfl ?_
          refine au_aload_n dX2_befell_28 rfl ?_
          refine au_iload_n dX2_befell_29 rfl ?_
          refine au_iconst dX2_befell_30 rfl rfl ?_
          refine au_callVp (n := 2) (kX2_book G (k : Int) 2 mi si hi sl r nx hF wn hWn hwn Pg hPg ) (lw_V q1844 q1836 q1837 q134 q1838) rfl (by decide +kernel) (by decide) (T := TX2) (N := 35) rfl rfl rfl rfl (Nat.le_of_ble_eq_true rfl) (Nat.le_of_ble_eq_true rfl) (Nat.le_of_ble_eq_true rfl) (Nat.le_of_ble_eq_true rfl) (Nat.le_of_ble_eq_true rfl) dX2_befell_31 ?_
          refine au_iload_n dX2_befell_34 rfl ?_
          refine au_icmp_ne (tgt := 42) dX2_befell_35 (by decide) (fun c35 => ?_) (fun c35 => ?_)
          · refine au_iconst dX2_befell_42 rfl rfl ?_
            refine au_iadd dX2_befell_43 (by omega) (by omega) ?_
            refine au_istore_n dX2_befell_44 (show 2 < 4 by decide) ?_
            show au_Go G _ _ 45 [some (au_r MO), some (au_i w), some (au_i ((bfN Pg w k) + 0)), some (au_i (k : Int))] [] (mi, si, hi, sl, r, nx) 0 0
            refine au_iinc dX2_befell_45 rfl (show 3 < 4 by decide) (by omega) (by omega) (by decide) (by decide) ?_
            show au_Go G _ _ 48 [some (au_r MO), some (au_i w), some (au_i ((bfN Pg w k) + 0)), some (au_i ((k : Int) + 1))] [] (mi, si, hi, sl, r, nx) 0 0
            refine au_goto (tgt := 16) dX2_befell_48 (by decide) ?_
            have e1 : ∀ z : Int, z = bfN Pg w (k + 1) → au_Go G (yX2_befell.cls, cX2_befell, 4, (some .int), au_rm 2 0 0, yX2_befell.name) (au_QM G (au_rm 2 0 0) (au_pure (au_i (if 0 ≤ w ∧ w ≤ 3 then bfN Pg w wn.toNat else -2)) (mi, si, hi, sl, r, nx))) 16 [some (au_r MO), some (au_i w), some (au_i z), some (au_i ((k : Int) + 1))] [] (mi, si, hi, sl, r, nx) 0 0 := fun z hz => by rw [hz]; exact ih (k + 1) (by omega) (by omega)
            exact e1 _ (by simp only [bfN]; split <;> omega)
          · refine au_iconst dX2_befell_38 rfl rfl ?_
            refine au_goto (tgt := 43) dX2_befell_39 (by decide) ?_
            refine au_iadd dX2_befell_43 (by omega) (by omega) ?_
            refine au_istore_n dX2_befell_44 (show 2 < 4 by decide) ?_
            show au_Go G _ _ 45 [some (au_r MO), some (au_i w), some (au_i ((bfN Pg w k) + 1)), some (au_i (k : Int))] [] (mi, si, hi, sl, r, nx) 0 0
            refine au_iinc dX2_befell_45 rfl (show 3 < 4 by decide) (by omega) (by omega) (by decide) (by decide) ?_
            show au_Go G _ _ 48 [some (au_r MO), some (au_i w), some (au_i ((bfN Pg w k) + 1)), some (au_i ((k : Int) + 1))] [] (mi, si, hi, sl, r, nx) 0 0
            refine au_goto (tgt := 16) dX2_befell_48 (by decide) ?_
            have e1 : ∀ z : Int, z = bfN Pg w (k + 1) → au_Go G (yX2_befell.cls, cX2_befell, 4, (some .int), au_rm 2 0 0, yX2_befell.name) (au_QM G (au_rm 2 0 0) (au_pure (au_i (if 0 ≤ w ∧ w ≤ 3 then bfN Pg w wn.toNat else -2)) (mi, si, hi, sl, r, nx))) 16 [some (au_r MO), some (au_i w), some (au_i z), some (au_i ((k : Int) + 1))] [] (mi, si, hi, sl, r, nx) 0 0 := fun z hz => by rw [hz]; exact ih (k + 1) (by omega) (by omega)
            exact e1 _ (by simp only [bfN]; split <;> omega)
    exact hl 31 0 (by omega) (by omega)
  · have c6 := au_b0 c6
    refine au_bipush dX2_befell_9 rfl rfl ?_
    exact au_iret dX2_befell_11 rfl rfl (Nat.le_of_ble_eq_true rfl) (Nat.le_of_ble_eq_true rfl) (au_pe (by rw [if_neg (by omega)]) rfl)
