/-! THE STATE COPIED (printed by tools/m68.py) -/
set_option maxRecDepth 100000
set_option maxHeartbeats 4000000

theorem cpR_ne {r : au_A → Int → Option au_A} {a b c : au_A} {n k : Int} (h : c ≠ b) : cpR r a b n c k = r c k := if_neg (fun z => h z.1)
theorem au_fl_nt : ∀ q ∈ au_fl, q.1 ≠ XNtext ∧ q.1 ≠ XItext := by decide
theorem Fix.cp {r : au_A → Int → Option au_A} (h : Fix r) (a b : au_A) (n : Int) (hb : b = XNtext ∨ b = XItext) : Fix (cpR r a b n) := by
  obtain ⟨h1, h2, h3, h4⟩ := h
  have hq : ∀ c : au_A, c ≠ XNtext → c ≠ XItext → ∀ k, cpR r a b n c k = r c k := fun c c1 c2 k => cpR_ne (by rcases hb with rfl | rfl <;> assumption)
  exact ⟨fun q m => (hq _ (au_fl_nt q m).1 (au_fl_nt q m).2 _).trans (h1 q m), fun k hk => ⟨(hq _ (by decide) (by decide) _).trans (h2 k hk).1, (hq _ (by decide) (by decide) _).trans (h2 k hk).2⟩, fun k hk => ⟨(hq _ (by decide) (by decide) _).trans (h3 k hk).1, (hq _ (by decide) (by decide) _).trans (h3 k hk).2⟩, fun k hk => ⟨(hq _ (by decide) (by decide) _).trans (h4 k hk).1, (hq _ (by decide) (by decide) _).trans (h4 k hk).2⟩⟩
/-- cells of a state: what lies where, by its base -/
def XCell (b : Nat) (c : Nat) : au_A := if c = 0 then (b + 1, 6, 40) else if c = 1 then (b + 2, 204, 40) else if c < 6 then (b + 1 + c, 10, 40) else if c = 6 then (b + 7, 8, 40) else if c < 10 then (b + 1 + c, 5, 40) else if c < 19 then (b + 1 + c, 2, 40) else (b + 1 + c, 204, 40)
/-- arrays copied one by one -/
def CpA (mi mi' : au_A → Int → Int) (ps pd cnt ln : Nat) : Prop := (∀ k : Nat, k < cnt → mi' (pd + k, ln, 40) = mv1 (mi (ps + k, ln, 40)) (mi (pd + k, ln, 40)) 0 0 (ln : Int)) ∧ ∀ a : au_A, ¬ (pd ≤ a.1 ∧ a.1 < pd + cnt) → mi' a = mi a

theorem kX1_copy_2 (G : au_G) (p q cnt ln ps pd : Nat) (mi si hi sl : au_A → Int → Int) (r : au_A → Int → Option au_A) (nx : Nat) (hs : ∀ k : Nat, k < cnt → r (p, cnt, 44) k = some (ps + k, ln, 40)) (hd : ∀ k : Nat, k < cnt → r (q, cnt, 44) k = some (pd + k, ln, 40)) (hc : cnt ≤ 30) (hln : ln < 100000) (h1 : 1001 ≤ ps ∧ ps + cnt ≤ 1106) (h2 : 1001 ≤ pd ∧ pd + cnt ≤ 1106) (h3 : ps + cnt ≤ pd ∨ pd + cnt ≤ ps) : au_Ctr G yX1_copy_2 cX1_copy_2 3 none 2 0 0 [au_r (p, cnt, 44), au_r (q, cnt, 44)] (mi, si, hi, sl, r, nx) (fun rv M' => rv = none ∧ ∃ mi' : au_A → Int → Int, M' = (mi', si, hi, sl, r, nx) ∧ CpA mi mi' ps pd cnt ln) := by
  refine au_of (by decide) (Nat.le_of_ble_eq_true rfl) ?_
  show au_Go G _ _ 0 [some (au_r (p, cnt, 44)), some (au_r (q, cnt, 44)), none] [] (mi, si, hi, sl, r, nx) 0 0
  refine au_iconst dX1_copy_2_0 rfl rfl ?_
  refine au_istore_n dX1_copy_2_1 (show 2 < 3 by decide) ?_
  show au_Go G _ _ 2 [some (au_r (p, cnt, 44)), some (au_r (q, cnt, 44)), some (au_i 0)] [] (mi, si, hi, sl, r, nx) 0 0
  have hl : ∀ (f : Nat) (k : Nat) (mk : au_A → Int → Int), k ≤ cnt → (∀ j : Nat, j < k → mk (pd + j, ln, 40) = mv1 (mi (ps + j, ln, 40)) (mi (pd + j, ln, 40)) 0 0 (ln : Int)) → (∀ a : au_A, ¬ (pd ≤ a.1 ∧ a.1 < pd + k) → mk a = mi a) → cnt - k < f → au_Go G (yX1_copy_2.cls, cX1_copy_2, 3, none, au_rm 2 0 0, yX1_copy_2.name) (au_QM G (au_rm 2 0 0) (fun rv M' => rv = none ∧ ∃ mi' : au_A → Int → Int, M' = (mi', si, hi, sl, r, nx) ∧ CpA mi mi' ps pd cnt ln)) 2 [some (au_r (p, cnt, 44)), some (au_r (q, cnt, 44)), some (au_i (k : Int))] [] (mk, si, hi, sl, r, nx) 0 0 := by
    intro f
    induction f with
    | zero => intro k mk hk g1 g2 hf; exfalso; omega
    | succ f ih =>
      intro k mk hk g1 g2 hf
      refine au_iload_n dX1_copy_2_2 rfl ?_
      refine au_aload_n dX1_copy_2_3 rfl ?_
      refine au_alen dX1_copy_2_4 (show 40 ≤ 44 by decide) (show 44 ≤ 48 by decide) (show cnt < 2147483648 by omega) ?_
      show au_Go G _ _ 5 [some (au_r (p, cnt, 44)), some (au_r (q, cnt, 44)), some (au_i (k : Int))] [au_i (cnt : Int), au_i (k : Int)] (mk, si, hi, sl, r, nx) 0 0
      refine au_icmp_ge (tgt := 23) dX1_copy_2_5 (by decide) (fun c5 => ?_) (fun c5 => ?_)
      · refine au_vret dX1_copy_2_23 rfl rfl (Nat.le_of_ble_eq_true rfl) (Nat.le_of_ble_eq_true rfl) ?_
        have hkc : k = cnt := by omega
        subst hkc
        exact ⟨rfl, mk, rfl, g1, g2⟩
      · refine au_aload_n dX1_copy_2_8 rfl ?_
        refine au_iload_n dX1_copy_2_9 rfl ?_
        refine au_aald dX1_copy_2_10 (show 44 ≤ 44 by decide) (show 44 ≤ 48 by decide) (by omega) (by show _ < ((cnt : Nat) : Int); omega) (v := au_r (ps + k, ln, 40)) (congrArg au_q (hs k (by omega))) ?_
        refine au_aload_n dX1_copy_2_11 rfl ?_
        refine au_iload_n dX1_copy_2_12 rfl ?_
        refine au_aald dX1_copy_2_13 (show 44 ≤ 44 by decide) (show 44 ≤ 48 by decide) (by omega) (by show _ < ((cnt : Nat) : Int); omega) (v := au_r (pd + k, ln, 40)) (congrArg au_q (hd k (by omega))) ?_
        refine au_callS (n := 2) (kX1_copy G (ps + k) (pd + k) ln ln mk si hi sl r nx (fun j => au_reg_lo (by omega) (by omega) j) (fun j => au_reg_lo (by omega) (by omega) j) (by omega) (Nat.le_refl _) hln) (lw_S q236 q237 q131 q238) (by decide +kernel) rfl rfl rfl (Nat.le_of_ble_eq_true rfl) (Nat.le_of_ble_eq_true rfl) (Nat.le_of_ble_eq_true rfl) (Nat.le_of_ble_eq_true rfl) (Nat.le_of_ble_eq_true rfl) dX1_copy_2_14 (fun rv_ M_ hp_ => ?_)
        obtain ⟨rfl, rfl⟩ := hp_
        show au_Go G _ _ 17 [some (au_r (p, cnt, 44)), some (au_r (q, cnt, 44)), some (au_i (k : Int))] [] ((rowS mk (pd + k, ln, 40) (mv1 (mk (ps + k, ln, 40)) (mk (pd + k, ln, 40)) 0 0 (ln : Int))), si, hi, sl, r, nx) 0 0
        refine au_iinc dX1_copy_2_17 rfl (show 2 < 3 by decide) (by omega) (by omega) (by decide) (by decide) ?_
        show au_Go G _ _ 20 [some (au_r (p, cnt, 44)), some (au_r (q, cnt, 44)), some (au_i ((k : Int) + 1))] [] ((rowS mk (pd + k, ln, 40) (mv1 (mk (ps + k, ln, 40)) (mk (pd + k, ln, 40)) 0 0 (ln : Int))), si, hi, sl, r, nx) 0 0
        refine au_goto (tgt := 2) dX1_copy_2_20 (by decide) ?_
        refine ih (k + 1) _ (by omega) (fun j hj => ?_) (fun a ha => ?_) (by omega)
        · by_cases e : j = k
          · rw [e, rowS_selfF, g2 (ps + k, ln, 40) (by show ¬ (pd ≤ ps + k ∧ ps + k < pd + k); omega), g2 (pd + k, ln, 40) (by show ¬ (pd ≤ pd + k ∧ pd + k < pd + k); omega)]
          · rw [rowS_neF _ _ (ne1 (by show pd + j ≠ pd + k; omega))]
            exact g1 j (by omega)
        · rw [rowS_neF _ _ (fun z => ha (by rw [z]; show pd ≤ pd + k ∧ pd + k < pd + (k + 1); omega))]
          exact g2 a (by omega)
  exact hl (cnt + 1) 0 mi (by omega) (fun j hj => by omega) (fun _ _ => rfl) (by omega)
theorem kX1_beI (G : au_G) (mi si hi sl : au_A → Int → Int) (r : au_A → Int → Option au_A) (nx : Nat) (hF : Fix r) (hT : ∀ (j : Int) (t : au_A), 0 ≤ j → j < 4 → r XNtext j = some t → t.2.2 = 4) : au_Ctr G yX1_be cX1_be 2 none 3 0 0 [au_r XI, au_r XN] (mi, si, hi, sl, r, nx) (fun rv M' => rv = none ∧ ∃ mi' : au_A → Int → Int, M' = (mi', si, hi, sl, cpR r XNtext XItext 4, nx) ∧ mi' XIn = mv1 (mi XNn) (mi XIn) 0 0 6 ∧ mi' XIrow = mv1 (mi XNrow) (mi XIrow) 0 0 204 ∧ mi' XIboss = mv1 (mi XNboss) (mi XIboss) 0 0 10 ∧ mi' XIpride = mv1 (mi XNpride) (mi XIpride) 0 0 10 ∧ mi' XIcousin = mv1 (mi XNcousin) (mi XIcousin) 0 0 10 ∧ mi' XIweight = mv1 (mi XNweight) (mi XIweight) 0 0 10 ∧ mi' XIpile = mv1 (mi XNpile) (mi XIpile) 0 0 8 ∧ (∀ k : Nat, k < 2 → mi' (1062 + k, 5, 40) = mv1 (mi (1010 + k, 5, 40)) (mi (1062 + k, 5, 40)) 0 0 5) ∧ (∀ k : Nat, k < 8 → mi' (1065 + k, 2, 40) = mv1 (mi (1013 + k, 2, 40)) (mi (1065 + k, 2, 40)) 0 0 2) ∧ (∀ k : Nat, k < 30 → mi' (1074 + k, 204, 40) = mv1 (mi (1022 + k, 204, 40)) (mi (1074 + k, 204, 40)) 0 0 204) ∧ ∀ a : au_A, ¬ (1054 ≤ a.1 ∧ a.1 ≤ 1103) → mi' a = mi a) := by
  refine au_of (by decide) (Nat.le_of_ble_eq_true rfl) ?_
  show au_Go G _ _ 0 [some (au_r XI), some (au_r XN)] [] (mi, si, hi, sl, r, nx) 0 0
  refine au_aload_n dX1_be_0 rfl ?_
  refine au_getf (C := RX1) (T := TX1) (N := 11) in_X1 (by decide) rfl 0 (by decide) rfl rfl q186 rfl dX1_be_1 (v := au_r XNn) (congrArg au_q (fx_XN_0 hF)) ?_
  refine au_aload_n dX1_be_4 rfl ?_
  refine au_getf (C := RX1) (T := TX1) (N := 11) in_X1 (by decide) rfl 0 (by decide) rfl rfl q186 rfl dX1_be_5 (v := au_r XIn) (congrArg au_q (fx_XI_0 hF)) ?_
  refine au_callS (n := 2) (kX1_copy G 1002 1054 6 6 mi si hi sl r nx (fun j => au_reg_lo (by decide) (by decide) j) (fun j => au_reg_lo (by decide) (by decide) j) (by decide) (by decide) (by decide)) (lw_S q236 q237 q131 q238) (by decide +kernel) rfl rfl rfl (Nat.le_of_ble_eq_true rfl) (Nat.le_of_ble_eq_true rfl) (Nat.le_of_ble_eq_true rfl) (Nat.le_of_ble_eq_true rfl) (Nat.le_of_ble_eq_true rfl) dX1_be_8 (fun rv_ M_ hp_ => ?_)
  obtain ⟨rfl, rfl⟩ := hp_
  obtain ⟨m1, hm1⟩ : ∃ z, z = rowS mi XIn (mv1 (mi XNn) (mi XIn) 0 0 6) := ⟨_, rfl⟩
  have e1 : m1 XIn = mv1 (mi XNn) (mi XIn) 0 0 6 := by rw [hm1, rowS_selfF]
  have f1 : ∀ a : au_A, a.1 ≠ 1054 → m1 a = mi a := fun a ha => by rw [hm1, rowS_neF _ _ (ne1 ha)]
  show au_Go G _ _ 11 _ [] (rowS mi XIn (mv1 (mi XNn) (mi XIn) 0 0 6), si, hi, sl, r, nx) 0 0
  rw [← hm1]
  show au_Go G _ _ 11 [some (au_r XI), some (au_r XN)] [] (m1, si, hi, sl, r, nx) 0 0
  refine au_aload_n dX1_be_11 rfl ?_
  refine au_getf (C := RX1) (T := TX1) (N := 11) in_X1 (by decide) rfl 1 (by decide) rfl rfl q188 rfl dX1_be_12 (v := au_r XNrow) (congrArg au_q (fx_XN_1 hF)) ?_
  refine au_aload_n dX1_be_15 rfl ?_
  refine au_getf (C := RX1) (T := TX1) (N := 11) in_X1 (by decide) rfl 1 (by decide) rfl rfl q188 rfl dX1_be_16 (v := au_r XIrow) (congrArg au_q (fx_XI_1 hF)) ?_
  refine au_callS (n := 2) (kX1_copy G 1003 1055 204 204 m1 si hi sl r nx (fun j => au_reg_lo (by decide) (by decide) j) (fun j => au_reg_lo (by decide) (by decide) j) (by decide) (by decide) (by decide)) (lw_S q236 q237 q131 q238) (by decide +kernel) rfl rfl rfl (Nat.le_of_ble_eq_true rfl) (Nat.le_of_ble_eq_true rfl) (Nat.le_of_ble_eq_true rfl) (Nat.le_of_ble_eq_true rfl) (Nat.le_of_ble_eq_true rfl) dX1_be_19 (fun rv_ M_ hp_ => ?_)
  obtain ⟨rfl, rfl⟩ := hp_
  obtain ⟨m2, hm2⟩ : ∃ z, z = rowS m1 XIrow (mv1 (m1 XNrow) (m1 XIrow) 0 0 204) := ⟨_, rfl⟩
  have e2 : m2 XIrow = mv1 (m1 XNrow) (m1 XIrow) 0 0 204 := by rw [hm2, rowS_selfF]
  have f2 : ∀ a : au_A, a.1 ≠ 1055 → m2 a = m1 a := fun a ha => by rw [hm2, rowS_neF _ _ (ne1 ha)]
  show au_Go G _ _ 22 _ [] (rowS m1 XIrow (mv1 (m1 XNrow) (m1 XIrow) 0 0 204), si, hi, sl, r, nx) 0 0
  rw [← hm2]
  show au_Go G _ _ 22 [some (au_r XI), some (au_r XN)] [] (m2, si, hi, sl, r, nx) 0 0
  refine au_aload_n dX1_be_22 rfl ?_
  refine au_getf (C := RX1) (T := TX1) (N := 11) in_X1 (by decide) rfl 2 (by decide) rfl rfl q190 rfl dX1_be_23 (v := au_r XNboss) (congrArg au_q (fx_XN_2 hF)) ?_
  refine au_aload_n dX1_be_26 rfl ?_
  refine au_getf (C := RX1) (T := TX1) (N := 11) in_X1 (by decide) rfl 2 (by decide) rfl rfl q190 rfl dX1_be_27 (v := au_r XIboss) (congrArg au_q (fx_XI_2 hF)) ?_
  refine au_callS (n := 2) (kX1_copy G 1004 1056 10 10 m2 si hi sl r nx (fun j => au_reg_lo (by decide) (by decide) j) (fun j => au_reg_lo (by decide) (by decide) j) (by decide) (by decide) (by decide)) (lw_S q236 q237 q131 q238) (by decide +kernel) rfl rfl rfl (Nat.le_of_ble_eq_true rfl) (Nat.le_of_ble_eq_true rfl) (Nat.le_of_ble_eq_true rfl) (Nat.le_of_ble_eq_true rfl) (Nat.le_of_ble_eq_true rfl) dX1_be_30 (fun rv_ M_ hp_ => ?_)
  obtain ⟨rfl, rfl⟩ := hp_
  obtain ⟨m3, hm3⟩ : ∃ z, z = rowS m2 XIboss (mv1 (m2 XNboss) (m2 XIboss) 0 0 10) := ⟨_, rfl⟩
  have e3 : m3 XIboss = mv1 (m2 XNboss) (m2 XIboss) 0 0 10 := by rw [hm3, rowS_selfF]
  have f3 : ∀ a : au_A, a.1 ≠ 1056 → m3 a = m2 a := fun a ha => by rw [hm3, rowS_neF _ _ (ne1 ha)]
  show au_Go G _ _ 33 _ [] (rowS m2 XIboss (mv1 (m2 XNboss) (m2 XIboss) 0 0 10), si, hi, sl, r, nx) 0 0
  rw [← hm3]
  show au_Go G _ _ 33 [some (au_r XI), some (au_r XN)] [] (m3, si, hi, sl, r, nx) 0 0
  refine au_aload_n dX1_be_33 rfl ?_
  refine au_getf (C := RX1) (T := TX1) (N := 11) in_X1 (by decide) rfl 3 (by decide) rfl rfl q192 rfl dX1_be_34 (v := au_r XNpride) (congrArg au_q (fx_XN_3 hF)) ?_
  refine au_aload_n dX1_be_37 rfl ?_
  refine au_getf (C := RX1) (T := TX1) (N := 11) in_X1 (by decide) rfl 3 (by decide) rfl rfl q192 rfl dX1_be_38 (v := au_r XIpride) (congrArg au_q (fx_XI_3 hF)) ?_
  refine au_callS (n := 2) (kX1_copy G 1005 1057 10 10 m3 si hi sl r nx (fun j => au_reg_lo (by decide) (by decide) j) (fun j => au_reg_lo (by decide) (by decide) j) (by decide) (by decide) (by decide)) (lw_S q236 q237 q131 q238) (by decide +kernel) rfl rfl rfl (Nat.le_of_ble_eq_true rfl) (Nat.le_of_ble_eq_true rfl) (Nat.le_of_ble_eq_true rfl) (Nat.le_of_ble_eq_true rfl) (Nat.le_of_ble_eq_true rfl) dX1_be_41 (fun rv_ M_ hp_ => ?_)
  obtain ⟨rfl, rfl⟩ := hp_
  obtain ⟨m4, hm4⟩ : ∃ z, z = rowS m3 XIpride (mv1 (m3 XNpride) (m3 XIpride) 0 0 10) := ⟨_, rfl⟩
  have e4 : m4 XIpride = mv1 (m3 XNpride) (m3 XIpride) 0 0 10 := by rw [hm4, rowS_selfF]
  have f4 : ∀ a : au_A, a.1 ≠ 1057 → m4 a = m3 a := fun a ha => by rw [hm4, rowS_neF _ _ (ne1 ha)]
  show au_Go G _ _ 44 _ [] (rowS m3 XIpride (mv1 (m3 XNpride) (m3 XIpride) 0 0 10), si, hi, sl, r, nx) 0 0
  rw [← hm4]
  show au_Go G _ _ 44 [some (au_r XI), some (au_r XN)] [] (m4, si, hi, sl, r, nx) 0 0
  refine au_aload_n dX1_be_44 rfl ?_
  refine au_getf (C := RX1) (T := TX1) (N := 11) in_X1 (by decide) rfl 4 (by decide) rfl rfl q194 rfl dX1_be_45 (v := au_r XNcousin) (congrArg au_q (fx_XN_4 hF)) ?_
  refine au_aload_n dX1_be_48 rfl ?_
  refine au_getf (C := RX1) (T := TX1) (N := 11) in_X1 (by decide) rfl 4 (by decide) rfl rfl q194 rfl dX1_be_49 (v := au_r XIcousin) (congrArg au_q (fx_XI_4 hF)) ?_
  refine au_callS (n := 2) (kX1_copy G 1006 1058 10 10 m4 si hi sl r nx (fun j => au_reg_lo (by decide) (by decide) j) (fun j => au_reg_lo (by decide) (by decide) j) (by decide) (by decide) (by decide)) (lw_S q236 q237 q131 q238) (by decide +kernel) rfl rfl rfl (Nat.le_of_ble_eq_true rfl) (Nat.le_of_ble_eq_true rfl) (Nat.le_of_ble_eq_true rfl) (Nat.le_of_ble_eq_true rfl) (Nat.le_of_ble_eq_true rfl) dX1_be_52 (fun rv_ M_ hp_ => ?_)
  obtain ⟨rfl, rfl⟩ := hp_
  obtain ⟨m5, hm5⟩ : ∃ z, z = rowS m4 XIcousin (mv1 (m4 XNcousin) (m4 XIcousin) 0 0 10) := ⟨_, rfl⟩
  have e5 : m5 XIcousin = mv1 (m4 XNcousin) (m4 XIcousin) 0 0 10 := by rw [hm5, rowS_selfF]
  have f5 : ∀ a : au_A, a.1 ≠ 1058 → m5 a = m4 a := fun a ha => by rw [hm5, rowS_neF _ _ (ne1 ha)]
  show au_Go G _ _ 55 _ [] (rowS m4 XIcousin (mv1 (m4 XNcousin) (m4 XIcousin) 0 0 10), si, hi, sl, r, nx) 0 0
  rw [← hm5]
  show au_Go G _ _ 55 [some (au_r XI), some (au_r XN)] [] (m5, si, hi, sl, r, nx) 0 0
  refine au_aload_n dX1_be_55 rfl ?_
  refine au_getf (C := RX1) (T := TX1) (N := 11) in_X1 (by decide) rfl 5 (by decide) rfl rfl q196 rfl dX1_be_56 (v := au_r XNweight) (congrArg au_q (fx_XN_5 hF)) ?_
  refine au_aload_n dX1_be_59 rfl ?_
  refine au_getf (C := RX1) (T := TX1) (N := 11) in_X1 (by decide) rfl 5 (by decide) rfl rfl q196 rfl dX1_be_60 (v := au_r XIweight) (congrArg au_q (fx_XI_5 hF)) ?_
  refine au_callS (n := 2) (kX1_copy G 1007 1059 10 10 m5 si hi sl r nx (fun j => au_reg_lo (by decide) (by decide) j) (fun j => au_reg_lo (by decide) (by decide) j) (by decide) (by decide) (by decide)) (lw_S q236 q237 q131 q238) (by decide +kernel) rfl rfl rfl (Nat.le_of_ble_eq_true rfl) (Nat.le_of_ble_eq_true rfl) (Nat.le_of_ble_eq_true rfl) (Nat.le_of_ble_eq_true rfl) (Nat.le_of_ble_eq_true rfl) dX1_be_63 (fun rv_ M_ hp_ => ?_)
  obtain ⟨rfl, rfl⟩ := hp_
  obtain ⟨m6, hm6⟩ : ∃ z, z = rowS m5 XIweight (mv1 (m5 XNweight) (m5 XIweight) 0 0 10) := ⟨_, rfl⟩
  have e6 : m6 XIweight = mv1 (m5 XNweight) (m5 XIweight) 0 0 10 := by rw [hm6, rowS_selfF]
  have f6 : ∀ a : au_A, a.1 ≠ 1059 → m6 a = m5 a := fun a ha => by rw [hm6, rowS_neF _ _ (ne1 ha)]
  show au_Go G _ _ 66 _ [] (rowS m5 XIweight (mv1 (m5 XNweight) (m5 XIweight) 0 0 10), si, hi, sl, r, nx) 0 0
  rw [← hm6]
  show au_Go G _ _ 66 [some (au_r XI), some (au_r XN)] [] (m6, si, hi, sl, r, nx) 0 0
  refine au_aload_n dX1_be_66 rfl ?_
  refine au_getf (C := RX1) (T := TX1) (N := 11) in_X1 (by decide) rfl 6 (by decide) rfl rfl q198 rfl dX1_be_67 (v := au_r XNpile) (congrArg au_q (fx_XN_6 hF)) ?_
  refine au_aload_n dX1_be_70 rfl ?_
  refine au_getf (C := RX1) (T := TX1) (N := 11) in_X1 (by decide) rfl 6 (by decide) rfl rfl q198 rfl dX1_be_71 (v := au_r XIpile) (congrArg au_q (fx_XI_6 hF)) ?_
  refine au_callS (n := 2) (kX1_copy G 1008 1060 8 8 m6 si hi sl r nx (fun j => au_reg_lo (by decide) (by decide) j) (fun j => au_reg_lo (by decide) (by decide) j) (by decide) (by decide) (by decide)) (lw_S q236 q237 q131 q238) (by decide +kernel) rfl rfl rfl (Nat.le_of_ble_eq_true rfl) (Nat.le_of_ble_eq_true rfl) (Nat.le_of_ble_eq_true rfl) (Nat.le_of_ble_eq_true rfl) (Nat.le_of_ble_eq_true rfl) dX1_be_74 (fun rv_ M_ hp_ => ?_)
  obtain ⟨rfl, rfl⟩ := hp_
  obtain ⟨m7, hm7⟩ : ∃ z, z = rowS m6 XIpile (mv1 (m6 XNpile) (m6 XIpile) 0 0 8) := ⟨_, rfl⟩
  have e7 : m7 XIpile = mv1 (m6 XNpile) (m6 XIpile) 0 0 8 := by rw [hm7, rowS_selfF]
  have f7 : ∀ a : au_A, a.1 ≠ 1060 → m7 a = m6 a := fun a ha => by rw [hm7, rowS_neF _ _ (ne1 ha)]
  show au_Go G _ _ 77 _ [] (rowS m6 XIpile (mv1 (m6 XNpile) (m6 XIpile) 0 0 8), si, hi, sl, r, nx) 0 0
  rw [← hm7]
  show au_Go G _ _ 77 [some (au_r XI), some (au_r XN)] [] (m7, si, hi, sl, r, nx) 0 0
  refine au_aload_n dX1_be_77 rfl ?_
  refine au_getf (C := RX1) (T := TX1) (N := 11) in_X1 (by decide) rfl 7 (by decide) rfl rfl q200 rfl dX1_be_78 (v := au_r XNturn) (congrArg au_q (fx_XN_7 hF)) ?_
  refine au_aload_n dX1_be_81 rfl ?_
  refine au_getf (C := RX1) (T := TX1) (N := 11) in_X1 (by decide) rfl 7 (by decide) rfl rfl q200 rfl dX1_be_82 (v := au_r XIturn) (congrArg au_q (fx_XI_7 hF)) ?_
  refine au_callS (n := 2) (kX1_copy_2 G 1009 1061 2 5 1010 1062 m7 si hi sl r nx (fun k hk => (hF.2.2.2 k hk).1) (fun k hk => (hF.2.2.2 k hk).2) (by decide) (by decide) (by decide) (by decide) (by decide)) (lw_S q242 q243 q131 q244) (by decide +kernel) rfl rfl rfl (Nat.le_of_ble_eq_true rfl) (Nat.le_of_ble_eq_true rfl) (Nat.le_of_ble_eq_true rfl) (Nat.le_of_ble_eq_true rfl) (Nat.le_of_ble_eq_true rfl) dX1_be_85 (fun rv_ M_ hp_ => ?_)
  obtain ⟨rfl, m8, rfl, e8, f8⟩ := hp_
  show au_Go G _ _ 88 [some (au_r XI), some (au_r XN)] [] (m8, si, hi, sl, r, nx) 0 0
  refine au_aload_n dX1_be_88 rfl ?_
  refine au_getf (C := RX1) (T := TX1) (N := 11) in_X1 (by decide) rfl 8 (by decide) rfl rfl q202 rfl dX1_be_89 (v := au_r XNadded) (congrArg au_q (fx_XN_8 hF)) ?_
  refine au_aload_n dX1_be_92 rfl ?_
  refine au_getf (C := RX1) (T := TX1) (N := 11) in_X1 (by decide) rfl 8 (by decide) rfl rfl q202 rfl dX1_be_93 (v := au_r XIadded) (congrArg au_q (fx_XI_8 hF)) ?_
  refine au_callS (n := 2) (kX1_copy_2 G 1012 1064 8 2 1013 1065 m8 si hi sl r nx (fun k hk => (hF.2.2.1 k hk).1) (fun k hk => (hF.2.2.1 k hk).2) (by decide) (by decide) (by decide) (by decide) (by decide)) (lw_S q242 q243 q131 q244) (by decide +kernel) rfl rfl rfl (Nat.le_of_ble_eq_true rfl) (Nat.le_of_ble_eq_true rfl) (Nat.le_of_ble_eq_true rfl) (Nat.le_of_ble_eq_true rfl) (Nat.le_of_ble_eq_true rfl) dX1_be_96 (fun rv_ M_ hp_ => ?_)
  obtain ⟨rfl, m9, rfl, e9, f9⟩ := hp_
  show au_Go G _ _ 99 [some (au_r XI), some (au_r XN)] [] (m9, si, hi, sl, r, nx) 0 0
  refine au_aload_n dX1_be_99 rfl ?_
  refine au_getf (C := RX1) (T := TX1) (N := 11) in_X1 (by decide) rfl 9 (by decide) rfl rfl q204 rfl dX1_be_100 (v := au_r XNstep) (congrArg au_q (fx_XN_9 hF)) ?_
  refine au_aload_n dX1_be_103 rfl ?_
  refine au_getf (C := RX1) (T := TX1) (N := 11) in_X1 (by decide) rfl 9 (by decide) rfl rfl q204 rfl dX1_be_104 (v := au_r XIstep) (congrArg au_q (fx_XI_9 hF)) ?_
  refine au_callS (n := 2) (kX1_copy_2 G 1021 1073 30 204 1022 1074 m9 si hi sl r nx (fun k hk => (hF.2.1 k hk).1) (fun k hk => (hF.2.1 k hk).2) (by decide) (by decide) (by decide) (by decide) (by decide)) (lw_S q242 q243 q131 q244) (by decide +kernel) rfl rfl rfl (Nat.le_of_ble_eq_true rfl) (Nat.le_of_ble_eq_true rfl) (Nat.le_of_ble_eq_true rfl) (Nat.le_of_ble_eq_true rfl) (Nat.le_of_ble_eq_true rfl) dX1_be_107 (fun rv_ M_ hp_ => ?_)
  obtain ⟨rfl, m10, rfl, e10, f10⟩ := hp_
  show au_Go G _ _ 110 [some (au_r XI), some (au_r XN)] [] (m10, si, hi, sl, r, nx) 0 0
  refine au_aload_n dX1_be_110 rfl ?_
  refine au_getf (C := RX1) (T := TX1) (N := 11) in_X1 (by decide) rfl 10 (by decide) rfl rfl q206 rfl dX1_be_111 (v := au_r XNtext) (congrArg au_q (fx_XN_10 hF)) ?_
  refine au_iconst dX1_be_114 rfl rfl ?_
  refine au_aload_n dX1_be_115 rfl ?_
  refine au_getf (C := RX1) (T := TX1) (N := 11) in_X1 (by decide) rfl 10 (by decide) rfl rfl q206 rfl dX1_be_116 (v := au_r XItext) (congrArg au_q (fx_XI_10 hF)) ?_
  refine au_iconst dX1_be_119 rfl rfl ?_
  refine au_iconst dX1_be_120 rfl rfl ?_
  refine au_copyT (a := XNtext) (b := XItext) q239 q241 q240 q133 rfl rfl rfl (by decide) (by decide) (by decide) (by decide) (Nat.le_of_ble_eq_true rfl) (Nat.le_of_ble_eq_true rfl) (by decide) dX1_be_121 hT ?_
  show au_Go G _ _ 124 [some (au_r XI), some (au_r XN)] [] (m10, si, hi, sl, (cpR r XNtext XItext 4), nx) 0 0
  refine au_vret dX1_be_124 rfl rfl (Nat.le_of_ble_eq_true rfl) (Nat.le_of_ble_eq_true rfl) ?_
  refine ⟨rfl, m10, rfl, ?_, ?_, ?_, ?_, ?_, ?_, ?_, fun k hk => ?_, fun k hk => ?_, fun k hk => ?_, fun a ha => ?_⟩
  · rw [f10 XIn (by decide), f9 XIn (by decide), f8 XIn (by decide), f7 XIn (by decide), f6 XIn (by decide), f5 XIn (by decide), f4 XIn (by decide), f3 XIn (by decide), f2 XIn (by decide), e1]
  · rw [f10 XIrow (by decide), f9 XIrow (by decide), f8 XIrow (by decide), f7 XIrow (by decide), f6 XIrow (by decide), f5 XIrow (by decide), f4 XIrow (by decide), f3 XIrow (by decide), e2]
    rw [f1 XNrow (by decide), f1 XIrow (by decide)]
  · rw [f10 XIboss (by decide), f9 XIboss (by decide), f8 XIboss (by decide), f7 XIboss (by decide), f6 XIboss (by decide), f5 XIboss (by decide), f4 XIboss (by decide), e3]
    rw [f2 XNboss (by decide), f1 XNboss (by decide), f2 XIboss (by decide), f1 XIboss (by decide)]
  · rw [f10 XIpride (by decide), f9 XIpride (by decide), f8 XIpride (by decide), f7 XIpride (by decide), f6 XIpride (by decide), f5 XIpride (by decide), e4]
    rw [f3 XNpride (by decide), f2 XNpride (by decide), f1 XNpride (by decide), f3 XIpride (by decide), f2 XIpride (by decide), f1 XIpride (by decide)]
  · rw [f10 XIcousin (by decide), f9 XIcousin (by decide), f8 XIcousin (by decide), f7 XIcousin (by decide), f6 XIcousin (by decide), e5]
    rw [f4 XNcousin (by decide), f3 XNcousin (by decide), f2 XNcousin (by decide), f1 XNcousin (by decide), f4 XIcousin (by decide), f3 XIcousin (by decide), f2 XIcousin (by decide), f1 XIcousin (by decide)]
  · rw [f10 XIweight (by decide), f9 XIweight (by decide), f8 XIweight (by decide), f7 XIweight (by decide), e6]
    rw [f5 XNweight (by decide), f4 XNweight (by decide), f3 XNweight (by decide), f2 XNweight (by decide), f1 XNweight (by decide), f5 XIweight (by decide), f4 XIweight (by decide), f3 XIweight (by decide), f2 XIweight (by decide), f1 XIweight (by decide)]
  · rw [f10 XIpile (by decide), f9 XIpile (by decide), f8 XIpile (by decide), e7]
    rw [f6 XNpile (by decide), f5 XNpile (by decide), f4 XNpile (by decide), f3 XNpile (by decide), f2 XNpile (by decide), f1 XNpile (by decide), f6 XIpile (by decide), f5 XIpile (by decide), f4 XIpile (by decide), f3 XIpile (by decide), f2 XIpile (by decide), f1 XIpile (by decide)]
  · rw [f10 (1062 + k, 5, 40) (by show ¬ (_ ≤ 1062 + k ∧ 1062 + k < _); omega), f9 (1062 + k, 5, 40) (by show ¬ (_ ≤ 1062 + k ∧ 1062 + k < _); omega), e8 k hk]
    rw [f7 (1010 + k, 5, 40) (by show 1010 + k ≠ _; omega), f6 (1010 + k, 5, 40) (by show 1010 + k ≠ _; omega), f5 (1010 + k, 5, 40) (by show 1010 + k ≠ _; omega), f4 (1010 + k, 5, 40) (by show 1010 + k ≠ _; omega), f3 (1010 + k, 5, 40) (by show 1010 + k ≠ _; omega), f2 (1010 + k, 5, 40) (by show 1010 + k ≠ _; omega), f1 (1010 + k, 5, 40) (by show 1010 + k ≠ _; omega), f7 (1062 + k, 5, 40) (by show 1062 + k ≠ _; omega), f6 (1062 + k, 5, 40) (by show 1062 + k ≠ _; omega), f5 (1062 + k, 5, 40) (by show 1062 + k ≠ _; omega), f4 (1062 + k, 5, 40) (by show 1062 + k ≠ _; omega), f3 (1062 + k, 5, 40) (by show 1062 + k ≠ _; omega), f2 (1062 + k, 5, 40) (by show 1062 + k ≠ _; omega), f1 (1062 + k, 5, 40) (by show 1062 + k ≠ _; omega)]
    rfl
  · rw [f10 (1065 + k, 2, 40) (by show ¬ (_ ≤ 1065 + k ∧ 1065 + k < _); omega), e9 k hk]
    rw [f8 (1013 + k, 2, 40) (by show ¬ (_ ≤ 1013 + k ∧ 1013 + k < _); omega), f7 (1013 + k, 2, 40) (by show 1013 + k ≠ _; omega), f6 (1013 + k, 2, 40) (by show 1013 + k ≠ _; omega), f5 (1013 + k, 2, 40) (by show 1013 + k ≠ _; omega), f4 (1013 + k, 2, 40) (by show 1013 + k ≠ _; omega), f3 (1013 + k, 2, 40) (by show 1013 + k ≠ _; omega), f2 (1013 + k, 2, 40) (by show 1013 + k ≠ _; omega), f1 (1013 + k, 2, 40) (by show 1013 + k ≠ _; omega), f8 (1065 + k, 2, 40) (by show ¬ (_ ≤ 1065 + k ∧ 1065 + k < _); omega), f7 (1065 + k, 2, 40) (by show 1065 + k ≠ _; omega), f6 (1065 + k, 2, 40) (by show 1065 + k ≠ _; omega), f5 (1065 + k, 2, 40) (by show 1065 + k ≠ _; omega), f4 (1065 + k, 2, 40) (by show 1065 + k ≠ _; omega), f3 (1065 + k, 2, 40) (by show 1065 + k ≠ _; omega), f2 (1065 + k, 2, 40) (by show 1065 + k ≠ _; omega), f1 (1065 + k, 2, 40) (by show 1065 + k ≠ _; omega)]
    rfl
  · rw [e10 k hk]
    rw [f9 (1022 + k, 204, 40) (by show ¬ (_ ≤ 1022 + k ∧ 1022 + k < _); omega), f8 (1022 + k, 204, 40) (by show ¬ (_ ≤ 1022 + k ∧ 1022 + k < _); omega), f7 (1022 + k, 204, 40) (by show 1022 + k ≠ _; omega), f6 (1022 + k, 204, 40) (by show 1022 + k ≠ _; omega), f5 (1022 + k, 204, 40) (by show 1022 + k ≠ _; omega), f4 (1022 + k, 204, 40) (by show 1022 + k ≠ _; omega), f3 (1022 + k, 204, 40) (by show 1022 + k ≠ _; omega), f2 (1022 + k, 204, 40) (by show 1022 + k ≠ _; omega), f1 (1022 + k, 204, 40) (by show 1022 + k ≠ _; omega), f9 (1074 + k, 204, 40) (by show ¬ (_ ≤ 1074 + k ∧ 1074 + k < _); omega), f8 (1074 + k, 204, 40) (by show ¬ (_ ≤ 1074 + k ∧ 1074 + k < _); omega), f7 (1074 + k, 204, 40) (by show 1074 + k ≠ _; omega), f6 (1074 + k, 204, 40) (by show 1074 + k ≠ _; omega), f5 (1074 + k, 204, 40) (by show 1074 + k ≠ _; omega), f4 (1074 + k, 204, 40) (by show 1074 + k ≠ _; omega), f3 (1074 + k, 204, 40) (by show 1074 + k ≠ _; omega), f2 (1074 + k, 204, 40) (by show 1074 + k ≠ _; omega), f1 (1074 + k, 204, 40) (by show 1074 + k ≠ _; omega)]
    rfl
  · rw [f10 a (by omega), f9 a (by omega), f8 a (by omega), f7 a (by omega), f6 a (by omega), f5 a (by omega), f4 a (by omega), f3 a (by omega), f2 a (by omega), f1 a (by omega)]
theorem kX1_beN (G : au_G) (mi si hi sl : au_A → Int → Int) (r : au_A → Int → Option au_A) (nx : Nat) (hF : Fix r) (hT : ∀ (j : Int) (t : au_A), 0 ≤ j → j < 4 → r XItext j = some t → t.2.2 = 4) : au_Ctr G yX1_be cX1_be 2 none 3 0 0 [au_r XN, au_r XI] (mi, si, hi, sl, r, nx) (fun rv M' => rv = none ∧ ∃ mi' : au_A → Int → Int, M' = (mi', si, hi, sl, cpR r XItext XNtext 4, nx) ∧ mi' XNn = mv1 (mi XIn) (mi XNn) 0 0 6 ∧ mi' XNrow = mv1 (mi XIrow) (mi XNrow) 0 0 204 ∧ mi' XNboss = mv1 (mi XIboss) (mi XNboss) 0 0 10 ∧ mi' XNpride = mv1 (mi XIpride) (mi XNpride) 0 0 10 ∧ mi' XNcousin = mv1 (mi XIcousin) (mi XNcousin) 0 0 10 ∧ mi' XNweight = mv1 (mi XIweight) (mi XNweight) 0 0 10 ∧ mi' XNpile = mv1 (mi XIpile) (mi XNpile) 0 0 8 ∧ (∀ k : Nat, k < 2 → mi' (1010 + k, 5, 40) = mv1 (mi (1062 + k, 5, 40)) (mi (1010 + k, 5, 40)) 0 0 5) ∧ (∀ k : Nat, k < 8 → mi' (1013 + k, 2, 40) = mv1 (mi (1065 + k, 2, 40)) (mi (1013 + k, 2, 40)) 0 0 2) ∧ (∀ k : Nat, k < 30 → mi' (1022 + k, 204, 40) = mv1 (mi (1074 + k, 204, 40)) (mi (1022 + k, 204, 40)) 0 0 204) ∧ ∀ a : au_A, ¬ (1002 ≤ a.1 ∧ a.1 ≤ 1051) → mi' a = mi a) := by
  refine au_of (by decide) (Nat.le_of_ble_eq_true rfl) ?_
  show au_Go G _ _ 0 [some (au_r XN), some (au_r XI)] [] (mi, si, hi, sl, r, nx) 0 0
  refine au_aload_n dX1_be_0 rfl ?_
  refine au_getf (C := RX1) (T := TX1) (N := 11) in_X1 (by decide) rfl 0 (by decide) rfl rfl q186 rfl dX1_be_1 (v := au_r XIn) (congrArg au_q (fx_XI_0 hF)) ?_
  refine au_aload_n dX1_be_4 rfl ?_
  refine au_getf (C := RX1) (T := TX1) (N := 11) in_X1 (by decide) rfl 0 (by decide) rfl rfl q186 rfl dX1_be_5 (v := au_r XNn) (congrArg au_q (fx_XN_0 hF)) ?_
  refine au_callS (n := 2) (kX1_copy G 1054 1002 6 6 mi si hi sl r nx (fun j => au_reg_lo (by decide) (by decide) j) (fun j => au_reg_lo (by decide) (by decide) j) (by decide) (by decide) (by decide)) (lw_S q236 q237 q131 q238) (by decide +kernel) rfl rfl rfl (Nat.le_of_ble_eq_true rfl) (Nat.le_of_ble_eq_true rfl) (Nat.le_of_ble_eq_true rfl) (Nat.le_of_ble_eq_true rfl) (Nat.le_of_ble_eq_true rfl) dX1_be_8 (fun rv_ M_ hp_ => ?_)
  obtain ⟨rfl, rfl⟩ := hp_
  obtain ⟨m1, hm1⟩ : ∃ z, z = rowS mi XNn (mv1 (mi XIn) (mi XNn) 0 0 6) := ⟨_, rfl⟩
  have e1 : m1 XNn = mv1 (mi XIn) (mi XNn) 0 0 6 := by rw [hm1, rowS_selfF]
  have f1 : ∀ a : au_A, a.1 ≠ 1002 → m1 a = mi a := fun a ha => by rw [hm1, rowS_neF _ _ (ne1 ha)]
  show au_Go G _ _ 11 _ [] (rowS mi XNn (mv1 (mi XIn) (mi XNn) 0 0 6), si, hi, sl, r, nx) 0 0
  rw [← hm1]
  show au_Go G _ _ 11 [some (au_r XN), some (au_r XI)] [] (m1, si, hi, sl, r, nx) 0 0
  refine au_aload_n dX1_be_11 rfl ?_
  refine au_getf (C := RX1) (T := TX1) (N := 11) in_X1 (by decide) rfl 1 (by decide) rfl rfl q188 rfl dX1_be_12 (v := au_r XIrow) (congrArg au_q (fx_XI_1 hF)) ?_
  refine au_aload_n dX1_be_15 rfl ?_
  refine au_getf (C := RX1) (T := TX1) (N := 11) in_X1 (by decide) rfl 1 (by decide) rfl rfl q188 rfl dX1_be_16 (v := au_r XNrow) (congrArg au_q (fx_XN_1 hF)) ?_
  refine au_callS (n := 2) (kX1_copy G 1055 1003 204 204 m1 si hi sl r nx (fun j => au_reg_lo (by decide) (by decide) j) (fun j => au_reg_lo (by decide) (by decide) j) (by decide) (by decide) (by decide)) (lw_S q236 q237 q131 q238) (by decide +kernel) rfl rfl rfl (Nat.le_of_ble_eq_true rfl) (Nat.le_of_ble_eq_true rfl) (Nat.le_of_ble_eq_true rfl) (Nat.le_of_ble_eq_true rfl) (Nat.le_of_ble_eq_true rfl) dX1_be_19 (fun rv_ M_ hp_ => ?_)
  obtain ⟨rfl, rfl⟩ := hp_
  obtain ⟨m2, hm2⟩ : ∃ z, z = rowS m1 XNrow (mv1 (m1 XIrow) (m1 XNrow) 0 0 204) := ⟨_, rfl⟩
  have e2 : m2 XNrow = mv1 (m1 XIrow) (m1 XNrow) 0 0 204 := by rw [hm2, rowS_selfF]
  have f2 : ∀ a : au_A, a.1 ≠ 1003 → m2 a = m1 a := fun a ha => by rw [hm2, rowS_neF _ _ (ne1 ha)]
  show au_Go G _ _ 22 _ [] (rowS m1 XNrow (mv1 (m1 XIrow) (m1 XNrow) 0 0 204), si, hi, sl, r, nx) 0 0
  rw [← hm2]
  show au_Go G _ _ 22 [some (au_r XN), some (au_r XI)] [] (m2, si, hi, sl, r, nx) 0 0
  refine au_aload_n dX1_be_22 rfl ?_
  refine au_getf (C := RX1) (T := TX1) (N := 11) in_X1 (by decide) rfl 2 (by decide) rfl rfl q190 rfl dX1_be_23 (v := au_r XIboss) (congrArg au_q (fx_XI_2 hF)) ?_
  refine au_aload_n dX1_be_26 rfl ?_
  refine au_getf (C := RX1) (T := TX1) (N := 11) in_X1 (by decide) rfl 2 (by decide) rfl rfl q190 rfl dX1_be_27 (v := au_r XNboss) (congrArg au_q (fx_XN_2 hF)) ?_
  refine au_callS (n := 2) (kX1_copy G 1056 1004 10 10 m2 si hi sl r nx (fun j => au_reg_lo (by decide) (by decide) j) (fun j => au_reg_lo (by decide) (by decide) j) (by decide) (by decide) (by decide)) (lw_S q236 q237 q131 q238) (by decide +kernel) rfl rfl rfl (Nat.le_of_ble_eq_true rfl) (Nat.le_of_ble_eq_true rfl) (Nat.le_of_ble_eq_true rfl) (Nat.le_of_ble_eq_true rfl) (Nat.le_of_ble_eq_true rfl) dX1_be_30 (fun rv_ M_ hp_ => ?_)
  obtain ⟨rfl, rfl⟩ := hp_
  obtain ⟨m3, hm3⟩ : ∃ z, z = rowS m2 XNboss (mv1 (m2 XIboss) (m2 XNboss) 0 0 10) := ⟨_, rfl⟩
  have e3 : m3 XNboss = mv1 (m2 XIboss) (m2 XNboss) 0 0 10 := by rw [hm3, rowS_selfF]
  have f3 : ∀ a : au_A, a.1 ≠ 1004 → m3 a = m2 a := fun a ha => by rw [hm3, rowS_neF _ _ (ne1 ha)]
  show au_Go G _ _ 33 _ [] (rowS m2 XNboss (mv1 (m2 XIboss) (m2 XNboss) 0 0 10), si, hi, sl, r, nx) 0 0
  rw [← hm3]
  show au_Go G _ _ 33 [some (au_r XN), some (au_r XI)] [] (m3, si, hi, sl, r, nx) 0 0
  refine au_aload_n dX1_be_33 rfl ?_
  refine au_getf (C := RX1) (T := TX1) (N := 11) in_X1 (by decide) rfl 3 (by decide) rfl rfl q192 rfl dX1_be_34 (v := au_r XIpride) (congrArg au_q (fx_XI_3 hF)) ?_
  refine au_aload_n dX1_be_37 rfl ?_
  refine au_getf (C := RX1) (T := TX1) (N := 11) in_X1 (by decide) rfl 3 (by decide) rfl rfl q192 rfl dX1_be_38 (v := au_r XNpride) (congrArg au_q (fx_XN_3 hF)) ?_
  refine au_callS (n := 2) (kX1_copy G 1057 1005 10 10 m3 si hi sl r nx (fun j => au_reg_lo (by decide) (by decide) j) (fun j => au_reg_lo (by decide) (by decide) j) (by decide) (by decide) (by decide)) (lw_S q236 q237 q131 q238) (by decide +kernel) rfl rfl rfl (Nat.le_of_ble_eq_true rfl) (Nat.le_of_ble_eq_true rfl) (Nat.le_of_ble_eq_true rfl) (Nat.le_of_ble_eq_true rfl) (Nat.le_of_ble_eq_true rfl) dX1_be_41 (fun rv_ M_ hp_ => ?_)
  obtain ⟨rfl, rfl⟩ := hp_
  obtain ⟨m4, hm4⟩ : ∃ z, z = rowS m3 XNpride (mv1 (m3 XIpride) (m3 XNpride) 0 0 10) := ⟨_, rfl⟩
  have e4 : m4 XNpride = mv1 (m3 XIpride) (m3 XNpride) 0 0 10 := by rw [hm4, rowS_selfF]
  have f4 : ∀ a : au_A, a.1 ≠ 1005 → m4 a = m3 a := fun a ha => by rw [hm4, rowS_neF _ _ (ne1 ha)]
  show au_Go G _ _ 44 _ [] (rowS m3 XNpride (mv1 (m3 XIpride) (m3 XNpride) 0 0 10), si, hi, sl, r, nx) 0 0
  rw [← hm4]
  show au_Go G _ _ 44 [some (au_r XN), some (au_r XI)] [] (m4, si, hi, sl, r, nx) 0 0
  refine au_aload_n dX1_be_44 rfl ?_
  refine au_getf (C := RX1) (T := TX1) (N := 11) in_X1 (by decide) rfl 4 (by decide) rfl rfl q194 rfl dX1_be_45 (v := au_r XIcousin) (congrArg au_q (fx_XI_4 hF)) ?_
  refine au_aload_n dX1_be_48 rfl ?_
  refine au_getf (C := RX1) (T := TX1) (N := 11) in_X1 (by decide) rfl 4 (by decide) rfl rfl q194 rfl dX1_be_49 (v := au_r XNcousin) (congrArg au_q (fx_XN_4 hF)) ?_
  refine au_callS (n := 2) (kX1_copy G 1058 1006 10 10 m4 si hi sl r nx (fun j => au_reg_lo (by decide) (by decide) j) (fun j => au_reg_lo (by decide) (by decide) j) (by decide) (by decide) (by decide)) (lw_S q236 q237 q131 q238) (by decide +kernel) rfl rfl rfl (Nat.le_of_ble_eq_true rfl) (Nat.le_of_ble_eq_true rfl) (Nat.le_of_ble_eq_true rfl) (Nat.le_of_ble_eq_true rfl) (Nat.le_of_ble_eq_true rfl) dX1_be_52 (fun rv_ M_ hp_ => ?_)
  obtain ⟨rfl, rfl⟩ := hp_
  obtain ⟨m5, hm5⟩ : ∃ z, z = rowS m4 XNcousin (mv1 (m4 XIcousin) (m4 XNcousin) 0 0 10) := ⟨_, rfl⟩
  have e5 : m5 XNcousin = mv1 (m4 XIcousin) (m4 XNcousin) 0 0 10 := by rw [hm5, rowS_selfF]
  have f5 : ∀ a : au_A, a.1 ≠ 1006 → m5 a = m4 a := fun a ha => by rw [hm5, rowS_neF _ _ (ne1 ha)]
  show au_Go G _ _ 55 _ [] (rowS m4 XNcousin (mv1 (m4 XIcousin) (m4 XNcousin) 0 0 10), si, hi, sl, r, nx) 0 0
  rw [← hm5]
  show au_Go G _ _ 55 [some (au_r XN), some (au_r XI)] [] (m5, si, hi, sl, r, nx) 0 0
  refine au_aload_n dX1_be_55 rfl ?_
  refine au_getf (C := RX1) (T := TX1) (N := 11) in_X1 (by decide) rfl 5 (by decide) rfl rfl q196 rfl dX1_be_56 (v := au_r XIweight) (congrArg au_q (fx_XI_5 hF)) ?_
  refine au_aload_n dX1_be_59 rfl ?_
  refine au_getf (C := RX1) (T := TX1) (N := 11) in_X1 (by decide) rfl 5 (by decide) rfl rfl q196 rfl dX1_be_60 (v := au_r XNweight) (congrArg au_q (fx_XN_5 hF)) ?_
  refine au_callS (n := 2) (kX1_copy G 1059 1007 10 10 m5 si hi sl r nx (fun j => au_reg_lo (by decide) (by decide) j) (fun j => au_reg_lo (by decide) (by decide) j) (by decide) (by decide) (by decide)) (lw_S q236 q237 q131 q238) (by decide +kernel) rfl rfl rfl (Nat.le_of_ble_eq_true rfl) (Nat.le_of_ble_eq_true rfl) (Nat.le_of_ble_eq_true rfl) (Nat.le_of_ble_eq_true rfl) (Nat.le_of_ble_eq_true rfl) dX1_be_63 (fun rv_ M_ hp_ => ?_)
  obtain ⟨rfl, rfl⟩ := hp_
  obtain ⟨m6, hm6⟩ : ∃ z, z = rowS m5 XNweight (mv1 (m5 XIweight) (m5 XNweight) 0 0 10) := ⟨_, rfl⟩
  have e6 : m6 XNweight = mv1 (m5 XIweight) (m5 XNweight) 0 0 10 := by rw [hm6, rowS_selfF]
  have f6 : ∀ a : au_A, a.1 ≠ 1007 → m6 a = m5 a := fun a ha => by rw [hm6, rowS_neF _ _ (ne1 ha)]
  show au_Go G _ _ 66 _ [] (rowS m5 XNweight (mv1 (m5 XIweight) (m5 XNweight) 0 0 10), si, hi, sl, r, nx) 0 0
  rw [← hm6]
  show au_Go G _ _ 66 [some (au_r XN), some (au_r XI)] [] (m6, si, hi, sl, r, nx) 0 0
  refine au_aload_n dX1_be_66 rfl ?_
  refine au_getf (C := RX1) (T := TX1) (N := 11) in_X1 (by decide) rfl 6 (by decide) rfl rfl q198 rfl dX1_be_67 (v := au_r XIpile) (congrArg au_q (fx_XI_6 hF)) ?_
  refine au_aload_n dX1_be_70 rfl ?_
  refine au_getf (C := RX1) (T := TX1) (N := 11) in_X1 (by decide) rfl 6 (by decide) rfl rfl q198 rfl dX1_be_71 (v := au_r XNpile) (congrArg au_q (fx_XN_6 hF)) ?_
  refine au_callS (n := 2) (kX1_copy G 1060 1008 8 8 m6 si hi sl r nx (fun j => au_reg_lo (by decide) (by decide) j) (fun j => au_reg_lo (by decide) (by decide) j) (by decide) (by decide) (by decide)) (lw_S q236 q237 q131 q238) (by decide +kernel) rfl rfl rfl (Nat.le_of_ble_eq_true rfl) (Nat.le_of_ble_eq_true rfl) (Nat.le_of_ble_eq_true rfl) (Nat.le_of_ble_eq_true rfl) (Nat.le_of_ble_eq_true rfl) dX1_be_74 (fun rv_ M_ hp_ => ?_)
  obtain ⟨rfl, rfl⟩ := hp_
  obtain ⟨m7, hm7⟩ : ∃ z, z = rowS m6 XNpile (mv1 (m6 XIpile) (m6 XNpile) 0 0 8) := ⟨_, rfl⟩
  have e7 : m7 XNpile = mv1 (m6 XIpile) (m6 XNpile) 0 0 8 := by rw [hm7, rowS_selfF]
  have f7 : ∀ a : au_A, a.1 ≠ 1008 → m7 a = m6 a := fun a ha => by rw [hm7, rowS_neF _ _ (ne1 ha)]
  show au_Go G _ _ 77 _ [] (rowS m6 XNpile (mv1 (m6 XIpile) (m6 XNpile) 0 0 8), si, hi, sl, r, nx) 0 0
  rw [← hm7]
  show au_Go G _ _ 77 [some (au_r XN), some (au_r XI)] [] (m7, si, hi, sl, r, nx) 0 0
  refine au_aload_n dX1_be_77 rfl ?_
  refine au_getf (C := RX1) (T := TX1) (N := 11) in_X1 (by decide) rfl 7 (by decide) rfl rfl q200 rfl dX1_be_78 (v := au_r XIturn) (congrArg au_q (fx_XI_7 hF)) ?_
  refine au_aload_n dX1_be_81 rfl ?_
  refine au_getf (C := RX1) (T := TX1) (N := 11) in_X1 (by decide) rfl 7 (by decide) rfl rfl q200 rfl dX1_be_82 (v := au_r XNturn) (congrArg au_q (fx_XN_7 hF)) ?_
  refine au_callS (n := 2) (kX1_copy_2 G 1061 1009 2 5 1062 1010 m7 si hi sl r nx (fun k hk => (hF.2.2.2 k hk).2) (fun k hk => (hF.2.2.2 k hk).1) (by decide) (by decide) (by decide) (by decide) (by decide)) (lw_S q242 q243 q131 q244) (by decide +kernel) rfl rfl rfl (Nat.le_of_ble_eq_true rfl) (Nat.le_of_ble_eq_true rfl) (Nat.le_of_ble_eq_true rfl) (Nat.le_of_ble_eq_true rfl) (Nat.le_of_ble_eq_true rfl) dX1_be_85 (fun rv_ M_ hp_ => ?_)
  obtain ⟨rfl, m8, rfl, e8, f8⟩ := hp_
  show au_Go G _ _ 88 [some (au_r XN), some (au_r XI)] [] (m8, si, hi, sl, r, nx) 0 0
  refine au_aload_n dX1_be_88 rfl ?_
  refine au_getf (C := RX1) (T := TX1) (N := 11) in_X1 (by decide) rfl 8 (by decide) rfl rfl q202 rfl dX1_be_89 (v := au_r XIadded) (congrArg au_q (fx_XI_8 hF)) ?_
  refine au_aload_n dX1_be_92 rfl ?_
  refine au_getf (C := RX1) (T := TX1) (N := 11) in_X1 (by decide) rfl 8 (by decide) rfl rfl q202 rfl dX1_be_93 (v := au_r XNadded) (congrArg au_q (fx_XN_8 hF)) ?_
  refine au_callS (n := 2) (kX1_copy_2 G 1064 1012 8 2 1065 1013 m8 si hi sl r nx (fun k hk => (hF.2.2.1 k hk).2) (fun k hk => (hF.2.2.1 k hk).1) (by decide) (by decide) (by decide) (by decide) (by decide)) (lw_S q242 q243 q131 q244) (by decide +kernel) rfl rfl rfl (Nat.le_of_ble_eq_true rfl) (Nat.le_of_ble_eq_true rfl) (Nat.le_of_ble_eq_true rfl) (Nat.le_of_ble_eq_true rfl) (Nat.le_of_ble_eq_true rfl) dX1_be_96 (fun rv_ M_ hp_ => ?_)
  obtain ⟨rfl, m9, rfl, e9, f9⟩ := hp_
  show au_Go G _ _ 99 [some (au_r XN), some (au_r XI)] [] (m9, si, hi, sl, r, nx) 0 0
  refine au_aload_n dX1_be_99 rfl ?_
  refine au_getf (C := RX1) (T := TX1) (N := 11) in_X1 (by decide) rfl 9 (by decide) rfl rfl q204 rfl dX1_be_100 (v := au_r XIstep) (congrArg au_q (fx_XI_9 hF)) ?_
  refine au_aload_n dX1_be_103 rfl ?_
  refine au_getf (C := RX1) (T := TX1) (N := 11) in_X1 (by decide) rfl 9 (by decide) rfl rfl q204 rfl dX1_be_104 (v := au_r XNstep) (congrArg au_q (fx_XN_9 hF)) ?_
  refine au_callS (n := 2) (kX1_copy_2 G 1073 1021 30 204 1074 1022 m9 si hi sl r nx (fun k hk => (hF.2.1 k hk).2) (fun k hk => (hF.2.1 k hk).1) (by decide) (by decide) (by decide) (by decide) (by decide)) (lw_S q242 q243 q131 q244) (by decide +kernel) rfl rfl rfl (Nat.le_of_ble_eq_true rfl) (Nat.le_of_ble_eq_true rfl) (Nat.le_of_ble_eq_true rfl) (Nat.le_of_ble_eq_true rfl) (Nat.le_of_ble_eq_true rfl) dX1_be_107 (fun rv_ M_ hp_ => ?_)
  obtain ⟨rfl, m10, rfl, e10, f10⟩ := hp_
  show au_Go G _ _ 110 [some (au_r XN), some (au_r XI)] [] (m10, si, hi, sl, r, nx) 0 0
  refine au_aload_n dX1_be_110 rfl ?_
  refine au_getf (C := RX1) (T := TX1) (N := 11) in_X1 (by decide) rfl 10 (by decide) rfl rfl q206 rfl dX1_be_111 (v := au_r XItext) (congrArg au_q (fx_XI_10 hF)) ?_
  refine au_iconst dX1_be_114 rfl rfl ?_
  refine au_aload_n dX1_be_115 rfl ?_
  refine au_getf (C := RX1) (T := TX1) (N := 11) in_X1 (by decide) rfl 10 (by decide) rfl rfl q206 rfl dX1_be_116 (v := au_r XNtext) (congrArg au_q (fx_XN_10 hF)) ?_
  refine au_iconst dX1_be_119 rfl rfl ?_
  refine au_iconst dX1_be_120 rfl rfl ?_
  refine au_copyT (a := XItext) (b := XNtext) q239 q241 q240 q133 rfl rfl rfl (by decide) (by decide) (by decide) (by decide) (Nat.le_of_ble_eq_true rfl) (Nat.le_of_ble_eq_true rfl) (by decide) dX1_be_121 hT ?_
  show au_Go G _ _ 124 [some (au_r XN), some (au_r XI)] [] (m10, si, hi, sl, (cpR r XItext XNtext 4), nx) 0 0
  refine au_vret dX1_be_124 rfl rfl (Nat.le_of_ble_eq_true rfl) (Nat.le_of_ble_eq_true rfl) ?_
  refine ⟨rfl, m10, rfl, ?_, ?_, ?_, ?_, ?_, ?_, ?_, fun k hk => ?_, fun k hk => ?_, fun k hk => ?_, fun a ha => ?_⟩
  · rw [f10 XNn (by decide), f9 XNn (by decide), f8 XNn (by decide), f7 XNn (by decide), f6 XNn (by decide), f5 XNn (by decide), f4 XNn (by decide), f3 XNn (by decide), f2 XNn (by decide), e1]
  · rw [f10 XNrow (by decide), f9 XNrow (by decide), f8 XNrow (by decide), f7 XNrow (by decide), f6 XNrow (by decide), f5 XNrow (by decide), f4 XNrow (by decide), f3 XNrow (by decide), e2]
    rw [f1 XIrow (by decide), f1 XNrow (by decide)]
  · rw [f10 XNboss (by decide), f9 XNboss (by decide), f8 XNboss (by decide), f7 XNboss (by decide), f6 XNboss (by decide), f5 XNboss (by decide), f4 XNboss (by decide), e3]
    rw [f2 XIboss (by decide), f1 XIboss (by decide), f2 XNboss (by decide), f1 XNboss (by decide)]
  · rw [f10 XNpride (by decide), f9 XNpride (by decide), f8 XNpride (by decide), f7 XNpride (by decide), f6 XNpride (by decide), f5 XNpride (by decide), e4]
    rw [f3 XIpride (by decide), f2 XIpride (by decide), f1 XIpride (by decide), f3 XNpride (by decide), f2 XNpride (by decide), f1 XNpride (by decide)]
  · rw [f10 XNcousin (by decide), f9 XNcousin (by decide), f8 XNcousin (by decide), f7 XNcousin (by decide), f6 XNcousin (by decide), e5]
    rw [f4 XIcousin (by decide), f3 XIcousin (by decide), f2 XIcousin (by decide), f1 XIcousin (by decide), f4 XNcousin (by decide), f3 XNcousin (by decide), f2 XNcousin (by decide), f1 XNcousin (by decide)]
  · rw [f10 XNweight (by decide), f9 XNweight (by decide), f8 XNweight (by decide), f7 XNweight (by decide), e6]
    rw [f5 XIweight (by decide), f4 XIweight (by decide), f3 XIweight (by decide), f2 XIweight (by decide), f1 XIweight (by decide), f5 XNweight (by decide), f4 XNweight (by decide), f3 XNweight (by decide), f2 XNweight (by decide), f1 XNweight (by decide)]
  · rw [f10 XNpile (by decide), f9 XNpile (by decide), f8 XNpile (by decide), e7]
    rw [f6 XIpile (by decide), f5 XIpile (by decide), f4 XIpile (by decide), f3 XIpile (by decide), f2 XIpile (by decide), f1 XIpile (by decide), f6 XNpile (by decide), f5 XNpile (by decide), f4 XNpile (by decide), f3 XNpile (by decide), f2 XNpile (by decide), f1 XNpile (by decide)]
  · rw [f10 (1010 + k, 5, 40) (by show ¬ (_ ≤ 1010 + k ∧ 1010 + k < _); omega), f9 (1010 + k, 5, 40) (by show ¬ (_ ≤ 1010 + k ∧ 1010 + k < _); omega), e8 k hk]
    rw [f7 (1062 + k, 5, 40) (by show 1062 + k ≠ _; omega), f6 (1062 + k, 5, 40) (by show 1062 + k ≠ _; omega), f5 (1062 + k, 5, 40) (by show 1062 + k ≠ _; omega), f4 (1062 + k, 5, 40) (by show 1062 + k ≠ _; omega), f3 (1062 + k, 5, 40) (by show 1062 + k ≠ _; omega), f2 (1062 + k, 5, 40) (by show 1062 + k ≠ _; omega), f1 (1062 + k, 5, 40) (by show 1062 + k ≠ _; omega), f7 (1010 + k, 5, 40) (by show 1010 + k ≠ _; omega), f6 (1010 + k, 5, 40) (by show 1010 + k ≠ _; omega), f5 (1010 + k, 5, 40) (by show 1010 + k ≠ _; omega), f4 (1010 + k, 5, 40) (by show 1010 + k ≠ _; omega), f3 (1010 + k, 5, 40) (by show 1010 + k ≠ _; omega), f2 (1010 + k, 5, 40) (by show 1010 + k ≠ _; omega), f1 (1010 + k, 5, 40) (by show 1010 + k ≠ _; omega)]
    rfl
  · rw [f10 (1013 + k, 2, 40) (by show ¬ (_ ≤ 1013 + k ∧ 1013 + k < _); omega), e9 k hk]
    rw [f8 (1065 + k, 2, 40) (by show ¬ (_ ≤ 1065 + k ∧ 1065 + k < _); omega), f7 (1065 + k, 2, 40) (by show 1065 + k ≠ _; omega), f6 (1065 + k, 2, 40) (by show 1065 + k ≠ _; omega), f5 (1065 + k, 2, 40) (by show 1065 + k ≠ _; omega), f4 (1065 + k, 2, 40) (by show 1065 + k ≠ _; omega), f3 (1065 + k, 2, 40) (by show 1065 + k ≠ _; omega), f2 (1065 + k, 2, 40) (by show 1065 + k ≠ _; omega), f1 (1065 + k, 2, 40) (by show 1065 + k ≠ _; omega), f8 (1013 + k, 2, 40) (by show ¬ (_ ≤ 1013 + k ∧ 1013 + k < _); omega), f7 (1013 + k, 2, 40) (by show 1013 + k ≠ _; omega), f6 (1013 + k, 2, 40) (by show 1013 + k ≠ _; omega), f5 (1013 + k, 2, 40) (by show 1013 + k ≠ _; omega), f4 (1013 + k, 2, 40) (by show 1013 + k ≠ _; omega), f3 (1013 + k, 2, 40) (by show 1013 + k ≠ _; omega), f2 (1013 + k, 2, 40) (by show 1013 + k ≠ _; omega), f1 (1013 + k, 2, 40) (by show 1013 + k ≠ _; omega)]
    rfl
  · rw [e10 k hk]
    rw [f9 (1074 + k, 204, 40) (by show ¬ (_ ≤ 1074 + k ∧ 1074 + k < _); omega), f8 (1074 + k, 204, 40) (by show ¬ (_ ≤ 1074 + k ∧ 1074 + k < _); omega), f7 (1074 + k, 204, 40) (by show 1074 + k ≠ _; omega), f6 (1074 + k, 204, 40) (by show 1074 + k ≠ _; omega), f5 (1074 + k, 204, 40) (by show 1074 + k ≠ _; omega), f4 (1074 + k, 204, 40) (by show 1074 + k ≠ _; omega), f3 (1074 + k, 204, 40) (by show 1074 + k ≠ _; omega), f2 (1074 + k, 204, 40) (by show 1074 + k ≠ _; omega), f1 (1074 + k, 204, 40) (by show 1074 + k ≠ _; omega), f9 (1022 + k, 204, 40) (by show ¬ (_ ≤ 1022 + k ∧ 1022 + k < _); omega), f8 (1022 + k, 204, 40) (by show ¬ (_ ≤ 1022 + k ∧ 1022 + k < _); omega), f7 (1022 + k, 204, 40) (by show 1022 + k ≠ _; omega), f6 (1022 + k, 204, 40) (by show 1022 + k ≠ _; omega), f5 (1022 + k, 204, 40) (by show 1022 + k ≠ _; omega), f4 (1022 + k, 204, 40) (by show 1022 + k ≠ _; omega), f3 (1022 + k, 204, 40) (by show 1022 + k ≠ _; omega), f2 (1022 + k, 204, 40) (by show 1022 + k ≠ _; omega), f1 (1022 + k, 204, 40) (by show 1022 + k ≠ _; omega)]
    rfl
  · rw [f10 a (by omega), f9 a (by omega), f8 a (by omega), f7 a (by omega), f6 a (by omega), f5 a (by omega), f4 a (by omega), f3 a (by omega), f2 a (by omega), f1 a (by omega)]
theorem kX0_image (G : au_G) (mi si hi sl : au_A → Int → Int) (r : au_A → Int → Option au_A) (nx : Nat) (hF : Fix r) (hT : ∀ (j : Int) (t : au_A), 0 ≤ j → j < 4 → r XNtext j = some t → t.2.2 = 4) : au_Ctr G yX0_image cX0_image 1 (some .int) 4 0 0 [au_r XO] (mi, si, hi, sl, r, nx) (fun rv M' => rv = some (au_i (mi XNrow 0)) ∧ ∃ mi' : au_A → Int → Int, M' = (mi', si, hi, sl, cpR r XNtext XItext 4, nx) ∧ mi' XIn = mv1 (mi XNn) (mi XIn) 0 0 6 ∧ mi' XIrow = mv1 (mi XNrow) (mi XIrow) 0 0 204 ∧ mi' XIboss = mv1 (mi XNboss) (mi XIboss) 0 0 10 ∧ mi' XIpride = mv1 (mi XNpride) (mi XIpride) 0 0 10 ∧ mi' XIcousin = mv1 (mi XNcousin) (mi XIcousin) 0 0 10 ∧ mi' XIweight = mv1 (mi XNweight) (mi XIweight) 0 0 10 ∧ mi' XIpile = mv1 (mi XNpile) (mi XIpile) 0 0 8 ∧ (∀ k : Nat, k < 2 → mi' (1062 + k, 5, 40) = mv1 (mi (1010 + k, 5, 40)) (mi (1062 + k, 5, 40)) 0 0 5) ∧ (∀ k : Nat, k < 8 → mi' (1065 + k, 2, 40) = mv1 (mi (1013 + k, 2, 40)) (mi (1065 + k, 2, 40)) 0 0 2) ∧ (∀ k : Nat, k < 30 → mi' (1074 + k, 204, 40) = mv1 (mi (1022 + k, 204, 40)) (mi (1074 + k, 204, 40)) 0 0 204) ∧ ∀ a : au_A, ¬ (1054 ≤ a.1 ∧ a.1 ≤ 1103) → mi' a = mi a) := by
  refine au_of (by decide) (Nat.le_of_ble_eq_true rfl) ?_
  show au_Go G _ _ 0 [some (au_r XO)] [] (mi, si, hi, sl, r, nx) 0 0
  refine au_aload_n dX0_image_0 rfl ?_
  refine au_getf (C := RX0) (T := TX0) (N := 15) in_X0 (by decide) rfl 1 (by decide) rfl rfl q246 rfl dX0_image_1 (v := au_r XI) (congrArg au_q (fx_XO_1 hF)) ?_
  refine au_aload_n dX0_image_4 rfl ?_
  refine au_getf (C := RX0) (T := TX0) (N := 15) in_X0 (by decide) rfl 0 (by decide) rfl rfl q245 rfl dX0_image_5 (v := au_r XN) (congrArg au_q (fx_XO_0 hF)) ?_
  refine au_callV (n := 1) (kX1_beI G mi si hi sl r nx hF hT) (lw_V q232 q233 q234 q131 q235) rfl (by decide +kernel) (by decide) (T := TX1) (N := 11) rfl rfl rfl rfl (Nat.le_of_ble_eq_true rfl) (Nat.le_of_ble_eq_true rfl) (Nat.le_of_ble_eq_true rfl) (Nat.le_of_ble_eq_true rfl) (Nat.le_of_ble_eq_true rfl) dX0_image_8 (fun rv_ M_ hp_ => ?_)
  obtain ⟨rfl, m1, rfl, g1, g2, g3, g4, g5, g6, g7, g8, g9, g10, g11⟩ := hp_
  have hF := hF.cp XNtext XItext 4 (by first | exact Or.inl rfl | exact Or.inr rfl)
  show au_Go G _ _ 11 [some (au_r XO)] [] (m1, si, hi, sl, (cpR r XNtext XItext 4), nx) 0 0
  refine au_aload_n dX0_image_11 rfl ?_
  refine au_getf (C := RX0) (T := TX0) (N := 15) in_X0 (by decide) rfl 0 (by decide) rfl rfl q245 rfl dX0_image_12 (v := au_r XN) (congrArg au_q (fx_XO_0 hF)) ?_
  refine au_getN (C := RX1) (T := TX1) (N := 11) in_X1 (by decide) rfl 1 (by decide) rfl rfl q189 rfl dX0_image_15 (v := au_r XNrow) (congrArg au_q (fx_XN_1 hF)) ?_
  refine au_iconst dX0_image_18 rfl rfl ?_
  refine au_iald dX0_image_19 rfl (by omega) (by show _ < ((204 : Nat) : Int); omega) (v := au_i (mi XNrow 0)) (congrArg au_i (congrFun (g11 XNrow (by decide)) 0)) ?_
  exact au_iret dX0_image_20 rfl rfl (Nat.le_of_ble_eq_true rfl) (Nat.le_of_ble_eq_true rfl) (⟨rfl, m1, rfl, g1, g2, g3, g4, g5, g6, g7, g8, g9, g10, g11⟩)
theorem kX0_back (G : au_G) (mi si hi sl : au_A → Int → Int) (r : au_A → Int → Option au_A) (nx : Nat) (hF : Fix r) (hT : ∀ (j : Int) (t : au_A), 0 ≤ j → j < 4 → r XItext j = some t → t.2.2 = 4) : au_Ctr G yX0_back cX0_back 1 (some .int) 4 0 0 [au_r XO] (mi, si, hi, sl, r, nx) (fun rv M' => rv = some (au_i (mi XIrow 0)) ∧ ∃ mi' : au_A → Int → Int, M' = (mi', si, hi, sl, cpR r XItext XNtext 4, nx) ∧ mi' XNn = mv1 (mi XIn) (mi XNn) 0 0 6 ∧ mi' XNrow = mv1 (mi XIrow) (mi XNrow) 0 0 204 ∧ mi' XNboss = mv1 (mi XIboss) (mi XNboss) 0 0 10 ∧ mi' XNpride = mv1 (mi XIpride) (mi XNpride) 0 0 10 ∧ mi' XNcousin = mv1 (mi XIcousin) (mi XNcousin) 0 0 10 ∧ mi' XNweight = mv1 (mi XIweight) (mi XNweight) 0 0 10 ∧ mi' XNpile = mv1 (mi XIpile) (mi XNpile) 0 0 8 ∧ (∀ k : Nat, k < 2 → mi' (1010 + k, 5, 40) = mv1 (mi (1062 + k, 5, 40)) (mi (1010 + k, 5, 40)) 0 0 5) ∧ (∀ k : Nat, k < 8 → mi' (1013 + k, 2, 40) = mv1 (mi (1065 + k, 2, 40)) (mi (1013 + k, 2, 40)) 0 0 2) ∧ (∀ k : Nat, k < 30 → mi' (1022 + k, 204, 40) = mv1 (mi (1074 + k, 204, 40)) (mi (1022 + k, 204, 40)) 0 0 204) ∧ ∀ a : au_A, ¬ (1002 ≤ a.1 ∧ a.1 ≤ 1051) → mi' a = mi a) := by
  refine au_of (by decide) (Nat.le_of_ble_eq_true rfl) ?_
  show au_Go G _ _ 0 [some (au_r XO)] [] (mi, si, hi, sl, r, nx) 0 0
  refine au_aload_n dX0_back_0 rfl ?_
  refine au_getf (C := RX0) (T := TX0) (N := 15) in_X0 (by decide) rfl 0 (by decide) rfl rfl q245 rfl dX0_back_1 (v := au_r XN) (congrArg au_q (fx_XO_0 hF)) ?_
  refine au_aload_n dX0_back_4 rfl ?_
  refine au_getf (C := RX0) (T := TX0) (N := 15) in_X0 (by decide) rfl 1 (by decide) rfl rfl q246 rfl dX0_back_5 (v := au_r XI) (congrArg au_q (fx_XO_1 hF)) ?_
  refine au_callV (n := 1) (kX1_beN G mi si hi sl r nx hF hT) (lw_V q232 q233 q234 q131 q235) rfl (by decide +kernel) (by decide) (T := TX1) (N := 11) rfl rfl rfl rfl (Nat.le_of_ble_eq_true rfl) (Nat.le_of_ble_eq_true rfl) (Nat.le_of_ble_eq_true rfl) (Nat.le_of_ble_eq_true rfl) (Nat.le_of_ble_eq_true rfl) dX0_back_8 (fun rv_ M_ hp_ => ?_)
  obtain ⟨rfl, m1, rfl, g1, g2, g3, g4, g5, g6, g7, g8, g9, g10, g11⟩ := hp_
  have hF := hF.cp XItext XNtext 4 (by first | exact Or.inl rfl | exact Or.inr rfl)
  show au_Go G _ _ 11 [some (au_r XO)] [] (m1, si, hi, sl, (cpR r XItext XNtext 4), nx) 0 0
  refine au_aload_n dX0_back_11 rfl ?_
  refine au_getf (C := RX0) (T := TX0) (N := 15) in_X0 (by decide) rfl 0 (by decide) rfl rfl q245 rfl dX0_back_12 (v := au_r XN) (congrArg au_q (fx_XO_0 hF)) ?_
  refine au_getN (C := RX1) (T := TX1) (N := 11) in_X1 (by decide) rfl 1 (by decide) rfl rfl q189 rfl dX0_back_15 (v := au_r XNrow) (congrArg au_q (fx_XN_1 hF)) ?_
  refine au_iconst dX0_back_18 rfl rfl ?_
  refine au_iald dX0_back_19 rfl (by omega) (by show _ < ((204 : Nat) : Int); omega) (v := au_i (mi XIrow 0)) (congrArg au_i (by show m1 XNrow 0 = _; rw [g2]; exact mv1_at _ _ (by decide) (by decide))) ?_
  exact au_iret dX0_back_20 rfl rfl (Nat.le_of_ble_eq_true rfl) (Nat.le_of_ble_eq_true rfl) (⟨rfl, m1, rfl, g1, g2, g3, g4, g5, g6, g7, g8, g9, g10, g11⟩)
