/-! WHAT SUMS AND ASKINGS ANSWER (printed by tools/m39.py) -/
set_option maxRecDepth 100000
set_option maxHeartbeats 4000000

theorem au_ple {x y : Int} {M M' : au_M} (h : x = y) (hM : M' = M) : au_pure (au_l y) M (some (au_l x)) M' := ⟨by rw [h], hM⟩
theorem mul_bd {a b : Int} (ha : I33 a) (hb : I33 b) : -4611686018427387904 ≤ a * b ∧ a * b ≤ 4611686018427387904 := by
  unfold I33 at ha hb
  have h1 : (a * b).natAbs ≤ 2147483648 * 2147483648 := by
    rw [Int.natAbs_mul]
    exact Nat.mul_le_mul (by omega) (by omega)
  omega
theorem tdiv_bd {a b : Int} (ha : I33 a) : I33 (Int.tdiv a b) := by
  unfold I33 at ha ⊢
  have h1 : (Int.tdiv a b).natAbs ≤ a.natAbs := by
    rw [Int.natAbs_tdiv]
    exact Nat.div_le_self _ _
  omega
theorem hlvF_0 : ∀ t : Nat, hlvF 0 t = 0
  | 0 => rfl
  | _ + 1 => if_pos rfl

theorem kX7_of (G : au_G) (d p : Nat) (mi si hi sl : au_A → Int → Int) (r : au_A → Int → Option au_A) (nx : Nat) (hp : 1126 ≤ p) : au_Ctr G yX7_of cX7_of 2 (some .long) (d + 4) 0 0 [au_r (p, 0, 7), au_r XNames] (mi, si, hi, sl, r, nx) (au_pure (au_l (hi (p, 0, 7) 0)) (mi, si, hi, sl, r, nx)) := by
  refine au_of (by decide) (Nat.le_of_ble_eq_true rfl) ?_
  show au_Go G _ _ 0 [some (au_r (p, 0, 7)), some (au_r XNames)] [] (mi, si, hi, sl, r, nx) 0 0
  refine au_aload_n dX7_of_0 rfl ?_
  refine au_getf (C := RX7) (T := TX7) (N := 1) in_X7 (show 7 < 40 by decide) rfl 0 (by decide) rfl rfl q574 rfl dX7_of_1 (v := au_i (hi (p, 0, 7) 0)) (congrArg au_i (au_gi_h (au_reg_o (by omega) (by decide) _))) ?_
  refine au_i2l dX7_of_4 ?_
  exact au_lret dX7_of_5 rfl rfl (Nat.le_of_ble_eq_true rfl) (Nat.le_of_ble_eq_true rfl) (⟨rfl, rfl⟩)
theorem kX13_of (G : au_G) (d p : Nat) (mi si hi sl : au_A → Int → Int) (r : au_A → Int → Option au_A) (nx : Nat) (hp : 1126 ≤ p) (nm : Int → Int) (hnm : ∀ k, 0 ≤ k → k < 19 → si XNames k = nm k) (h1 : 0 ≤ hi (p, 0, 13) 0) (h2 : hi (p, 0, 13) 0 < 9) : au_Ctr G yX13_of cX13_of 2 (some .long) (d + 4) 0 0 [au_r (p, 0, 13), au_r XNames] (mi, si, hi, sl, r, nx) (au_pure (au_l (nm (hi (p, 0, 13) 0))) (mi, si, hi, sl, r, nx)) := by
  refine au_of (by decide) (Nat.le_of_ble_eq_true rfl) ?_
  show au_Go G _ _ 0 [some (au_r (p, 0, 13)), some (au_r XNames)] [] (mi, si, hi, sl, r, nx) 0 0
  refine au_aload_n dX13_of_0 rfl ?_
  refine au_aload_n dX13_of_1 rfl ?_
  refine au_getf (C := RX13) (T := TX13) (N := 1) in_X13 (show 13 < 40 by decide) rfl 0 (by decide) rfl rfl q771 rfl dX13_of_2 (v := au_i (hi (p, 0, 13) 0)) (congrArg au_i (au_gi_h (au_reg_o (by omega) (by decide) _))) ?_
  refine au_iald dX13_of_5 rfl (by omega) (by show _ < ((19 : Nat) : Int); omega) (v := au_i (nm (hi (p, 0, 13) 0))) (congrArg au_i (hnm _ h1 (by omega))) ?_
  refine au_i2l dX13_of_6 ?_
  exact au_lret dX13_of_7 rfl rfl (Nat.le_of_ble_eq_true rfl) (Nat.le_of_ble_eq_true rfl) (⟨rfl, rfl⟩)
theorem kX15_of (G : au_G) (d p : Nat) (mi si hi sl : au_A → Int → Int) (r : au_A → Int → Option au_A) (nx : Nat) (s : au_A) (g : Int) (hrs : r (p, 0, 15) 0 = some s) (hcs : au_SC G s (d + 3) (mi, si, hi, sl, r, nx) g) (hbs : I33 g) : au_Ctr G yX15_of cX15_of 2 (some .long) (d + 4) 0 0 [au_r (p, 0, 15), au_r XNames] (mi, si, hi, sl, r, nx) (au_pure (au_l (-g)) (mi, si, hi, sl, r, nx)) := by
  refine au_of (by decide) (Nat.le_of_ble_eq_true rfl) ?_
  unfold I33 at hbs
  show au_Go G _ _ 0 [some (au_r (p, 0, 15)), some (au_r XNames)] [] (mi, si, hi, sl, r, nx) 0 0
  refine au_aload_n dX15_of_0 rfl ?_
  refine au_getf (C := RX15) (T := TX15) (N := 1) in_X15 (show 15 < 40 by decide) rfl 0 (by decide) rfl rfl q791 rfl dX15_of_1 (v := au_r s) (congrArg au_q (hrs)) ?_
  refine au_aload_n dX15_of_4 rfl ?_
  refine hcs _ _ _ _ _ _ _ _ _ q986 dX15_of_5 (Nat.le_of_ble_eq_true rfl) (by show _ ≤ d + 4; omega) (by show _ ≤ 80 * (d + 4); omega) (Nat.le_of_ble_eq_true rfl) (Nat.le_of_ble_eq_true rfl) ?_
  show au_Go G _ _ 10 [some (au_r (p, 0, 15)), some (au_r XNames)] [au_l g] (mi, si, hi, sl, r, nx) 0 0
  refine au_lneg dX15_of_10 (by omega) ?_
  exact au_lret dX15_of_11 rfl rfl (Nat.le_of_ble_eq_true rfl) (Nat.le_of_ble_eq_true rfl) (⟨rfl, rfl⟩)
theorem kX14_of (G : au_G) (d p : Nat) (mi si hi sl : au_A → Int → Int) (r : au_A → Int → Option au_A) (nx : Nat) (s : au_A) (g : Int) (hrs : r (p, 0, 14) 0 = some s) (hcs : au_SC G s (d + 3) (mi, si, hi, sl, r, nx) g) (hbs : I33 g) (nm : Int → Int) (hnm : ∀ k, 0 ≤ k → k < 19 → si XNames k = nm k) : au_Ctr G yX14_of cX14_of 4 (some .long) (d + 4) 0 0 [au_r (p, 0, 14), au_r XNames] (mi, si, hi, sl, r, nx) (au_pure (au_l (rnkF nm g)) (mi, si, hi, sl, r, nx)) := by
  refine au_of (by decide) (Nat.le_of_ble_eq_true rfl) ?_
  unfold I33 at hbs
  show au_Go G _ _ 0 [some (au_r (p, 0, 14)), some (au_r XNames), none, none] [] (mi, si, hi, sl, r, nx) 0 0
  refine au_aload_n dX14_of_0 rfl ?_
  refine au_getf (C := RX14) (T := TX14) (N := 1) in_X14 (show 14 < 40 by decide) rfl 0 (by decide) rfl rfl q781 rfl dX14_of_1 (v := au_r s) (congrArg au_q (hrs)) ?_
  refine au_aload_n dX14_of_4 rfl ?_
  refine hcs _ _ _ _ _ _ _ _ _ q1006 dX14_of_5 (Nat.le_of_ble_eq_true rfl) (by show _ ≤ d + 4; omega) (by show _ ≤ 80 * (d + 4); omega) (Nat.le_of_ble_eq_true rfl) (Nat.le_of_ble_eq_true rfl) ?_
  show au_Go G _ _ 10 [some (au_r (p, 0, 14)), some (au_r XNames), none, none] [au_l g] (mi, si, hi, sl, r, nx) 0 0
  refine au_lstore_n dX14_of_10 (show 2 + 1 < 4 by decide) ?_
  show au_Go G _ _ 11 [some (au_r (p, 0, 14)), some (au_r XNames), some (au_l g), none] [] (mi, si, hi, sl, r, nx) 0 0
  refine au_lload_n dX14_of_11 rfl ?_
  refine au_lconst dX14_of_12 rfl ?_
  refine au_lcmp dX14_of_13 ?_
  refine au_if_lt (tgt := 25) dX14_of_14 (by decide) (fun c14 => ?_) (fun c14 => ?_)
  · have c14 := au_cmp_ltt c14
    refine au_lconst dX14_of_25 rfl ?_
    refine au_goto (tgt := 37) dX14_of_26 (by decide) ?_
    exact au_lret dX14_of_37 rfl rfl (Nat.le_of_ble_eq_true rfl) (Nat.le_of_ble_eq_true rfl) (by first | exact au_ple (show _ = rnkF nm g from (if_pos (by omega)).symm) rfl | exact au_ple (show _ = rnkF nm g from (if_neg (by omega)).symm) rfl)
  · have c14 := au_cmp_ltf c14
    refine au_lload_n dX14_of_17 rfl ?_
    refine au_ldc2 q1007 rfl dX14_of_18 ?_
    show au_Go G _ _ 21 [some (au_r (p, 0, 14)), some (au_r XNames), some (au_l g), none] [au_l 10, au_l g] (mi, si, hi, sl, r, nx) 0 0
    refine au_lcmp dX14_of_21 ?_
    refine au_if_lt (tgt := 29) dX14_of_22 (by decide) (fun c22 => ?_) (fun c22 => ?_)
    · have c22 := au_cmp_ltt c22
      refine au_aload_n dX14_of_29 rfl ?_
      refine au_bipush dX14_of_30 rfl rfl ?_
      refine au_lload_n dX14_of_32 rfl ?_
      refine au_l2i dX14_of_33 (by omega) (by omega) ?_
      refine au_iadd dX14_of_34 (by omega) (by omega) ?_
      refine au_iald dX14_of_35 rfl (by omega) (by show _ < ((19 : Nat) : Int); omega) (v := au_i (nm (9 + g))) (congrArg au_i (hnm _ (by omega) (by omega))) ?_
      refine au_i2l dX14_of_36 ?_
      exact au_lret dX14_of_37 rfl rfl (Nat.le_of_ble_eq_true rfl) (Nat.le_of_ble_eq_true rfl) (by first | exact au_ple (show _ = rnkF nm g from (if_pos (by omega)).symm) rfl | exact au_ple (show _ = rnkF nm g from (if_neg (by omega)).symm) rfl)
    · have c22 := au_cmp_ltf c22
      refine au_lconst dX14_of_25 rfl ?_
      refine au_goto (tgt := 37) dX14_of_26 (by decide) ?_
      exact au_lret dX14_of_37 rfl rfl (Nat.le_of_ble_eq_true rfl) (Nat.le_of_ble_eq_true rfl) (by first | exact au_ple (show _ = rnkF nm g from (if_pos (by omega)).symm) rfl | exact au_ple (show _ = rnkF nm g from (if_neg (by omega)).symm) rfl)
theorem kX11_of (G : au_G) (d p : Nat) (mi si hi sl : au_A → Int → Int) (r : au_A → Int → Option au_A) (nx : Nat) (c : au_A) (q : Int) (hrc : r (p, 0, 11) 0 = some c) (hcc : au_AC G c (d + 3) (mi, si, hi, sl, r, nx) q) (hbc : q = 0 ∨ q = 1) (s : au_A) (g : Int) (hrs : r (p, 0, 11) 1 = some s) (hcs : au_SC G s (d + 3) (mi, si, hi, sl, r, nx) g) (hbs : I33 g) (t : au_A) (h : Int) (hrt : r (p, 0, 11) 2 = some t) (hct : au_SC G t (d + 3) (mi, si, hi, sl, r, nx) h) (hbt : I33 h) : au_Ctr G yX11_of cX11_of 2 (some .long) (d + 4) 0 0 [au_r (p, 0, 11), au_r XNames] (mi, si, hi, sl, r, nx) (au_pure (au_l (if q = 0 then h else g)) (mi, si, hi, sl, r, nx)) := by
  refine au_of (by decide) (Nat.le_of_ble_eq_true rfl) ?_
  show au_Go G _ _ 0 [some (au_r (p, 0, 11)), some (au_r XNames)] [] (mi, si, hi, sl, r, nx) 0 0
  refine au_aload_n dX11_of_0 rfl ?_
  refine au_getf (C := RX11) (T := TX11) (N := 3) in_X11 (show 11 < 40 by decide) rfl 0 (by decide) rfl rfl q728 rfl dX11_of_1 (v := au_r c) (congrArg au_q (hrc)) ?_
  refine au_aload_n dX11_of_4 rfl ?_
  refine hcc _ _ _ _ _ _ _ _ _ q957 dX11_of_5 (Nat.le_of_ble_eq_true rfl) (by show _ ≤ d + 4; omega) (by show _ ≤ 80 * (d + 4); omega) (Nat.le_of_ble_eq_true rfl) (Nat.le_of_ble_eq_true rfl) ?_
  show au_Go G _ _ 10 [some (au_r (p, 0, 11)), some (au_r XNames)] [au_i q] (mi, si, hi, sl, r, nx) 0 0
  refine au_if_eq (tgt := 26) dX11_of_10 (by decide) (fun c10 => ?_) (fun c10 => ?_)
  · refine au_aload_n dX11_of_26 rfl ?_
    refine au_getf (C := RX11) (T := TX11) (N := 3) in_X11 (show 11 < 40 by decide) rfl 2 (by decide) rfl rfl q730 rfl dX11_of_27 (v := au_r t) (congrArg au_q (hrt)) ?_
    refine au_aload_n dX11_of_30 rfl ?_
    refine hct _ _ _ _ _ _ _ _ _ q1017 dX11_of_31 (Nat.le_of_ble_eq_true rfl) (by show _ ≤ d + 4; omega) (by show _ ≤ 80 * (d + 4); omega) (Nat.le_of_ble_eq_true rfl) (Nat.le_of_ble_eq_true rfl) ?_
    show au_Go G _ _ 36 [some (au_r (p, 0, 11)), some (au_r XNames)] [au_l h] (mi, si, hi, sl, r, nx) 0 0
    exact au_lret dX11_of_36 rfl rfl (Nat.le_of_ble_eq_true rfl) (Nat.le_of_ble_eq_true rfl) (by first | exact au_ple (by rw [if_pos (by omega)]) rfl | exact au_ple (by rw [if_neg (by omega)]) rfl)
  · refine au_aload_n dX11_of_13 rfl ?_
    refine au_getf (C := RX11) (T := TX11) (N := 3) in_X11 (show 11 < 40 by decide) rfl 1 (by decide) rfl rfl q729 rfl dX11_of_14 (v := au_r s) (congrArg au_q (hrs)) ?_
    refine au_aload_n dX11_of_17 rfl ?_
    refine hcs _ _ _ _ _ _ _ _ _ q1017 dX11_of_18 (Nat.le_of_ble_eq_true rfl) (by show _ ≤ d + 4; omega) (by show _ ≤ 80 * (d + 4); omega) (Nat.le_of_ble_eq_true rfl) (Nat.le_of_ble_eq_true rfl) ?_
    show au_Go G _ _ 23 [some (au_r (p, 0, 11)), some (au_r XNames)] [au_l g] (mi, si, hi, sl, r, nx) 0 0
    refine au_goto (tgt := 36) dX11_of_23 (by decide) ?_
    exact au_lret dX11_of_36 rfl rfl (Nat.le_of_ble_eq_true rfl) (Nat.le_of_ble_eq_true rfl) (by first | exact au_ple (by rw [if_pos (by omega)]) rfl | exact au_ple (by rw [if_neg (by omega)]) rfl)
theorem kX12_of (G : au_G) (d p : Nat) (mi si hi sl : au_A → Int → Int) (r : au_A → Int → Option au_A) (nx : Nat) (s : au_A) (g : Int) (hrs : r (p, 0, 12) 0 = some s) (hcs : au_SC G s (d + 3) (mi, si, hi, sl, r, nx) g) (hbs : I33 g) (t : au_A) (h : Int) (hrt : r (p, 0, 12) 1 = some t) (hct : au_SC G t (d + 3) (mi, si, hi, sl, r, nx) h) (hbt : I33 h) : au_Ctr G yX12_of cX12_of 6 (some .long) (d + 4) 0 0 [au_r (p, 0, 12), au_r XNames] (mi, si, hi, sl, r, nx) (au_pure (au_l (hlvF g h.toNat)) (mi, si, hi, sl, r, nx)) := by
  refine au_of (by decide) (Nat.le_of_ble_eq_true rfl) ?_
  unfold I33 at hbt
  show au_Go G _ _ 0 [some (au_r (p, 0, 12)), some (au_r XNames), none, none, none, none] [] (mi, si, hi, sl, r, nx) 0 0
  refine au_aload_n dX12_of_0 rfl ?_
  refine au_getf (C := RX12) (T := TX12) (N := 2) in_X12 (show 12 < 40 by decide) rfl 0 (by decide) rfl rfl q748 rfl dX12_of_1 (v := au_r s) (congrArg au_q (hrs)) ?_
  refine au_aload_n dX12_of_4 rfl ?_
  refine hcs _ _ _ _ _ _ _ _ _ q949 dX12_of_5 (Nat.le_of_ble_eq_true rfl) (by show _ ≤ d + 4; omega) (by show _ ≤ 80 * (d + 4); omega) (Nat.le_of_ble_eq_true rfl) (Nat.le_of_ble_eq_true rfl) ?_
  show au_Go G _ _ 10 [some (au_r (p, 0, 12)), some (au_r XNames), none, none, none, none] [au_l g] (mi, si, hi, sl, r, nx) 0 0
  refine au_lstore_n dX12_of_10 (show 2 + 1 < 6 by decide) ?_
  show au_Go G _ _ 11 [some (au_r (p, 0, 12)), some (au_r XNames), some (au_l g), none, none, none] [] (mi, si, hi, sl, r, nx) 0 0
  refine au_aload_n dX12_of_11 rfl ?_
  refine au_getf (C := RX12) (T := TX12) (N := 2) in_X12 (show 12 < 40 by decide) rfl 1 (by decide) rfl rfl q749 rfl dX12_of_12 (v := au_r t) (congrArg au_q (hrt)) ?_
  refine au_aload_n dX12_of_15 rfl ?_
  refine hct _ _ _ _ _ _ _ _ _ q949 dX12_of_16 (Nat.le_of_ble_eq_true rfl) (by show _ ≤ d + 4; omega) (by show _ ≤ 80 * (d + 4); omega) (Nat.le_of_ble_eq_true rfl) (Nat.le_of_ble_eq_true rfl) ?_
  show au_Go G _ _ 21 [some (au_r (p, 0, 12)), some (au_r XNames), some (au_l g), none, none, none] [au_l h] (mi, si, hi, sl, r, nx) 0 0
  refine au_lstore dX12_of_21 (show 4 + 1 < 6 by decide) ?_
  show au_Go G _ _ 23 [some (au_r (p, 0, 12)), some (au_r XNames), some (au_l g), none, some (au_l h), none] [] (mi, si, hi, sl, r, nx) 0 0
  have hl : ∀ (f : Nat) (x l : Int), I33 x → l ≤ 2147483648 → hlvF x l.toNat = hlvF g h.toNat → l < (f : Int) → 0 < f → au_Go G (yX12_of.cls, cX12_of, 6, (some .long), au_rm (d + 4) 0 0, yX12_of.name) (au_QM G (au_rm (d + 4) 0 0) (au_pure (au_l (hlvF g h.toNat)) (mi, si, hi, sl, r, nx))) 23 [some (au_r (p, 0, 12)), some (au_r XNames), some (au_l x), none, some (au_l l), none] [] (mi, si, hi, sl, r, nx) 0 0 := by
    intro f
    induction f with
    | zero => intro x l hx hl0 he hf h0; exfalso; omega
    | succ f ih =>
      intro x l hx hl0 he hf h0
      have hx2 := tdiv2 x
      have hx3 : I33 (Int.tdiv x 2) := tdiv_bd hx
      have hx4 := hx3
      unfold I33 at hx hx4
      refine au_lload dX12_of_23 rfl ?_
      refine au_lconst dX12_of_25 rfl ?_
      refine au_lcmp dX12_of_26 ?_
      refine au_if_le (tgt := 51) dX12_of_27 (by decide) (fun c27 => ?_) (fun c27 => ?_)
      · have c27 := au_cmp_let c27
        refine au_lload_n dX12_of_51 rfl ?_
        exact au_lret dX12_of_52 rfl rfl (Nat.le_of_ble_eq_true rfl) (Nat.le_of_ble_eq_true rfl) (by first | exact au_ple (by rw [← he, show l.toNat = 0 by omega]; rfl) rfl | exact au_ple (by rw [← he, show x = 0 by omega, hlvF_0]) rfl)
      · have c27 := au_cmp_lef c27
        refine au_lload_n dX12_of_30 rfl ?_
        refine au_lconst dX12_of_31 rfl ?_
        refine au_lcmp dX12_of_32 ?_
        refine au_if_eq (tgt := 51) dX12_of_33 (by decide) (fun c33 => ?_) (fun c33 => ?_)
        · have c33 := au_cmp_eqt c33
          refine au_lload_n dX12_of_51 rfl ?_
          exact au_lret dX12_of_52 rfl rfl (Nat.le_of_ble_eq_true rfl) (Nat.le_of_ble_eq_true rfl) (by first | exact au_ple (by rw [← he, show l.toNat = 0 by omega]; rfl) rfl | exact au_ple (by rw [← he, show x = 0 by omega, hlvF_0]) rfl)
        · have c33 := au_cmp_eqf c33
          refine au_lload_n dX12_of_36 rfl ?_
          refine au_ldc2 q1018 rfl dX12_of_37 ?_
          show au_Go G _ _ 40 [some (au_r (p, 0, 12)), some (au_r XNames), some (au_l x), none, some (au_l l), none] [au_l 2, au_l x] (mi, si, hi, sl, r, nx) 0 0
          refine au_ldiv dX12_of_40 (by omega) (by omega) (by omega) ?_
          refine au_lstore_n dX12_of_41 (show 2 + 1 < 6 by decide) ?_
          show au_Go G _ _ 42 [some (au_r (p, 0, 12)), some (au_r XNames), some (au_l (Int.tdiv x 2)), none, some (au_l l), none] [] (mi, si, hi, sl, r, nx) 0 0
          refine au_lload dX12_of_42 rfl ?_
          refine au_lconst dX12_of_44 rfl ?_
          refine au_lsub dX12_of_45 (by omega) (by omega) ?_
          refine au_lstore dX12_of_46 (show 4 + 1 < 6 by decide) ?_
          show au_Go G _ _ 48 [some (au_r (p, 0, 12)), some (au_r XNames), some (au_l (Int.tdiv x 2)), none, some (au_l (l - 1)), none] [] (mi, si, hi, sl, r, nx) 0 0
          refine au_goto (tgt := 23) dX12_of_48 (by decide) ?_
          have e5 : hlvF (Int.tdiv x 2) (l - 1).toNat = hlvF g h.toNat := by
            rw [← he, show l.toNat = (l - 1).toNat + 1 by omega]
            simp only [hlvF]
            rw [if_neg (by omega)]
          exact ih _ _ hx3 (by omega) e5 (by omega) (by omega)
  exact hl (h.toNat + 1) g h hbs (by omega) rfl (by omega) (by omega)
theorem kX8_is (G : au_G) (d p : Nat) (mi si hi sl : au_A → Int → Int) (r : au_A → Int → Option au_A) (nx : Nat) (s : au_A) (g : Int) (hrs : r (p, 0, 8) 0 = some s) (hcs : au_AC G s (d + 3) (mi, si, hi, sl, r, nx) g) (hbs : g = 0 ∨ g = 1) : au_Ctr G yX8_is cX8_is 2 (some .boolean) (d + 4) 0 0 [au_r (p, 0, 8), au_r XNames] (mi, si, hi, sl, r, nx) (au_pure (au_i (1 - g)) (mi, si, hi, sl, r, nx)) := by
  refine au_of (by decide) (Nat.le_of_ble_eq_true rfl) ?_
  show au_Go G _ _ 0 [some (au_r (p, 0, 8)), some (au_r XNames)] [] (mi, si, hi, sl, r, nx) 0 0
  refine au_aload_n dX8_is_0 rfl ?_
  refine au_getf (C := RX8) (T := TX8) (N := 1) in_X8 (show 8 < 40 by decide) rfl 0 (by decide) rfl rfl q606 rfl dX8_is_1 (v := au_r s) (congrArg au_q (hrs)) ?_
  refine au_aload_n dX8_is_4 rfl ?_
  refine hcs _ _ _ _ _ _ _ _ _ q1015 dX8_is_5 (Nat.le_of_ble_eq_true rfl) (by show _ ≤ d + 4; omega) (by show _ ≤ 80 * (d + 4); omega) (Nat.le_of_ble_eq_true rfl) (Nat.le_of_ble_eq_true rfl) ?_
  show au_Go G _ _ 10 [some (au_r (p, 0, 8)), some (au_r XNames)] [au_i g] (mi, si, hi, sl, r, nx) 0 0
  refine au_if_ne (tgt := 17) dX8_is_10 (by decide) (fun c10 => ?_) (fun c10 => ?_)
  · refine au_iconst dX8_is_17 rfl rfl ?_
    exact au_zret dX8_is_18 rfl (Or.inl rfl) rfl (Nat.le_of_ble_eq_true rfl) (Nat.le_of_ble_eq_true rfl) (by exact au_pe (by omega) rfl)
  · refine au_iconst dX8_is_13 rfl rfl ?_
    refine au_goto (tgt := 18) dX8_is_14 (by decide) ?_
    exact au_zret dX8_is_18 rfl (Or.inr rfl) rfl (Nat.le_of_ble_eq_true rfl) (Nat.le_of_ble_eq_true rfl) (by exact au_pe (by omega) rfl)
theorem kX9_is (G : au_G) (d p : Nat) (mi si hi sl : au_A → Int → Int) (r : au_A → Int → Option au_A) (nx : Nat) (hp : 1126 ≤ p) (s : au_A) (g : Int) (hrs : r (p, 0, 9) 1 = some s) (hcs : au_SC G s (d + 3) (mi, si, hi, sl, r, nx) g) (hbs : I33 g) (t : au_A) (h : Int) (hrt : r (p, 0, 9) 2 = some t) (hct : au_SC G t (d + 3) (mi, si, hi, sl, r, nx) h) (hbt : I33 h) : au_Ctr G yX9_is cX9_is 4 (some .boolean) (d + 4) 0 0 [au_r (p, 0, 9), au_r XNames] (mi, si, hi, sl, r, nx) (au_pure (au_i (cmpF (hi (p, 0, 9) 0) (g - h))) (mi, si, hi, sl, r, nx)) := by
  refine au_of (by decide) (Nat.le_of_ble_eq_true rfl) ?_
  unfold I33 at hbs hbt
  show au_Go G _ _ 0 [some (au_r (p, 0, 9)), some (au_r XNames), none, none] [] (mi, si, hi, sl, r, nx) 0 0
  refine au_aload_n dX9_is_0 rfl ?_
  refine au_getf (C := RX9) (T := TX9) (N := 3) in_X9 (show 9 < 40 by decide) rfl 1 (by decide) rfl rfl q617 rfl dX9_is_1 (v := au_r s) (congrArg au_q (hrs)) ?_
  refine au_aload_n dX9_is_4 rfl ?_
  refine hcs _ _ _ _ _ _ _ _ _ q978 dX9_is_5 (Nat.le_of_ble_eq_true rfl) (by show _ ≤ d + 4; omega) (by show _ ≤ 80 * (d + 4); omega) (Nat.le_of_ble_eq_true rfl) (Nat.le_of_ble_eq_true rfl) ?_
  show au_Go G _ _ 10 [some (au_r (p, 0, 9)), some (au_r XNames), none, none] [au_l g] (mi, si, hi, sl, r, nx) 0 0
  refine au_aload_n dX9_is_10 rfl ?_
  refine au_getf (C := RX9) (T := TX9) (N := 3) in_X9 (show 9 < 40 by decide) rfl 2 (by decide) rfl rfl q618 rfl dX9_is_11 (v := au_r t) (congrArg au_q (hrt)) ?_
  refine au_aload_n dX9_is_14 rfl ?_
  refine hct _ _ _ _ _ _ _ _ _ q978 dX9_is_15 (Nat.le_of_ble_eq_true rfl) (by show _ ≤ d + 4; omega) (by show _ ≤ 80 * (d + 4); omega) (Nat.le_of_ble_eq_true rfl) (Nat.le_of_ble_eq_true rfl) ?_
  show au_Go G _ _ 20 [some (au_r (p, 0, 9)), some (au_r XNames), none, none] [au_l h, au_l g] (mi, si, hi, sl, r, nx) 0 0
  refine au_lsub dX9_is_20 (by omega) (by omega) ?_
  refine au_lstore_n dX9_is_21 (show 2 + 1 < 4 by decide) ?_
  show au_Go G _ _ 22 [some (au_r (p, 0, 9)), some (au_r XNames), some (au_l (g - h)), none] [] (mi, si, hi, sl, r, nx) 0 0
  refine au_aload_n dX9_is_22 rfl ?_
  refine au_getf (C := RX9) (T := TX9) (N := 3) in_X9 (show 9 < 40 by decide) rfl 0 (by decide) rfl rfl q616 rfl dX9_is_23 (v := au_i (hi (p, 0, 9) 0)) (congrArg au_i (au_gi_h (au_reg_o (by omega) (by decide) _))) ?_
  by_cases e26_0 : (hi (p, 0, 9) 0) = 35
  · refine au_lookup (off := 86) (tgt := 112) dX9_is_26 (by decide) (by show Op.lookupswitch.offset [((35 : Int), (86 : Int)), ((60 : Int), (50 : Int)), ((61 : Int), (74 : Int)), ((62 : Int), (62 : Int)), ((303 : Int), (98 : Int))] _ _ = _; simp only [Op.lookupswitch.offset_cons]; rw [if_pos e26_0.symm]) (by decide) ?_
    refine au_lload_n dX9_is_112 rfl ?_
    refine au_lconst dX9_is_113 rfl ?_
    refine au_lcmp dX9_is_114 ?_
    refine au_if_eq (tgt := 122) dX9_is_115 (by decide) (fun c115 => ?_) (fun c115 => ?_)
    · have c115 := au_cmp_eqt c115
      refine au_iconst dX9_is_122 rfl rfl ?_
      refine au_zret dX9_is_123 rfl (Or.inl rfl) rfl (Nat.le_of_ble_eq_true rfl) (Nat.le_of_ble_eq_true rfl) ?_
      refine au_pe ?_ rfl
      unfold cmpF
      generalize hsg : hi (p, 0, 9) 0 = sg at *
      repeat' split
      all_goals omega
    · have c115 := au_cmp_eqf c115
      refine au_iconst dX9_is_118 rfl rfl ?_
      refine au_goto (tgt := 123) dX9_is_119 (by decide) ?_
      refine au_zret dX9_is_123 rfl (Or.inr rfl) rfl (Nat.le_of_ble_eq_true rfl) (Nat.le_of_ble_eq_true rfl) ?_
      refine au_pe ?_ rfl
      unfold cmpF
      generalize hsg : hi (p, 0, 9) 0 = sg at *
      repeat' split
      all_goals omega
  by_cases e26_1 : (hi (p, 0, 9) 0) = 60
  · refine au_lookup (off := 50) (tgt := 76) dX9_is_26 (by decide) (by show Op.lookupswitch.offset [((35 : Int), (86 : Int)), ((60 : Int), (50 : Int)), ((61 : Int), (74 : Int)), ((62 : Int), (62 : Int)), ((303 : Int), (98 : Int))] _ _ = _; simp only [Op.lookupswitch.offset_cons]; rw [if_neg (fun z => e26_0 z.symm), if_pos e26_1.symm]) (by decide) ?_
    refine au_lload_n dX9_is_76 rfl ?_
    refine au_lconst dX9_is_77 rfl ?_
    refine au_lcmp dX9_is_78 ?_
    refine au_if_ge (tgt := 86) dX9_is_79 (by decide) (fun c79 => ?_) (fun c79 => ?_)
    · have c79 := au_cmp_get c79
      refine au_iconst dX9_is_86 rfl rfl ?_
      refine au_zret dX9_is_87 rfl (Or.inl rfl) rfl (Nat.le_of_ble_eq_true rfl) (Nat.le_of_ble_eq_true rfl) ?_
      refine au_pe ?_ rfl
      unfold cmpF
      generalize hsg : hi (p, 0, 9) 0 = sg at *
      repeat' split
      all_goals omega
    · have c79 := au_cmp_gef c79
      refine au_iconst dX9_is_82 rfl rfl ?_
      refine au_goto (tgt := 87) dX9_is_83 (by decide) ?_
      refine au_zret dX9_is_87 rfl (Or.inr rfl) rfl (Nat.le_of_ble_eq_true rfl) (Nat.le_of_ble_eq_true rfl) ?_
      refine au_pe ?_ rfl
      unfold cmpF
      generalize hsg : hi (p, 0, 9) 0 = sg at *
      repeat' split
      all_goals omega
  by_cases e26_2 : (hi (p, 0, 9) 0) = 61
  · refine au_lookup (off := 74) (tgt := 100) dX9_is_26 (by decide) (by show Op.lookupswitch.offset [((35 : Int), (86 : Int)), ((60 : Int), (50 : Int)), ((61 : Int), (74 : Int)), ((62 : Int), (62 : Int)), ((303 : Int), (98 : Int))] _ _ = _; simp only [Op.lookupswitch.offset_cons]; rw [if_neg (fun z => e26_0 z.symm), if_neg (fun z => e26_1 z.symm), if_pos e26_2.symm]) (by decide) ?_
    refine au_lload_n dX9_is_100 rfl ?_
    refine au_lconst dX9_is_101 rfl ?_
    refine au_lcmp dX9_is_102 ?_
    refine au_if_ne (tgt := 110) dX9_is_103 (by decide) (fun c103 => ?_) (fun c103 => ?_)
    · have c103 := au_cmp_net c103
      refine au_iconst dX9_is_110 rfl rfl ?_
      refine au_zret dX9_is_111 rfl (Or.inl rfl) rfl (Nat.le_of_ble_eq_true rfl) (Nat.le_of_ble_eq_true rfl) ?_
      refine au_pe ?_ rfl
      unfold cmpF
      generalize hsg : hi (p, 0, 9) 0 = sg at *
      repeat' split
      all_goals omega
    · have c103 := au_cmp_nef c103
      refine au_iconst dX9_is_106 rfl rfl ?_
      refine au_goto (tgt := 111) dX9_is_107 (by decide) ?_
      refine au_zret dX9_is_111 rfl (Or.inr rfl) rfl (Nat.le_of_ble_eq_true rfl) (Nat.le_of_ble_eq_true rfl) ?_
      refine au_pe ?_ rfl
      unfold cmpF
      generalize hsg : hi (p, 0, 9) 0 = sg at *
      repeat' split
      all_goals omega
  by_cases e26_3 : (hi (p, 0, 9) 0) = 62
  · refine au_lookup (off := 62) (tgt := 88) dX9_is_26 (by decide) (by show Op.lookupswitch.offset [((35 : Int), (86 : Int)), ((60 : Int), (50 : Int)), ((61 : Int), (74 : Int)), ((62 : Int), (62 : Int)), ((303 : Int), (98 : Int))] _ _ = _; simp only [Op.lookupswitch.offset_cons]; rw [if_neg (fun z => e26_0 z.symm), if_neg (fun z => e26_1 z.symm), if_neg (fun z => e26_2 z.symm), if_pos e26_3.symm]) (by decide) ?_
    refine au_lload_n dX9_is_88 rfl ?_
    refine au_lconst dX9_is_89 rfl ?_
    refine au_lcmp dX9_is_90 ?_
    refine au_if_le (tgt := 98) dX9_is_91 (by decide) (fun c91 => ?_) (fun c91 => ?_)
    · have c91 := au_cmp_let c91
      refine au_iconst dX9_is_98 rfl rfl ?_
      refine au_zret dX9_is_99 rfl (Or.inl rfl) rfl (Nat.le_of_ble_eq_true rfl) (Nat.le_of_ble_eq_true rfl) ?_
      refine au_pe ?_ rfl
      unfold cmpF
      generalize hsg : hi (p, 0, 9) 0 = sg at *
      repeat' split
      all_goals omega
    · have c91 := au_cmp_lef c91
      refine au_iconst dX9_is_94 rfl rfl ?_
      refine au_goto (tgt := 99) dX9_is_95 (by decide) ?_
      refine au_zret dX9_is_99 rfl (Or.inr rfl) rfl (Nat.le_of_ble_eq_true rfl) (Nat.le_of_ble_eq_true rfl) ?_
      refine au_pe ?_ rfl
      unfold cmpF
      generalize hsg : hi (p, 0, 9) 0 = sg at *
      repeat' split
      all_goals omega
  by_cases e26_4 : (hi (p, 0, 9) 0) = 303
  · refine au_lookup (off := 98) (tgt := 124) dX9_is_26 (by decide) (by show Op.lookupswitch.offset [((35 : Int), (86 : Int)), ((60 : Int), (50 : Int)), ((61 : Int), (74 : Int)), ((62 : Int), (62 : Int)), ((303 : Int), (98 : Int))] _ _ = _; simp only [Op.lookupswitch.offset_cons]; rw [if_neg (fun z => e26_0 z.symm), if_neg (fun z => e26_1 z.symm), if_neg (fun z => e26_2 z.symm), if_neg (fun z => e26_3 z.symm), if_pos e26_4.symm]) (by decide) ?_
    refine au_lload_n dX9_is_124 rfl ?_
    refine au_lconst dX9_is_125 rfl ?_
    refine au_lcmp dX9_is_126 ?_
    refine au_if_gt (tgt := 134) dX9_is_127 (by decide) (fun c127 => ?_) (fun c127 => ?_)
    · have c127 := au_cmp_gtt c127
      refine au_iconst dX9_is_134 rfl rfl ?_
      refine au_zret dX9_is_135 rfl (Or.inl rfl) rfl (Nat.le_of_ble_eq_true rfl) (Nat.le_of_ble_eq_true rfl) ?_
      refine au_pe ?_ rfl
      unfold cmpF
      generalize hsg : hi (p, 0, 9) 0 = sg at *
      repeat' split
      all_goals omega
    · have c127 := au_cmp_gtf c127
      refine au_iconst dX9_is_130 rfl rfl ?_
      refine au_goto (tgt := 135) dX9_is_131 (by decide) ?_
      refine au_zret dX9_is_135 rfl (Or.inr rfl) rfl (Nat.le_of_ble_eq_true rfl) (Nat.le_of_ble_eq_true rfl) ?_
      refine au_pe ?_ rfl
      unfold cmpF
      generalize hsg : hi (p, 0, 9) 0 = sg at *
      repeat' split
      all_goals omega
  refine au_lookup (off := 110) (tgt := 136) dX9_is_26 (by decide) (by show Op.lookupswitch.offset [((35 : Int), (86 : Int)), ((60 : Int), (50 : Int)), ((61 : Int), (74 : Int)), ((62 : Int), (62 : Int)), ((303 : Int), (98 : Int))] _ _ = _; simp only [Op.lookupswitch.offset_cons]; rw [if_neg (fun z => e26_0 z.symm), if_neg (fun z => e26_1 z.symm), if_neg (fun z => e26_2 z.symm), if_neg (fun z => e26_3 z.symm), if_neg (fun z => e26_4 z.symm)]; rfl) (by decide) ?_
  refine au_lload_n dX9_is_136 rfl ?_
  refine au_lconst dX9_is_137 rfl ?_
  refine au_lcmp dX9_is_138 ?_
  refine au_if_lt (tgt := 146) dX9_is_139 (by decide) (fun c139 => ?_) (fun c139 => ?_)
  · have c139 := au_cmp_ltt c139
    refine au_iconst dX9_is_146 rfl rfl ?_
    refine au_zret dX9_is_147 rfl (Or.inl rfl) rfl (Nat.le_of_ble_eq_true rfl) (Nat.le_of_ble_eq_true rfl) ?_
    refine au_pe ?_ rfl
    unfold cmpF
    generalize hsg : hi (p, 0, 9) 0 = sg at *
    repeat' split
    all_goals omega
  · have c139 := au_cmp_ltf c139
    refine au_iconst dX9_is_142 rfl rfl ?_
    refine au_goto (tgt := 147) dX9_is_143 (by decide) ?_
    refine au_zret dX9_is_147 rfl (Or.inr rfl) rfl (Nat.le_of_ble_eq_true rfl) (Nat.le_of_ble_eq_true rfl) ?_
    refine au_pe ?_ rfl
    unfold cmpF
    generalize hsg : hi (p, 0, 9) 0 = sg at *
    repeat' split
    all_goals omega
