/-! A Wrong IS MADE by wrong(fault) -/
set_option maxRecDepth 100000
set_option maxHeartbeats 4000000
/-- what a thrown Wrong says -/
def WrAt (f pl : Int) (mi si hi sl : au_A → Int → Int) (r : au_A → Int → Option au_A) (nx : Nat) (w : au_A) (M' : au_M) : Prop :=
  ∃ (x : Nat) (hi' : au_A → Int → Int) (r' : au_A → Int → Option au_A), w = (x, 0, 5) ∧ nx ≤ x ∧ M' = (mi, si, hi', sl, r', x + 1) ∧ hi' w 6 = f ∧ hi' w 7 = pl
theorem au_v_zh {mi si hi sl : au_A → Int → Int} {r : au_A → Int → Option au_A} {nx nx' : Nat} {a b : au_A} (h : b ≠ a) (q : Nat) (i : Int) : au_val q (mi, si, au_zr hi a 0, sl, (fun c j => if c = a then none else r c j), nx') b i = au_val q (mi, si, hi, sl, r, nx) b i := by
  unfold au_val
  match q with
  | 0 =>
    refine congrArg au_i ?_
    unfold au_gi
    match au_reg b i with
    | 0 => rfl
    | 1 => rfl
    | n + 2 => exact au_zr_ne hi 0 h
  | 1 => rfl
  | n + 2 => exact congrArg au_q (if_neg h)
theorem kX3_wrong (G : au_G) (t : Nat) (f : Int) (mi si hi sl : au_A → Int → Int) (r : au_A → Int → Option au_A) (nx : Nat) (ht : 1126 ≤ t) (hnx : 1126 ≤ nx) (hl : G.1.stackTraces = false) :
    au_Ctr G yX3_wrong cX3_wrong 2 (some (.object "ApologyUp$Wrong")) 7 1 8 [au_r (t, 0, 3), au_i f] (mi, si, hi, sl, r, nx) (fun rv M' => rv = some (au_r (nx, 0, 5)) ∧ ∃ (hi' : au_A → Int → Int) (r' : au_A → Int → Option au_A), M' = (mi, si, hi', sl, r', nx + 1) ∧ (∀ b, b ≠ (nx, 0, 5) → hi' b = hi b ∧ r' b = r b) ∧ hi' (nx, 0, 5) 6 = f ∧ hi' (nx, 0, 5) 7 = hi (t, 0, 3) 3) := by
  refine au_of (by decide) (Nat.le_of_ble_eq_true rfl) ?_
  intro p e s m args below meth c ad0 ad Lv0 Lv H ls cst locs X hm hP hLn hL hS hV hE
  cases au_S_nil hS
  have hU := X.2.2.2.2.2.2.2
  have hts := X.2.2.2.2.2.2.1
  have hKn := hU.1.1 5 _ rfl
  have hown : s.vm.findClass "ApologyUp$Tokens" = some m.cls := X.2.2.2.2.2.1
  refine W.newcK X.1 X.2.1 hown (hts _ q483) (hts _ q484) (hts _ q147) rfl dX3_wrong_0 (Nat.le_of_ble_eq_true rfl) (Nat.le_of_ble_eq_true rfl) hKn.2.1 rfl fun H1 kC hkC e1 z1 o1 => ?_
  have hbH : G.2.2.2.2 ≤ H.size := Nat.le_trans hU.2.2.1 hV.1
  obtain ⟨ad', Lv', x1, x2, x3, x4⟩ := hP.add (M' := (mi, si, au_zr hi (nx, 0, 5) 0, sl, (fun c j => if c = (nx, 0, 5) then none else r c j), nx + 1)) (H1 := H1) (a0 := (nx, 0, 5)) rfl (by show 1000 ≤ nx; omega) hbH z1 o1 rfl (fun b hb q i => au_v_zh hb q i) (fun ad' Lv' ea => by
    refine ⟨fun _ => ⟨(List.range 8).map (fun k => defaultValue (tyX5 k)), ?_, by simp [au_N], fun j hj => ?_⟩, fun q => absurd q (show ¬ 40 ≤ 5 by decide)⟩
    · rw [ea]
      refine ⟨_, rfl, (u_born tyX5 hts in_X5 hKn hkC e1 tyX5_ok).to fun j hj => ?_⟩
      unfold vp_V
      rw [List.getD_eq_getElem?_getD]
      simp [hj]
    · have hj : j < 8 := hj
      refine ⟨defaultValue (tyX5 j), by simp [hj], ?_⟩
      have hz : au_gi (mi, si, au_zr hi (nx, 0, 5) 0, sl, (fun c j => if c = (nx, 0, 5) then none else r c j), nx + 1) (nx, 0, 5) (j : Int) = 0 := by
        rw [au_gi_h (au_reg_o hnx rfl _)]
        exact au_zr_self _ _ _ _
      rcases (show j = 0 ∨ j = 1 ∨ j = 2 ∨ j = 3 ∨ j = 4 ∨ j = 5 ∨ j = 6 ∨ j = 7 by omega) with e | e | e | e | e | e | e | e <;> subst e
      · show au_rel ad' Lv' (au_q (if ((nx, 0, 5) : au_A) = (nx, 0, 5) then none else _)) .null
        rw [if_pos rfl]; rfl
      · show au_rel ad' Lv' (au_q (if ((nx, 0, 5) : au_A) = (nx, 0, 5) then none else _)) .null
        rw [if_pos rfl]; rfl
      · show au_rel ad' Lv' (au_q (if ((nx, 0, 5) : au_A) = (nx, 0, 5) then none else _)) .null
        rw [if_pos rfl]; rfl
      · show au_rel ad' Lv' (au_q (if ((nx, 0, 5) : au_A) = (nx, 0, 5) then none else _)) .null
        rw [if_pos rfl]; rfl
      · show au_rel ad' Lv' (au_q (if ((nx, 0, 5) : au_A) = (nx, 0, 5) then none else _)) .null
        rw [if_pos rfl]; rfl
      · exact ⟨0, rfl, hz.symm⟩
      · exact ⟨0, rfl, hz.symm⟩
      · exact ⟨0, rfl, hz.symm⟩)
  obtain ⟨c1, h1, ⟨rfl, l1⟩⟩ := hL.at (i := 0) (show au_get (au_L0 2 [au_r (t, 0, 3), au_i f]) 0 = some (au_r (t, 0, 3)) from rfl)
  obtain ⟨c2, h2, ⟨i2, rfl, l2⟩⟩ := hL.at (i := 1) (show au_get (au_L0 2 [au_r (t, 0, 3), au_i f]) 1 = some (au_i f) from rfl)
  refine lv_dup X.1 X.2.1 dX3_wrong_3 rfl ?_
  refine lv_iload_n X.1 X.2.1 dX3_wrong_4 rfl h2 ?_
  refine lv_aload_n X.1 X.2.1 dX3_wrong_5 rfl h1 ?_
  have l3 := (x1 _ l1).1
  obtain ⟨fs, p1, p2, p3⟩ := (x2.1 _ l3).1 (show 3 < 40 by decide)
  obtain ⟨cv, v1, v2⟩ := p3 3 (show 3 < 8 by decide)
  rw [(x1 _ l1).2] at p1
  obtain ⟨i3, rfl, v3⟩ : ∃ i3 : Int32, cv = .int i3 ∧ i3.toInt = hi (t, 0, 3) 3 := by
    obtain ⟨i3, w1, w2⟩ := v2
    refine ⟨i3, w1, w2.trans ?_⟩
    show au_gi _ (t, 0, 3) (((3 : Nat) : Int)) = _
    rw [au_gi_h (au_reg_o ht rfl _)]
    exact au_zr_ne hi 0 (fun z => absurd (congrArg (fun q : au_A => q.2.2) z) (by show ¬ (3 : Nat) = 5; decide))
  refine va_get (D := G.2.1) (cl := au_cl) (tys := au_tys G) (ws := [(ad (t, 0, 3), .inr (3, fs))]) (ci := 3) (v := .int i3) (C := RX3) (T := TX3) (N := 8) X.1 X.2.1 hts in_X3 hown hU.1 ?_ 0 rfl rfl 3 (by decide) (hts _ q336) (fun x h9 => h9) v1 dX3_wrong_6 ?_
  · intro j q hj
    match j, hj with
    | 0, hj => cases hj; exact p1
    | j + 1, hj => simp at hj
  have hV1 : va_S (au_new G) s.heap H1 locs := ⟨by rw [z1]; have := hV.1; omega, fun q h1 h2 => (o1 q (Nat.lt_of_lt_of_le h1 hV.1)).trans (hV.2.1 q h1 h2), hV.2.2⟩
  have hM := kX5_init G nx f (hi (t, 0, 3) 3) mi si (au_zr hi (nx, 0, 5) 0) sl (fun c j => if c = (nx, 0, 5) then none else r c j) (nx + 1) hnx hl ad' Lv' [.ref H.size, .int i2, .int i3] ⟨⟨by rw [x4], x3⟩, ⟨i2, rfl, l2⟩, ⟨i3, rfl, v3⟩, trivial⟩
  refine au_after (va_runI (own := "ApologyUp$Tokens") (cc := cX3_wrong) (nL := 2) (n := 2) (index := 67) (b := H.size) (As := [.int i2, .int i3]) (rest := [.ref H.size]) ⟨X.1, X.2.1, X.2.2.1, hown, hts⟩ hM (cwI 2 hts (lw_meth q522) rfl rfl rfl (hts _ q147) (hts _ q520) (hts _ q521) rfl ⟨by decide, by decide, by decide +kernel⟩ ⟨Nat.le_of_ble_eq_true rfl, Nat.le_of_ble_eq_true rfl⟩) ⟨fun a U g mk q => ⟨au_blind _ _ _ _ _ a U g mk q.1, q.2⟩, fun U hU' hW => ⟨au_pre hU x2 hV1 hU' hW, ?_⟩⟩ rfl rfl ?_ rfl (Nat.le_of_ble_eq_true rfl) dX3_wrong_9 ⟨Nat.le_of_ble_eq_true rfl, Nat.le_of_ble_eq_true rfl⟩) hV1 ?_
  · obtain ⟨k', hk', he⟩ := hW.alike.2.2 _ _ hkC
    refine ⟨k', hk', ?_⟩
    rw [hU', x4, e1, he]
    rfl
  · obtain ⟨lv, q1, -⟩ := hL
    show ls.size = 2
    rw [q1.1]; rfl
  · intro rv M' ad2 Lv2 H2 locs2 cv q1 q2 q3 q4 q5
    obtain ⟨rfl, hi', r', rfl, b1, b2, b3⟩ := q2
    match cv, q1 with
    | none, _ =>
      refine (au_aret (K := (yX3_wrong.cls, cX3_wrong, 2, some (.object "ApologyUp$Wrong"), au_rm 7 1 8, yX3_wrong.name)) (a := (nx, 0, 5)) dX3_wrong_12 rfl (Or.inl ⟨_, rfl⟩) rfl (Nat.le_refl _) (Nat.le_refl _) ⟨rfl, hi', r', rfl, fun b hb => ⟨((b1 b hb).1).trans (funext fun j => au_zr_ne hi 0 hb), ((b1 b hb).2).trans (funext fun j => if_neg hb)⟩, b2, b3⟩) p e s m args below meth c ad0 ad2 Lv0 Lv2 H2 ls [.ref H.size] locs2 X hm q4 hLn (hL.ext (x1.tr q3)) ⟨⟨?_, (q3 _ x3).1⟩, trivial⟩ q5 (hE.tr (x1.tr q3))
      rw [(q3 _ x3).2, x4]
