/-! THE MODEL: steps written (printed by tools/m94.py) -/
set_option maxRecDepth 100000
set_option maxHeartbeats 4000000
theorem kX2_emit (G : au_G) (o v : Int) (mi si hi sl : au_A → Int → Int) (r : au_A → Int → Option au_A) (nx : Nat) (hF : Fix r) (h0 : 0 ≤ si MO 12 ∧ si MO 12 ≤ 2115) (h1 : 0 ≤ si MO 13 ∧ si MO 13 ≤ 303) : au_Ctr G yX2_emit cX2_emit 3 none 0 0 0 [au_r MO, au_i o, au_i v] (mi, si, hi, sl, r, nx) (fun rv M' => rv = none ∧ M' = (au_up (au_up mi MT (si MO 12 + 97 + 2 * si MO 13) o) MT (si MO 12 + 97 + 2 * si MO 13 + 1) v, au_up si MO 13 (si MO 13 + 1), hi, sl, r, nx)) := by
  refine au_of (by decide) (Nat.le_of_ble_eq_true rfl) ?_
  show au_Go G _ _ 0 [some (au_r MO), some (au_i o), some (au_i v)] [] (mi, si, hi, sl, r, nx) 0 0
  refine au_aload_n dX2_emit_0 rfl ?_
  refine au_getf (C := RX2) (T := TX2) (N := 35) in_X2 (by decide) rfl 2 (by decide) rfl rfl q1361 rfl dX2_emit_1 (v := au_r MT) (congrArg au_q (fx_MO_2 hF)) ?_
  refine au_aload_n dX2_emit_4 rfl ?_
  refine au_getf (C := RX2) (T := TX2) (N := 35) in_X2 (by decide) rfl 12 (by decide) rfl rfl q1371 rfl dX2_emit_5 (v := au_i (si MO 12)) (by rfl) ?_
  refine au_bipush dX2_emit_8 rfl rfl ?_
  refine au_iadd dX2_emit_10 (by omega) (by omega) ?_
  refine au_iconst dX2_emit_11 rfl rfl ?_
  refine au_aload_n dX2_emit_12 rfl ?_
  refine au_getf (C := RX2) (T := TX2) (N := 35) in_X2 (by decide) rfl 13 (by decide) rfl rfl q1372 rfl dX2_emit_13 (v := au_i (si MO 13)) (by rfl) ?_
  refine au_imul dX2_emit_16 (by omega) (by omega) ?_
  refine au_iadd dX2_emit_17 (by omega) (by omega) ?_
  refine au_iload_n dX2_emit_18 rfl ?_
  refine au_iast dX2_emit_19 rfl (by decide) (by omega) (by show _ < ((2820 : Nat) : Int); omega) (M' := ((au_up mi MT (((si MO 12) + 97) + (2 * (si MO 13))) o), si, hi, sl, r, nx)) (by rfl) ?_
  refine au_aload_n dX2_emit_20 rfl ?_
  refine au_getf (C := RX2) (T := TX2) (N := 35) in_X2 (by decide) rfl 2 (by decide) rfl rfl q1361 rfl dX2_emit_21 (v := au_r MT) (congrArg au_q (fx_MO_2 hF)) ?_
  refine au_aload_n dX2_emit_24 rfl ?_
  refine au_getf (C := RX2) (T := TX2) (N := 35) in_X2 (by decide) rfl 12 (by decide) rfl rfl q1371 rfl dX2_emit_25 (v := au_i (si MO 12)) (by rfl) ?_
  refine au_bipush dX2_emit_28 rfl rfl ?_
  refine au_iadd dX2_emit_30 (by omega) (by omega) ?_
  refine au_iconst dX2_emit_31 rfl rfl ?_
  refine au_aload_n dX2_emit_32 rfl ?_
  refine au_getf (C := RX2) (T := TX2) (N := 35) in_X2 (by decide) rfl 13 (by decide) rfl rfl q1372 rfl dX2_emit_33 (v := au_i (si MO 13)) (by rfl) ?_
  refine au_imul dX2_emit_36 (by omega) (by omega) ?_
  refine au_iadd dX2_emit_37 (by omega) (by omega) ?_
  refine au_iconst dX2_emit_38 rfl rfl ?_
  refine au_iadd dX2_emit_39 (by omega) (by omega) ?_
  refine au_iload_n dX2_emit_40 rfl ?_
  refine au_iast dX2_emit_41 rfl (by decide) (by omega) (by show _ < ((2820 : Nat) : Int); omega) (M' := ((au_up (au_up mi MT (((si MO 12) + 97) + (2 * (si MO 13))) o) MT ((((si MO 12) + 97) + (2 * (si MO 13))) + 1) v), si, hi, sl, r, nx)) (by rfl) ?_
  refine au_aload_n dX2_emit_42 rfl ?_
  refine au_dup dX2_emit_43 rfl ?_
  refine au_getf (C := RX2) (T := TX2) (N := 35) in_X2 (by decide) rfl 13 (by decide) rfl rfl q1372 rfl dX2_emit_44 (v := au_i (si MO 13)) (by rfl) ?_
  refine au_iconst dX2_emit_47 rfl rfl ?_
  refine au_iadd dX2_emit_48 (by omega) (by omega) ?_
  refine au_putf (a := MO) (C := RX2) (T := TX2) (N := 35) in_X2 tyX2_ok nmX2 (by decide) rfl 13 (by decide) rfl (by decide) rfl q1372 rfl rfl trivial (fun _ _ _ h => au_nf_i h) dX2_emit_49 (M' := ((au_up (au_up mi MT (((si MO 12) + 97) + (2 * (si MO 13))) o) MT ((((si MO 12) + 97) + (2 * (si MO 13))) + 1) v), (au_up si MO 13 ((si MO 13) + 1)), hi, sl, r, nx)) (by rfl) ?_
  exact au_vret dX2_emit_52 rfl rfl (Nat.le_of_ble_eq_true rfl) (Nat.le_of_ble_eq_true rfl) (⟨rfl, rfl⟩)
