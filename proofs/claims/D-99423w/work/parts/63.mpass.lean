/-! THE MODEL: a day (printed by tools/m63.py) -/
set_option maxRecDepth 100000
set_option maxHeartbeats 4000000

/-- how many are done with: the model's count -/
def DnT (v0 v1 d : Int) : Prop := 0 ≤ v0 → v0 ≤ 100000 → v1 = v0 + d
/-- which were pardoned: the model's bits -/
def PdT (R Rj : Int → Int) (v0 v1 : Int) : Prop := ∀ p : Nat, p < 1024 → v0 = (p : Int) → ∃ p' : Nat, p' < 1024 ∧ v1 = (p' : Int) ∧ ∀ a : Nat, a < 10 → (p'.testBit a = true ↔ p.testBit a = true ∨ (R (3 + 7 * (a : Int) + 4) = 0 ∧ Rj (3 + 7 * (a : Int) + 4) = 1))
theorem DnT.rf (v : Int) : DnT v v 0 := fun _ _ => by omega
theorem DnT.add {v0 v1 d : Int} (h : DnT v0 v1 d) (d0 : 0 ≤ d) (d1 : d ≤ 1000) : DnT v0 (au_w (v1 + 1)) (d + 1) := fun a b => by
  rw [h a b, au_w_id (by omega) (by omega)]; omega
theorem PdT.rf {R Rj : Int → Int} (h : ∀ a : Int, 0 ≤ a → a < 10 → Rj (3 + 7 * a + 4) = R (3 + 7 * a + 4)) (v : Int) : PdT R Rj v v := fun p hp e => ⟨p, hp, e, fun a ha => ⟨Or.inl, fun q => q.elim id (fun z => by
  have h1 := h (a : Int) (by omega) (by omega)
  omega)⟩⟩
theorem PdT.same {R Rj R' : Int → Int} {v0 v1 : Int} (h : PdT R Rj v0 v1) (e : ∀ a : Int, 0 ≤ a → a < 10 → (R (3 + 7 * a + 4) = 0 ∧ R' (3 + 7 * a + 4) = 1 ↔ R (3 + 7 * a + 4) = 0 ∧ Rj (3 + 7 * a + 4) = 1)) : PdT R R' v0 v1 := fun p hp q => by
  obtain ⟨p', h1, h2, h3⟩ := h p hp q
  exact ⟨p', h1, h2, fun a ha => by rw [h3 a ha, e (a : Int) (by omega) (by omega)]⟩
theorem PdT.or {R Rj R' : Int → Int} {v0 v1 : Int} (h : PdT R Rj v0 v1) {k : Nat} (hk : k < 10) (e : ∀ a : Int, 0 ≤ a → a < 10 → a ≠ (k : Int) → R' (3 + 7 * a + 4) = Rj (3 + 7 * a + 4)) (e0 : R (3 + 7 * (k : Int) + 4) = 0) (e1 : R' (3 + 7 * (k : Int) + 4) = 1) : PdT R R' v0 (au_or v1 (au_shl 1 (k : Int))) := fun p hp q => by
  obtain ⟨p', h1, h2, h3⟩ := h p hp q
  obtain ⟨b1, b2, b3⟩ := bit_step h1 hk
  refine ⟨p' ||| 2 ^ k, b2, by rw [h2]; exact b1, fun a ha => ?_⟩
  rw [b3 a, h3 a ha]
  by_cases z : a = k
  · subst z
    exact ⟨fun _ => Or.inr ⟨e0, e1⟩, fun _ => Or.inr rfl⟩
  · rw [e (a : Int) (by omega) (by omega) (by omega)]
    exact ⟨fun q => q.elim id (fun w => absurd w z), Or.inl⟩
section ACU
variable {n : Int} {B Pr : Int → Int} {Lw : au_Lw}
/-- who hasn't acted yet is as it was -/
theorem actN_how (hB : Bs B n) {s : au_D} (h : RowOK s.1 n B) : ∀ k : Nat, (k : Int) ≤ s.1 2 → ∀ a : Int, (k : Int) ≤ a → a < 10 → (actN n B Pr Lw k s).1 (3 + 7 * a + 4) = s.1 (3 + 7 * a + 4) := by
  intro k
  induction k with
  | zero => intro _ a _ _; rfl
  | succ k ih =>
    intro hk a a0 a1
    have j := actN_kp (Pr := Pr) (Lw := Lw) hB h k (by omega)
    have o := act1_ok (Pr := Pr) (Lw := Lw) hB j.1 (a := (k : Int)) (by omega) (by rw [j.2.1]; omega)
    exact (o.2.1.ap (by omega) a1 (by omega) 4 (by decide) (by decide)).trans (ih (by omega) a (by omega) a1)
end ACU

theorem kX2_pass (G : au_G) (wr n : Int) (B Pr : Int → Int) (Lw : au_Lw) (R : Int → Int) (A : Int → Int) (mi si hi sl : au_A → Int → Int) (r : au_A → Int → Option au_A) (nx : Nat) (hF : Fix r) (hW : mi MO 23 = wr) (hwr : wr = 0 ∨ wr = 1) (hE : EnA (mi MT) A n B Pr Lw) (hM : MRel wr A R) (hR : RowOK R n B) (h0 : R 0 < 9999) : au_Ctr G yX2_pass cX2_pass 3 none 6 0 0 [au_r MO] (rowS mi MA A, si, hi, sl, r, nx) (fun rv M' => rv = none ∧ ∃ (A' : Int → Int) (sj slj : au_A → Int → Int), M' = (rowS mi MA A', sj, hi, slj, r, nx) ∧ MRel wr A' (pasF n B Pr Lw R).1 ∧ FrW wr A A' ∧ DnT (si MO 24) (sj MO 24) (pasF n B Pr Lw R).2.1 ∧ PdT R (pasF n B Pr Lw R).1 (si MO 25) (sj MO 25) ∧ sj MAside = si MAside) := by
  refine au_of (by decide) (Nat.le_of_ble_eq_true rfl) ?_
  have hB := hE.2.2.1
  have hb1 := hB.1
  have hb0 := hB.2.1
  obtain ⟨r2, r2b⟩ := hR.1.2.2.1
  obtain ⟨r0, r0b⟩ := hR.1.1
  have hA1 := actN_kp (Pr := Pr) (Lw := Lw) hB (s := (R, 0, 0)) hR (R 2).toNat (by show _ ≤ R 2; omega)
  have hA2 : (actN n B Pr Lw (R 2).toNat (R, 0, 0)).1 2 = R 2 := hA1.2.1
  have hm1 : (((R 2).toNat : Nat) : Int) = (actN n B Pr Lw (R 2).toNat (R, 0, 0)).1 2 := by rw [hA2]; omega
  have hO : ∀ (f : Nat) (k : Nat) (Rk : Int → Int) (dk : Int) (wk : Nat) (x2 : Option au_V) (Ak : Int → Int) (sk_ lk : au_A → Int → Int), (k : Int) ≤ R 2 → mrgN (R 2).toNat k (actN n B Pr Lw (R 2).toNat (R, 0, 0)) = (Rk, dk, wk) → MRel wr Ak Rk → FrW wr A Ak → DnT (si MO 24) (sk_ MO 24) dk → PdT R Rk (si MO 25) (sk_ MO 25) → sk_ MAside = si MAside → 10 - k < f → au_Go G (yX2_pass.cls, cX2_pass, 3, none, au_rm 6 0 0, yX2_pass.name) (au_QM G (au_rm 6 0 0) (fun rv M' => rv = none ∧ ∃ (A' : Int → Int) (sj slj : au_A → Int → Int), M' = (rowS mi MA A', sj, hi, slj, r, nx) ∧ MRel wr A' (pasF n B Pr Lw R).1 ∧ FrW wr A A' ∧ DnT (si MO 24) (sj MO 24) (pasF n B Pr Lw R).2.1 ∧ PdT R (pasF n B Pr Lw R).1 (si MO 25) (sj MO 25) ∧ sj MAside = si MAside)) 97 [some (au_r MO), some (au_i (k : Int)), x2] [] (rowS mi MA Ak, sk_, hi, lk, r, nx) 0 0 := by
    intro f
    induction f with
    | zero => intro k Rk dk wk x2 Ak sk_ lk hk hs hMk hFk hDk hPk hSk hf; exfalso; omega
    | succ f ih =>
      intro k Rk dk wk x2 Ak sk_ lk hk hs hMk hFk hDk hPk hSk hf
      have hkp := mrgN_kp (n := n) (B := B) hA1.1 hm1 k (by omega)
      rw [hs] at hkp
      have okK : RowOK Rk n B := hkp.1
      have eK : Rk 2 = R 2 := hkp.2.1.trans hA2
      have eK0 : Rk 0 = R 0 := hkp.2.2.1.trans hA1.2.2.1
      have hu2 := mrgN_und (n := n) (B := B) hA1.1 hm1 k (by omega)
      rw [hs] at hu2
      have hu2 : wk + undN Rk 10 ≤ (actN n B Pr Lw (R 2).toNat (R, 0, 0)).2.2 + undN (actN n B Pr Lw (R 2).toNat (R, 0, 0)).1 10 := hu2
      have hu3 := (actN_und (Pr := Pr) (Lw := Lw) hB (s := (R, 0, 0)) hR (R 2).toNat (by show _ ≤ R 2; omega)).1
      have hu3 : (actN n B Pr Lw (R 2).toNat (R, 0, 0)).2.2 ≤ 0 + (R 2).toNat := hu3
      have hu4 := undN_bd (actN n B Pr Lw (R 2).toNat (R, 0, 0)).1 10
      refine au_iload_n dX2_pass_97 rfl ?_
      refine au_aload_n dX2_pass_98 rfl ?_
      refine au_getf (C := RX2) (T := TX2) (N := 35) in_X2 (by decide) rfl 0 (by decide) rfl rfl q1359 rfl dX2_pass_99 (v := au_r MA) (congrArg au_q (fx_MO_0 hF)) ?_
      refine au_bipush dX2_pass_102 rfl rfl ?_
      refine au_iald dX2_pass_104 rfl (by omega) (by show _ < ((4544 : Nat) : Int); omega) (v := au_i (Rk 2)) (congrArg au_i (((au_gi_m (au_reg_MA _)).trans (show rowS mi MA Ak MA 8 = Ak 8 from (rowS_self _ _ _ _).trans (rfl))).trans (hMk.1.2.2.1))) ?_
      refine au_icmp_ge (tgt := 189) dX2_pass_105 (by decide) (fun c105 => ?_) (fun c105 => ?_)
      · have hkm : k = (R 2).toNat := by omega
        subst hkm
        have e1 : (pasF n B Pr Lw R) = (up1 Rk 0 (Rk 0 + 1), dk, wk) := by
          unfold pasF
          simp only [hs]
        refine au_aload_n dX2_pass_189 rfl ?_
        refine au_getf (C := RX2) (T := TX2) (N := 35) in_X2 (by decide) rfl 0 (by decide) rfl rfl q1359 rfl dX2_pass_190 (v := au_r MA) (congrArg au_q (fx_MO_0 hF)) ?_
        refine au_bipush dX2_pass_193 rfl rfl ?_
        refine au_dup2 dX2_pass_195 rfl rfl ?_
        refine au_iald dX2_pass_196 rfl (by omega) (by show _ < ((4544 : Nat) : Int); omega) (v := au_i (Rk 0)) (congrArg au_i (((au_gi_m (au_reg_MA _)).trans (show rowS mi MA Ak MA 6 = Ak 6 from (rowS_self _ _ _ _).trans (rfl))).trans (hMk.1.1))) ?_
        refine au_iconst dX2_pass_197 rfl rfl ?_
        refine au_iadd dX2_pass_198 (by omega) (by omega) ?_
        refine au_iast dX2_pass_199 rfl (by decide) (by omega) (by show _ < ((4544 : Nat) : Int); omega) (M' := ((au_up (rowS mi MA Ak) MA 6 ((Rk 0) + 1)), sk_, hi, lk, r, nx)) (au_wv_m (au_reg_MA _)) ?_
        rw [au_up_row (rowS mi MA Ak) MA 6 ((Rk 0) + 1), rowS_selfF, rowS_rowS]
        refine au_vret dX2_pass_200 rfl rfl (Nat.le_of_ble_eq_true rfl) (Nat.le_of_ble_eq_true rfl) ?_
        refine ⟨rfl, _, _, _, rfl, by rw [e1]; exact hMk.day _, hFk.tr (FrW.up wr _ _ (by decide) (by decide) (by decide)), by rw [e1]; exact hDk, ?_, hSk⟩
        rw [e1]
        exact hPk.same (fun a a0 a1 => by
          show R (3 + 7 * a + 4) = 0 ∧ up1 Rk 0 (Rk 0 + 1) (3 + 7 * a + 4) = 1 ↔ _
          rw [show up1 Rk 0 (Rk 0 + 1) (3 + 7 * a + 4) = Rk (3 + 7 * a + 4) from up1_ne _ _ (by omega)])
      · refine au_iload_n dX2_pass_108 rfl ?_
        refine au_iconst dX2_pass_109 rfl rfl ?_
        refine au_iadd dX2_pass_110 (by omega) (by omega) ?_
        refine au_istore_n dX2_pass_111 (show 2 < 3 by decide) ?_
        show au_Go G _ _ 112 [some (au_r MO), some (au_i (k : Int)), some (au_i ((k : Int) + 1))] [] ((rowS mi MA Ak), sk_, hi, lk, r, nx) 0 0
        have hIn : ∀ (g : Nat) (e : Nat) (Ri : Int → Int) (di : Int) (wi : Nat) (Ai : Int → Int) (sb lb : au_A → Int → Int), (k : Int) + 1 + (e : Int) ≤ R 2 → mrgB (k : Int) e (Rk, dk, wk) = (Ri, di, wi) → MRel wr Ai Ri → FrW wr A Ai → DnT (si MO 24) (sb MO 24) di → PdT R Ri (si MO 25) (sb MO 25) → sb MAside = si MAside → 10 - e < g → au_Go G (yX2_pass.cls, cX2_pass, 3, none, au_rm 6 0 0, yX2_pass.name) (au_QM G (au_rm 6 0 0) (fun rv M' => rv = none ∧ ∃ (A' : Int → Int) (sj slj : au_A → Int → Int), M' = (rowS mi MA A', sj, hi, slj, r, nx) ∧ MRel wr A' (pasF n B Pr Lw R).1 ∧ FrW wr A A' ∧ DnT (si MO 24) (sj MO 24) (pasF n B Pr Lw R).2.1 ∧ PdT R (pasF n B Pr Lw R).1 (si MO 25) (sj MO 25) ∧ sj MAside = si MAside)) 112 [some (au_r MO), some (au_i (k : Int)), some (au_i ((k : Int) + 1 + (e : Int)))] [] (rowS mi MA Ai, sb, hi, lb, r, nx) 0 0 := by
          intro g
          induction g with
          | zero => intro e Ri di wi Ai sb lb he hI hMi hFi hDi hPi hSi hg; exfalso; omega
          | succ g ihI =>
            intro e Ri di wi Ai sb lb he hI hMi hFi hDi hPi hSi hg
            have hip := mrgB_kp (n := n) (B := B) (s := (Rk, dk, wk)) okK (a := (k : Int)) (by omega) e (by show _ ≤ Rk 2; omega)
            rw [hI] at hip
            have okI : RowOK Ri n B := hip.1
            have eI : Ri 2 = R 2 := hip.2.1.trans eK
            have hAB := (hA1.tr hkp).tr hip
            have hd0 : 0 ≤ di := hAB.2.2.2.2.1
            have hd1 : di + ((0 : Nat) : Int) ≤ 0 + (wi : Int) := hAB.2.2.2.2.2
            have hu := mrgB_und (n := n) (B := B) (s := (Rk, dk, wk)) okK (a := (k : Int)) (by omega) e (by show _ ≤ Rk 2; omega)
            rw [hI] at hu
            have hu : wi + undN Ri 10 ≤ wk + undN Rk 10 := hu
            refine au_iload_n dX2_pass_112 rfl ?_
            refine au_aload_n dX2_pass_113 rfl ?_
            refine au_getf (C := RX2) (T := TX2) (N := 35) in_X2 (by decide) rfl 0 (by decide) rfl rfl q1359 rfl dX2_pass_114 (v := au_r MA) (congrArg au_q (fx_MO_0 hF)) ?_
            refine au_bipush dX2_pass_117 rfl rfl ?_
            refine au_iald dX2_pass_119 rfl (by omega) (by show _ < ((4544 : Nat) : Int); omega) (v := au_i (Ri 2)) (congrArg au_i (((au_gi_m (au_reg_MA _)).trans (show rowS mi MA Ai MA 8 = Ai 8 from (rowS_self _ _ _ _).trans (rfl))).trans (hMi.1.2.2.1))) ?_
            refine au_icmp_ge (tgt := 183) dX2_pass_120 (by decide) (fun c120 => ?_) (fun c120 => ?_)
            · refine au_iinc dX2_pass_183 rfl (show 1 < 3 by decide) (by omega) (by omega) (by decide) (by decide) ?_
              show au_Go G _ _ 186 [some (au_r MO), some (au_i ((k : Int) + 1)), some (au_i ((k : Int) + 1 + (e : Int)))] [] ((rowS mi MA Ai), sb, hi, lb, r, nx) 0 0
              refine au_goto (tgt := 97) dX2_pass_186 (by decide) ?_
              have hei : e = (R 2).toNat - 1 - k := by omega
              exact ih (k + 1) _ _ _ _ _ _ _ (by omega) ((mrgN_s hs).trans (by rw [← hei]; exact hI)) hMi hFi hDi hPi hSi (by omega)
            · refine au_aload_n dX2_pass_123 rfl ?_
              refine au_iload_n dX2_pass_124 rfl ?_
              refine au_iconst dX2_pass_125 rfl rfl ?_
              refine au_callVp (n := 2) (kX2_getR G (k : Int) 4 Ri Ai mi sb hi lb r nx hF hMi.1 (by omega) (by omega) (by decide) (by decide)) (lw_V q1694 q1696 qs93 q134 q1697) rfl (by decide +kernel) (by decide) (T := TX2) (N := 35) rfl rfl rfl rfl (Nat.le_of_ble_eq_true rfl) (Nat.le_of_ble_eq_true rfl) (Nat.le_of_ble_eq_true rfl) (Nat.le_of_ble_eq_true rfl) (Nat.le_of_ble_eq_true rfl) dX2_pass_126 ?_
              refine au_if_ne (tgt := 177) dX2_pass_129 (by decide) (fun c129 => ?_) (fun c129 => ?_)
              · refine au_iinc dX2_pass_177 rfl (show 2 < 3 by decide) (by omega) (by omega) (by decide) (by decide) ?_
                show au_Go G _ _ 180 [some (au_r MO), some (au_i (k : Int)), some (au_i (((k : Int) + 1 + (e : Int)) + 1))] [] ((rowS mi MA Ai), sb, hi, lb, r, nx) 0 0
                refine au_goto (tgt := 112) dX2_pass_180 (by decide) ?_
                exact ihI (e + 1) _ _ _ _ _ _ (by omega) ((mrgB_s hI).trans (mrg1_n (s := (Ri, di, wi)) (fun z => c129 z.1))) hMi hFi hDi hPi hSi (by omega)
              · refine au_aload_n dX2_pass_132 rfl ?_
                refine au_iload_n dX2_pass_133 rfl ?_
                refine au_iconst dX2_pass_134 rfl rfl ?_
                refine au_callVp (n := 2) (kX2_getR G ((k : Int) + 1 + (e : Int)) 4 Ri Ai mi sb hi lb r nx hF hMi.1 (by omega) (by omega) (by decide) (by decide)) (lw_V q1694 q1696 qs93 q134 q1697) rfl (by decide +kernel) (by decide) (T := TX2) (N := 35) rfl rfl rfl rfl (Nat.le_of_ble_eq_true rfl) (Nat.le_of_ble_eq_true rfl) (Nat.le_of_ble_eq_true rfl) (Nat.le_of_ble_eq_true rfl) (Nat.le_of_ble_eq_true rfl) dX2_pass_135 ?_
                refine au_if_ne (tgt := 177) dX2_pass_138 (by decide) (fun c138 => ?_) (fun c138 => ?_)
                · refine au_iinc dX2_pass_177 rfl (show 2 < 3 by decide) (by omega) (by omega) (by decide) (by decide) ?_
                  show au_Go G _ _ 180 [some (au_r MO), some (au_i (k : Int)), some (au_i (((k : Int) + 1 + (e : Int)) + 1))] [] ((rowS mi MA Ai), sb, hi, lb, r, nx) 0 0
                  refine au_goto (tgt := 112) dX2_pass_180 (by decide) ?_
                  exact ihI (e + 1) _ _ _ _ _ _ (by omega) ((mrgB_s hI).trans (mrg1_n (s := (Ri, di, wi)) (fun z => c138 z.2.1))) hMi hFi hDi hPi hSi (by omega)
                · refine au_aload_n dX2_pass_141 rfl ?_
                  refine au_iload_n dX2_pass_142 rfl ?_
                  refine au_iconst dX2_pass_143 rfl rfl ?_
                  refine au_callVp (n := 2) (kX2_getR G (k : Int) 1 Ri Ai mi sb hi lb r nx hF hMi.1 (by omega) (by omega) (by decide) (by decide)) (lw_V q1694 q1696 qs93 q134 q1697) rfl (by decide +kernel) (by decide) (T := TX2) (N := 35) rfl rfl rfl rfl (Nat.le_of_ble_eq_true rfl) (Nat.le_of_ble_eq_true rfl) (Nat.le_of_ble_eq_true rfl) (Nat.le_of_ble_eq_true rfl) (Nat.le_of_ble_eq_true rfl) dX2_pass_144 ?_
                  refine au_aload_n dX2_pass_147 rfl ?_
                  refine au_iload_n dX2_pass_148 rfl ?_
                  refine au_iconst dX2_pass_149 rfl rfl ?_
                  refine au_callVp (n := 2) (kX2_getR G ((k : Int) + 1 + (e : Int)) 1 Ri Ai mi sb hi lb r nx hF hMi.1 (by omega) (by omega) (by decide) (by decide)) (lw_V q1694 q1696 qs93 q134 q1697) rfl (by decide +kernel) (by decide) (T := TX2) (N := 35) rfl rfl rfl rfl (Nat.le_of_ble_eq_true rfl) (Nat.le_of_ble_eq_true rfl) (Nat.le_of_ble_eq_true rfl) (Nat.le_of_ble_eq_true rfl) (Nat.le_of_ble_eq_true rfl) dX2_pass_150 ?_
                  refine au_icmp_ne (tgt := 177) dX2_pass_153 (by decide) (fun c153 => ?_) (fun c153 => ?_)
                  · refine au_iinc dX2_pass_177 rfl (show 2 < 3 by decide) (by omega) (by omega) (by decide) (by decide) ?_
                    show au_Go G _ _ 180 [some (au_r MO), some (au_i (k : Int)), some (au_i (((k : Int) + 1 + (e : Int)) + 1))] [] ((rowS mi MA Ai), sb, hi, lb, r, nx) 0 0
                    refine au_goto (tgt := 112) dX2_pass_180 (by decide) ?_
                    exact ihI (e + 1) _ _ _ _ _ _ (by omega) ((mrgB_s hI).trans (mrg1_n (s := (Ri, di, wi)) (fun z => c153 z.2.2.1))) hMi hFi hDi hPi hSi (by omega)
                  · refine au_aload_n dX2_pass_156 rfl ?_
                    refine au_iload_n dX2_pass_157 rfl ?_
                    refine au_iconst dX2_pass_158 rfl rfl ?_
                    refine au_callVp (n := 2) (kX2_getR G (k : Int) 2 Ri Ai mi sb hi lb r nx hF hMi.1 (by omega) (by omega) (by decide) (by decide)) (lw_V q1694 q1696 qs93 q134 q1697) rfl (by decide +kernel) (by decide) (T := TX2) (N := 35) rfl rfl rfl rfl (Nat.le_of_ble_eq_true rfl) (Nat.le_of_ble_eq_true rfl) (Nat.le_of_ble_eq_true rfl) (Nat.le_of_ble_eq_true rfl) (Nat.le_of_ble_eq_true rfl) dX2_pass_159 ?_
                    refine au_aload_n dX2_pass_162 rfl ?_
                    refine au_iload_n dX2_pass_163 rfl ?_
                    refine au_iconst dX2_pass_164 rfl rfl ?_
                    refine au_callVp (n := 2) (kX2_getR G ((k : Int) + 1 + (e : Int)) 2 Ri Ai mi sb hi lb r nx hF hMi.1 (by omega) (by omega) (by decide) (by decide)) (lw_V q1694 q1696 qs93 q134 q1697) rfl (by decide +kernel) (by decide) (T := TX2) (N := 35) rfl rfl rfl rfl (Nat.le_of_ble_eq_true rfl) (Nat.le_of_ble_eq_true rfl) (Nat.le_of_ble_eq_true rfl) (Nat.le_of_ble_eq_true rfl) (Nat.le_of_ble_eq_true rfl) dX2_pass_165 ?_
                    refine au_icmp_ne (tgt := 177) dX2_pass_168 (by decide) (fun c168 => ?_) (fun c168 => ?_)
                    · refine au_iinc dX2_pass_177 rfl (show 2 < 3 by decide) (by omega) (by omega) (by decide) (by decide) ?_
                      show au_Go G _ _ 180 [some (au_r MO), some (au_i (k : Int)), some (au_i (((k : Int) + 1 + (e : Int)) + 1))] [] ((rowS mi MA Ai), sb, hi, lb, r, nx) 0 0
                      refine au_goto (tgt := 112) dX2_pass_180 (by decide) ?_
                      exact ihI (e + 1) _ _ _ _ _ _ (by omega) ((mrgB_s hI).trans (mrg1_n (s := (Ri, di, wi)) (fun z => c168 z.2.2.2))) hMi hFi hDi hPi hSi (by omega)
                    · refine au_aload_n dX2_pass_171 rfl ?_
                      refine au_iload_n dX2_pass_172 rfl ?_
                      refine au_iload_n dX2_pass_173 rfl ?_
                      refine au_callV (n := 2) (kX2_merge G (k : Int) ((k : Int) + 1 + (e : Int)) wr n Ri Ai mi sb hi lb r nx hF hW hwr hMi okI.1 (by omega) (by omega) (by omega)) (lw_V q1790 q1792 qs110 q134 q1793) rfl (by decide +kernel) (by decide) (T := TX2) (N := 35) rfl rfl rfl rfl (Nat.le_of_ble_eq_true rfl) (Nat.le_of_ble_eq_true rfl) (Nat.le_of_ble_eq_true rfl) (Nat.le_of_ble_eq_true rfl) (Nat.le_of_ble_eq_true rfl) dX2_pass_174 (fun rv_ M_ hp_ => ?_)
                      obtain ⟨rfl, A3, s3, rfl, hM3, hf3, hd3, hp3, hs3⟩ := hp_
                      show au_Go G _ _ 177 [some (au_r MO), some (au_i (k : Int)), some (au_i ((k : Int) + 1 + (e : Int)))] [] ((rowS mi MA A3), s3, hi, lb, r, nx) 0 0
                      refine au_iinc dX2_pass_177 rfl (show 2 < 3 by decide) (by omega) (by omega) (by decide) (by decide) ?_
                      show au_Go G _ _ 180 [some (au_r MO), some (au_i (k : Int)), some (au_i (((k : Int) + 1 + (e : Int)) + 1))] [] ((rowS mi MA A3), s3, hi, lb, r, nx) 0 0
                      refine au_goto (tgt := 112) dX2_pass_180 (by decide) ?_
                      have hyes : mtF Ri (k : Int) ((k : Int) + 1 + (e : Int)) := ⟨c129, c138, c153, c168⟩
                      obtain ⟨-, -, -, q4, q5⟩ := mgF_ok okI (a := (k : Int)) (b := ((k : Int) + 1 + (e : Int))) (by omega) (by omega) (by omega)
                      refine ihI (e + 1) _ _ _ _ _ _ (by omega) ((mrgB_s hI).trans (mrg1_y (s := (Ri, di, wi)) hyes)) hM3 (hFi.tr hf3) (by rw [hd3]; exact hDi.add hd0 (by omega)) ?_ (hs3.trans hSi) (by omega)
                      rw [hp3]
                      refine hPi.same (fun a a0 a1 => ?_)
                      by_cases z : a = ((k : Int) + 1 + (e : Int))
                      · rw [z, q5, c138]
                        constructor
                        · rintro ⟨-, w⟩; exact absurd w (by decide)
                        · rintro ⟨-, w⟩; exact absurd w (by decide)
                      · rw [q4 a 4 a0 a1 (by decide) (by decide) (by decide) (fun w => z w.1)]
        have hIn0 := hIn 11 0 Rk dk wk Ak sk_ lk (by omega) rfl hMk hFk hDk hPk hSk (by omega)
        rw [show (k : Int) + 1 + ((0 : Nat) : Int) = (k : Int) + 1 by omega] at hIn0
        exact hIn0
  show au_Go G _ _ 0 [some (au_r MO), none, none] [] (rowS mi MA A, si, hi, sl, r, nx) 0 0
  refine au_iconst dX2_pass_0 rfl rfl ?_
  refine au_istore_n dX2_pass_1 (show 1 < 3 by decide) ?_
  show au_Go G _ _ 2 [some (au_r MO), some (au_i 0), none] [] ((rowS mi MA A), si, hi, sl, r, nx) 0 0
  have hA : ∀ (f : Nat) (j : Nat) (Rj : Int → Int) (dj : Int) (wj : Nat) (Aj : Int → Int) (sj lj : au_A → Int → Int), (j : Int) ≤ R 2 → actN n B Pr Lw j (R, 0, 0) = (Rj, dj, wj) → MRel wr Aj Rj → FrW wr A Aj → DnT (si MO 24) (sj MO 24) dj → PdT R Rj (si MO 25) (sj MO 25) → sj MAside = si MAside → 10 - j < f → au_Go G (yX2_pass.cls, cX2_pass, 3, none, au_rm 6 0 0, yX2_pass.name) (au_QM G (au_rm 6 0 0) (fun rv M' => rv = none ∧ ∃ (A' : Int → Int) (sj slj : au_A → Int → Int), M' = (rowS mi MA A', sj, hi, slj, r, nx) ∧ MRel wr A' (pasF n B Pr Lw R).1 ∧ FrW wr A A' ∧ DnT (si MO 24) (sj MO 24) (pasF n B Pr Lw R).2.1 ∧ PdT R (pasF n B Pr Lw R).1 (si MO 25) (sj MO 25) ∧ sj MAside = si MAside)) 2 [some (au_r MO), some (au_i (j : Int)), none] [] (rowS mi MA Aj, sj, hi, lj, r, nx) 0 0 := by
    intro f
    induction f with
    | zero => intro j Rj dj wj Aj sj lj hj hs hMj hFj hDj hPj hSj hf; exfalso; omega
    | succ f ih =>
      intro j Rj dj wj Aj sj lj hj hs hMj hFj hDj hPj hSj hf
      have hkp := actN_kp (Pr := Pr) (Lw := Lw) hB (s := (R, 0, 0)) hR j hj
      rw [hs] at hkp
      have okJ : RowOK Rj n B := hkp.1
      have eJ : Rj 2 = R 2 := hkp.2.1
      have hd0 : 0 ≤ dj := hkp.2.2.2.2.1
      have hd1 : dj + ((0 : Nat) : Int) ≤ 0 + (wj : Int) := hkp.2.2.2.2.2
      have hu := (actN_und (Pr := Pr) (Lw := Lw) hB (s := (R, 0, 0)) hR j hj).1
      rw [hs] at hu
      have hu : wj ≤ 0 + j := hu
      have hEj := hE.fr hFj
      have hho := actN_how (Pr := Pr) (Lw := Lw) hB (s := (R, 0, 0)) hR j hj
      rw [hs] at hho
      refine au_iload_n dX2_pass_2 rfl ?_
      refine au_aload_n dX2_pass_3 rfl ?_
      refine au_getf (C := RX2) (T := TX2) (N := 35) in_X2 (by decide) rfl 0 (by decide) rfl rfl q1359 rfl dX2_pass_4 (v := au_r MA) (congrArg au_q (fx_MO_0 hF)) ?_
      refine au_bipush dX2_pass_7 rfl rfl ?_
      refine au_iald dX2_pass_9 rfl (by omega) (by show _ < ((4544 : Nat) : Int); omega) (v := au_i (Rj 2)) (congrArg au_i (((au_gi_m (au_reg_MA _)).trans (show rowS mi MA Aj MA 8 = Aj 8 from (rowS_self _ _ _ _).trans (rfl))).trans (hMj.1.2.2.1))) ?_
      refine au_icmp_ge (tgt := 95) dX2_pass_10 (by decide) (fun c10 => ?_) (fun c10 => ?_)
      · refine au_iconst dX2_pass_95 rfl rfl ?_
        refine au_istore_n dX2_pass_96 (show 1 < 3 by decide) ?_
        show au_Go G _ _ 97 [some (au_r MO), some (au_i 0), none] [] ((rowS mi MA Aj), sj, hi, lj, r, nx) 0 0
        have hjm : j = (R 2).toNat := by omega
        subst hjm
        exact hO 11 0 _ _ _ none _ _ _ (by omega) hs hMj hFj hDj hPj hSj (by omega)
      · have hj2 : (j : Int) < Rj 2 := by omega
        obtain ⟨f0, t0, p0, s0, w0, g0⟩ := okJ.1.2.2.2.2 (j : Int) (by omega) hj2
        obtain ⟨bel0, bel1, bel2⟩ := okJ.2 (j : Int) (by omega) hj2
        have hUj : Rj (3 + 7 * (j : Int) + 4) = R (3 + 7 * (j : Int) + 4) := hho (j : Int) (by omega) (by omega)
        refine au_aload_n dX2_pass_13 rfl ?_
        refine au_iload_n dX2_pass_14 rfl ?_
        refine au_iconst dX2_pass_15 rfl rfl ?_
        refine au_callVp (n := 2) (kX2_getR G (j : Int) 4 Rj Aj mi sj hi lj r nx hF hMj.1 (by omega) (by omega) (by decide) (by decide)) (lw_V q1694 q1696 qs93 q134 q1697) rfl (by decide +kernel) (by decide) (T := TX2) (N := 35) rfl rfl rfl rfl (Nat.le_of_ble_eq_true rfl) (Nat.le_of_ble_eq_true rfl) (Nat.le_of_ble_eq_true rfl) (Nat.le_of_ble_eq_true rfl) (Nat.le_of_ble_eq_true rfl) dX2_pass_16 ?_
        refine au_iconst dX2_pass_19 rfl rfl ?_
        refine au_icmp_eq (tgt := 89) dX2_pass_20 (by decide) (fun c20 => ?_) (fun c20 => ?_)
        · refine au_iinc dX2_pass_89 rfl (show 1 < 3 by decide) (by omega) (by omega) (by decide) (by decide) ?_
          show au_Go G _ _ 92 [some (au_r MO), some (au_i ((j : Int) + 1)), none] [] ((rowS mi MA Aj), sj, hi, lj, r, nx) 0 0
          refine au_goto (tgt := 2) dX2_pass_92 (by decide) ?_
          exact ih (j + 1) _ _ _ _ _ _ (by omega) ((actN_s hs).trans (act1_skip (s := (Rj, dj, wj)) (Or.inl c20))) hMj hFj hDj hPj hSj (by omega)
        · refine au_aload_n dX2_pass_23 rfl ?_
          refine au_getf (C := RX2) (T := TX2) (N := 35) in_X2 (by decide) rfl 0 (by decide) rfl rfl q1359 rfl dX2_pass_24 (v := au_r MA) (congrArg au_q (fx_MO_0 hF)) ?_
          refine au_bipush dX2_pass_27 rfl rfl ?_
          refine au_iald dX2_pass_29 rfl (by omega) (by show _ < ((4544 : Nat) : Int); omega) (v := au_i (Rj 0)) (congrArg au_i (((au_gi_m (au_reg_MA _)).trans (show rowS mi MA Aj MA 6 = Aj 6 from (rowS_self _ _ _ _).trans (rfl))).trans (hMj.1.1))) ?_
          refine au_aload_n dX2_pass_30 rfl ?_
          refine au_iload_n dX2_pass_31 rfl ?_
          refine au_bipush dX2_pass_32 rfl rfl ?_
          refine au_callVp (n := 2) (kX2_getR G (j : Int) 6 Rj Aj mi sj hi lj r nx hF hMj.1 (by omega) (by omega) (by decide) (by decide)) (lw_V q1694 q1696 qs93 q134 q1697) rfl (by decide +kernel) (by decide) (T := TX2) (N := 35) rfl rfl rfl rfl (Nat.le_of_ble_eq_true rfl) (Nat.le_of_ble_eq_true rfl) (Nat.le_of_ble_eq_true rfl) (Nat.le_of_ble_eq_true rfl) (Nat.le_of_ble_eq_true rfl) dX2_pass_34 ?_
          refine au_icmp_lt (tgt := 89) dX2_pass_37 (by decide) (fun c37 => ?_) (fun c37 => ?_)
          · refine au_iinc dX2_pass_89 rfl (show 1 < 3 by decide) (by omega) (by omega) (by decide) (by decide) ?_
            show au_Go G _ _ 92 [some (au_r MO), some (au_i ((j : Int) + 1)), none] [] ((rowS mi MA Aj), sj, hi, lj, r, nx) 0 0
            refine au_goto (tgt := 2) dX2_pass_92 (by decide) ?_
            exact ih (j + 1) _ _ _ _ _ _ (by omega) ((actN_s hs).trans (act1_skip (s := (Rj, dj, wj)) (Or.inr (Or.inl c37)))) hMj hFj hDj hPj hSj (by omega)
          · refine au_aload_n dX2_pass_40 rfl ?_
            refine au_getf (C := RX2) (T := TX2) (N := 35) in_X2 (by decide) rfl 0 (by decide) rfl rfl q1359 rfl dX2_pass_41 (v := au_r MA) (congrArg au_q (fx_MO_0 hF)) ?_
            refine au_bipush dX2_pass_44 rfl rfl ?_
            refine au_iald dX2_pass_46 rfl (by omega) (by show _ < ((4544 : Nat) : Int); omega) (v := au_i (Rj 0)) (congrArg au_i (((au_gi_m (au_reg_MA _)).trans (show rowS mi MA Aj MA 6 = Aj 6 from (rowS_self _ _ _ _).trans (rfl))).trans (hMj.1.1))) ?_
            refine au_aload_n dX2_pass_47 rfl ?_
            refine au_getf (C := RX2) (T := TX2) (N := 35) in_X2 (by decide) rfl 0 (by decide) rfl rfl q1359 rfl dX2_pass_48 (v := au_r MA) (congrArg au_q (fx_MO_0 hF)) ?_
            refine au_bipush dX2_pass_51 rfl rfl ?_
            refine au_aload_n dX2_pass_53 rfl ?_
            refine au_iload_n dX2_pass_54 rfl ?_
            refine au_iconst dX2_pass_55 rfl rfl ?_
            refine au_callVp (n := 2) (kX2_getR G (j : Int) 2 Rj Aj mi sj hi lj r nx hF hMj.1 (by omega) (by omega) (by decide) (by decide)) (lw_V q1694 q1696 qs93 q134 q1697) rfl (by decide +kernel) (by decide) (T := TX2) (N := 35) rfl rfl rfl rfl (Nat.le_of_ble_eq_true rfl) (Nat.le_of_ble_eq_true rfl) (Nat.le_of_ble_eq_true rfl) (Nat.le_of_ble_eq_true rfl) (Nat.le_of_ble_eq_true rfl) dX2_pass_56 ?_
            refine au_iadd dX2_pass_59 (by omega) (by omega) ?_
            refine au_iald dX2_pass_60 rfl (by omega) (by show _ < ((4544 : Nat) : Int); omega) (v := au_i (Rj (73 + (Rj (3 + 7 * (j : Int) + 2))))) (congrArg au_i (((au_gi_m (au_reg_MA _)).trans (show rowS mi MA Aj MA (10 + (Rj (3 + 7 * (j : Int) + 2))) = Aj (10 + (Rj (3 + 7 * (j : Int) + 2))) from (rowS_self _ _ _ _).trans (rfl))).trans (hMj.1.2.2.2.1 _ (by omega) (by omega)))) ?_
            refine au_icmp_ge (tgt := 67) dX2_pass_61 (by decide) (fun c61 => ?_) (fun c61 => ?_)
            · have hnw : ¬ (Rj (3 + 7 * (j : Int) + 4) = 2 ∨ waF Rj (j : Int)) := fun z => z.elim c20 (fun w => w.elim (fun q => absurd q (by omega)) (fun q => absurd q (by omega)))
              refine au_aload_n dX2_pass_67 rfl ?_
              refine au_iload_n dX2_pass_68 rfl ?_
              refine au_iconst dX2_pass_69 rfl rfl ?_
              refine au_callVp (n := 2) (kX2_getR G (j : Int) 4 Rj Aj mi sj hi lj r nx hF hMj.1 (by omega) (by omega) (by decide) (by decide)) (lw_V q1694 q1696 qs93 q134 q1697) rfl (by decide +kernel) (by decide) (T := TX2) (N := 35) rfl rfl rfl rfl (Nat.le_of_ble_eq_true rfl) (Nat.le_of_ble_eq_true rfl) (Nat.le_of_ble_eq_true rfl) (Nat.le_of_ble_eq_true rfl) (Nat.le_of_ble_eq_true rfl) dX2_pass_70 ?_
              refine au_if_ne (tgt := 84) dX2_pass_73 (by decide) (fun c73 => ?_) (fun c73 => ?_)
              · refine au_aload_n dX2_pass_84 rfl ?_
                refine au_iload_n dX2_pass_85 rfl ?_
                refine au_callV (n := 1) (kX2_goDown G (j : Int) wr n B Pr Lw Rj Aj mi sj hi lj r nx hF hW hwr hEj hMj okJ.1 (by omega) hj2 (bel2 (by omega))) (lw_V q1778 q1780 qs107 q134 q1781) rfl (by decide +kernel) (by decide) (T := TX2) (N := 35) rfl rfl rfl rfl (Nat.le_of_ble_eq_true rfl) (Nat.le_of_ble_eq_true rfl) (Nat.le_of_ble_eq_true rfl) (Nat.le_of_ble_eq_true rfl) (Nat.le_of_ble_eq_true rfl) dX2_pass_86 (fun rv_ M_ hp_ => ?_)
                obtain ⟨rfl, A3, s3, l3, rfl, hM3, hf3, hd3, hp3, hs3⟩ := hp_
                show au_Go G _ _ 89 [some (au_r MO), some (au_i (j : Int)), none] [] ((rowS mi MA A3), s3, hi, l3, r, nx) 0 0
                refine au_iinc dX2_pass_89 rfl (show 1 < 3 by decide) (by omega) (by omega) (by decide) (by decide) ?_
                show au_Go G _ _ 92 [some (au_r MO), some (au_i ((j : Int) + 1)), none] [] ((rowS mi MA A3), s3, hi, l3, r, nx) 0 0
                refine au_goto (tgt := 2) dX2_pass_92 (by decide) ?_
                obtain ⟨uo, us⟩ := dnF_ok (Pr := Pr) (Lw := Lw) hB okJ (by omega) hj2 (by omega)
                have hsm : ∀ (Rx : Int → Int), SmE Rj Rx (j : Int) → ∀ a : Int, 0 ≤ a → a < 10 → (R (3 + 7 * a + 4) = 0 ∧ Rx (3 + 7 * a + 4) = 1 ↔ R (3 + 7 * a + 4) = 0 ∧ Rj (3 + 7 * a + 4) = 1) := fun Rx hx a a0 a1 => by
                  by_cases y : a = (j : Int)
                  · rw [y]
                    exact ⟨fun w => absurd (hUj.trans w.1) c73, fun w => absurd (hUj.trans w.1) c73⟩
                  · rw [hx.ap a0 a1 y 4 (by decide) (by decide)]
                by_cases z : dnT B Rj (j : Int) = Rj (3 + 7 * (j : Int) + 0)
                · refine ih (j + 1) _ _ _ _ _ _ (by omega) ((actN_s hs).trans (act1_dn1 (s := (Rj, dj, wj)) hnw c73 z)) hM3 (hFj.tr hf3) ?_ (by rw [hp3]; exact hPj.same (hsm _ us)) (hs3.trans hSj) (by omega)
                  rw [hd3, if_pos z]
                  exact hDj.add hd0 (by omega)
                · refine ih (j + 1) _ _ _ _ _ _ (by omega) ((actN_s hs).trans (act1_dn0 (s := (Rj, dj, wj)) hnw c73 z)) hM3 (hFj.tr hf3) ?_ (by rw [hp3]; exact hPj.same (hsm _ us)) (hs3.trans hSj) (by omega)
                  rw [hd3, if_neg z]
                  exact hDj
              · refine au_aload_n dX2_pass_76 rfl ?_
                refine au_iload_n dX2_pass_77 rfl ?_
                refine au_callV (n := 1) (kX2_goUp G (j : Int) wr n B Pr Lw Rj Aj mi sj hi lj r nx hF hW hwr hEj hMj okJ.1 (by omega) hj2 c73 (below_boss hB p0.1 p0.2 t0.1 (bel1 c73)).1) (lw_V q1710 q1712 qs96 q134 q1713) rfl (by decide +kernel) (by decide) (T := TX2) (N := 35) rfl rfl rfl rfl (Nat.le_of_ble_eq_true rfl) (Nat.le_of_ble_eq_true rfl) (Nat.le_of_ble_eq_true rfl) (Nat.le_of_ble_eq_true rfl) (Nat.le_of_ble_eq_true rfl) dX2_pass_78 (fun rv_ M_ hp_ => ?_)
                obtain ⟨rfl, A3, s3, l3, rfl, hM3, hf3, hd3, hp3, hs3⟩ := hp_
                show au_Go G _ _ 81 [some (au_r MO), some (au_i (j : Int)), none] [] ((rowS mi MA A3), s3, hi, l3, r, nx) 0 0
                refine au_goto (tgt := 89) dX2_pass_81 (by decide) ?_
                refine au_iinc dX2_pass_89 rfl (show 1 < 3 by decide) (by omega) (by omega) (by decide) (by decide) ?_
                show au_Go G _ _ 92 [some (au_r MO), some (au_i ((j : Int) + 1)), none] [] ((rowS mi MA A3), s3, hi, l3, r, nx) 0 0
                refine au_goto (tgt := 2) dX2_pass_92 (by decide) ?_
                obtain ⟨uo, us⟩ := upF_ok (Pr := Pr) (Lw := Lw) hB okJ (by omega) hj2 c73
                refine ih (j + 1) _ _ _ _ _ _ (by omega) ((actN_s hs).trans (act1_up (s := (Rj, dj, wj)) hnw c73)) hM3 (hFj.tr hf3) (by rw [hd3]; exact hDj) ?_ (hs3.trans hSj) (by omega)
                rw [hp3]
                by_cases z : upF n B Pr Lw Rj (j : Int) (3 + 7 * (j : Int) + 4) = 1
                · rw [if_pos z]
                  exact hPj.or (by omega) (fun a a0 a1 an => us.ap a0 a1 an 4 (by decide) (by decide)) (hUj.symm.trans c73) z
                · rw [if_neg z]
                  refine hPj.same (fun a a0 a1 => ?_)
                  by_cases y : a = (j : Int)
                  · rw [y]
                    constructor
                    · exact fun w => absurd w.2 z
                    · exact fun w => absurd (w.2.symm.trans c73) (by decide)
                  · rw [us.ap a0 a1 y 4 (by decide) (by decide)]
            · refine au_goto (tgt := 89) dX2_pass_64 (by decide) ?_
              refine au_iinc dX2_pass_89 rfl (show 1 < 3 by decide) (by omega) (by omega) (by decide) (by decide) ?_
              show au_Go G _ _ 92 [some (au_r MO), some (au_i ((j : Int) + 1)), none] [] ((rowS mi MA Aj), sj, hi, lj, r, nx) 0 0
              refine au_goto (tgt := 2) dX2_pass_92 (by decide) ?_
              exact ih (j + 1) _ _ _ _ _ _ (by omega) ((actN_s hs).trans (act1_skip (s := (Rj, dj, wj)) (Or.inr (Or.inr (by omega))))) hMj hFj hDj hPj hSj (by omega)
  exact hA 11 0 R 0 0 A si sl (by omega) rfl hM (FrW.rf wr A) (DnT.rf _) (PdT.rf (fun _ _ _ => rfl) _) rfl (by omega)
