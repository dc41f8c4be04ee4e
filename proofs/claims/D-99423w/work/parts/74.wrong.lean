/-! A Wrong IS MADE (printed by a program: tools/m74.py) -/
set_option maxRecDepth 100000
set_option maxHeartbeats 4000000
theorem ex_words {G : au_G} {s : State} {args : Array Value} (hU : au_U G s s.heap) (hts : ∀ w ∈ lw_all, w.before args s = true) : ∀ w ∈ ex_at "ApologyUp$Wrong" 1 "java/lang/Exception" "ApologyUp$Wrong" 8, w.before args s = true := by
  have z1 := hU.2.1.2.1 ("java/lang/Throwable", "UNASSIGNED_STACK", "[Ljava/lang/StackTraceElement;", (197, 0, 60)) (List.Mem.tail _ (List.Mem.head _))
  have z2 := hU.2.1.2.1 ("java/lang/Throwable", "SUPPRESSED_SENTINEL", "Ljava/util/List;", (198, 0, 60)) (List.Mem.tail _ (List.Mem.tail _ (List.Mem.head _)))
  have r1 : (Cond.isRef (.static Bundle.tN "UNASSIGNED_STACK" Bundle.steD)).before args s = true := by
    rcases z1.1 with h | h
    · exact vx_isRef h rfl
    · exact vx_isRef h rfl
  have r2 : (Cond.isRef (.static Bundle.tN "SUPPRESSED_SENTINEL" Bundle.listD)).before args s = true := by
    rcases z2.1 with h | h
    · exact vx_isRef h rfl
    · exact vx_isRef h rfl
  intro w hw
  simp only [ex_at, Bundle.throwableAtoms, Bundle.chain0Atoms, Bundle.passAtoms, List.cons_append, List.nil_append, List.append_nil, List.mem_cons, List.not_mem_nil, or_false] at hw
  rcases hw with rfl | rfl | rfl | rfl | rfl | rfl | rfl | rfl | rfl | rfl | rfl | rfl | rfl | rfl | rfl | rfl | rfl | rfl | rfl | rfl | rfl | rfl | rfl | rfl | rfl | rfl | rfl | rfl | rfl | rfl | rfl | rfl | rfl | rfl | rfl | rfl | rfl | rfl | rfl | rfl | rfl | rfl
  · exact hts _ q145
  · exact hts _ q503
  · exact hts _ q512
  · exact hts _ q514
  · exact hts _ q517
  · exact hts _ q519
  · exact hts _ q504
  · exact hts _ q505
  · exact hts _ q171
  · exact hts _ q172
  · exact hts _ q506
  · exact hts _ q511
  · exact hts _ q515
  · exact hts _ q532
  · exact hts _ q493
  · exact hts _ q533
  · exact hts _ q495
  · exact hts _ q534
  · exact hts _ q497
  · exact hts _ q507
  · exact z1.2.word
  · exact hts _ q509
  · exact z2.2.word
  · exact hts _ q499
  · exact hts _ q524
  · exact hts _ q525
  · exact hts _ q526
  · exact hts _ q504
  · exact va_Nw.use rfl (hU.2.2.2.1.1 _ q488 rfl)
  · exact hts _ q523
  · exact hts _ q484
  · exact hts _ q490
  · exact hts _ q491
  · exact hts _ q492
  · exact hts _ q494
  · exact hts _ q496
  · exact hts _ q498
  · exact r1
  · exact r2
  · exact hts _ q502
  · exact hts _ q501
  · exact hts _ q500
theorem ex_tail (G : au_G) (x : Nat) (f pl : Int) (mi si hi sl : au_A → Int → Int) (r : au_A → Int → Option au_A) (nx : Nat) (hx : 1126 ≤ x) (Post : Option au_V → au_M → Prop) (hp : Post none (mi, si, au_up (au_up hi (x, 0, 5) 6 f) (x, 0, 5) 7 pl, sl, r, nx)) :
    au_Go G (yX5_init.cls, cX5_init, 3, none, au_rm 6 0 0, yX5_init.name) (au_QM G (au_rm 6 0 0) Post) 4 [some (au_r (x, 0, 5)), some (au_i f), some (au_i pl)] [] (mi, si, hi, sl, r, nx) 0 0 := by
  refine au_aload_n dX5_init_4 rfl ?_
  refine au_iload_n dX5_init_5 rfl ?_
  refine au_putF (a := (x, 0, 5)) (C := RX5) (T := TX5) (N := 8) in_X5 tyX5_ok nmX5 (show 5 < 40 by decide) rfl 6 (by decide) rfl (by show 1000 ≤ x; omega) rfl rfl rfl q527 rfl rfl trivial (fun _ _ _ h => au_nf_i h) dX5_init_6 (au_wv_h (au_reg_o hx rfl _)) ?_
  refine au_aload_n dX5_init_9 rfl ?_
  refine au_iload_n dX5_init_10 rfl ?_
  refine au_putF (a := (x, 0, 5)) (C := RX5) (T := TX5) (N := 8) in_X5 tyX5_ok nmX5 (show 5 < 40 by decide) rfl 7 (by decide) rfl (by show 1000 ≤ x; omega) rfl rfl rfl q529 rfl rfl trivial (fun _ _ _ h => au_nf_i h) dX5_init_11 (au_wv_h (au_reg_o hx rfl _)) ?_
  exact au_vret dX5_init_14 rfl rfl (Nat.le_refl _) (Nat.le_refl _) hp
theorem ex_static_v {G : au_G} {ad : au_A → Nat} {Lv : au_A → Prop} {M : au_M} {s : State} {H : Heap} (hP : au_P G ad Lv M H) {C n d : String} {a : au_A} (ha : a.1 < 1000 ∧ a.2.2 = 60) (h : va_Z C n d .null (au_new G) s s.heap ∨ va_Z C n d (.ref (G.2.2.2.1 a)) (au_new G) s s.heap) : ∃ (v : Value) (o : Option au_A), va_Z C n d v (au_new G) s s.heap ∧ au_rel ad Lv (au_q o) v := by
  rcases h with h | h
  · exact ⟨_, none, h, rfl⟩
  · exact ⟨_, some a, h, by rw [← (hP.2.2.2.2.1 a ha.1 ha.2).2]; exact ⟨rfl, (hP.2.2.2.2.1 a ha.1 ha.2).1⟩⟩
def ex_pre (G : au_G) (ad : au_A → Nat) (Lv : au_A → Prop) (M : au_M) (x : Nat) (cs : List Value) : Array Value → State → Prop := fun v U => (v = cs.toArray ∧ au_P G ad Lv M U.heap ∧ au_U G U U.heap) ∧ ∃ kX : Class, U.vm.classes[G.2.1.1 5]? = some kX ∧ U.heap[ad (x, 0, 5)]? = some (freshCell (G.2.1.1 5) kX)
theorem kX5_init (G : au_G) (x : Nat) (f pl : Int) (mi si hi sl : au_A → Int → Int) (r : au_A → Int → Option au_A) (nx : Nat) (hx : 1126 ≤ x) (hl : G.1.stackTraces = false) (ad : au_A → Nat) (Lv : au_A → Prop) (cs : List Value) (hs : au_S ad Lv [au_r (x, 0, 5), au_i f, au_i pl] cs) :
    Met G.1 yX5_init (ws_ yX5_init cX5_init 3 none) (au_rm 6 0 0) (ex_pre G ad Lv (mi, si, hi, sl, r, nx) x cs)
      (au_Q G (fun rv M' => rv = none ∧ ∃ (hi' : au_A → Int → Int) (r' : au_A → Int → Option au_A), M' = (mi, si, hi', sl, r', nx) ∧ (∀ b, b ≠ (x, 0, 5) → hi' b = hi b ∧ r' b = r b) ∧ hi' (x, 0, 5) 6 = f ∧ hi' (x, 0, 5) 7 = pl) ad Lv) 0 0 (au_new G) := by
  refine Met.ofW (cc := cX5_init) (maxL := 3) (ret := none) (by decide) rfl ?_
  intro p e s m args below meth c s₁ B hml hv
  obtain ⟨⟨rfl, hP, hU⟩, kX, hk, hcell⟩ := hv
  have hts := atoms_spec (ws := ws_ yX5_init cX5_init 3 none) B.pre
  have hts : ∀ w ∈ lw_all, w.before _ s = true := fun w h => hts w (List.mem_cons_of_mem _ h)
  have hown : s.vm.findClass "ApologyUp$Wrong" = some m.cls := findClass_of_methodNamed B.named
  have hin : meth.name = yX5_init.name := (name_of_methodNamed B.named B.method).1
  have ht : c.exceptionTable.toList = [] := by
    obtain ⟨meth9, c9, h1, h2, -, -, -, -, h7, -⟩ := Cond.code_spec B.named (atoms_spec (ws := ws_ yX5_init cX5_init 3 none) B.pre _ List.mem_cons_self)
    cases Option.some.inj (h1.symm.trans B.method)
    cases Option.some.inj (h2.symm.trans (Stand.of_body B).code)
    rw [Array.isEmpty_iff.mp h7]
  have hCx : au_Cx G yX5_init.cls cX5_init 3 none p e s m cs.toArray meth c := ⟨B.exec, B.bytes, hml, B.returns, ⟨B.notSynchronized, Or.inl ⟨ht, Or.inl (by decide)⟩⟩, hown, hts, hU⟩
  rw [lg_entry_eq]
  have hLr := au_L0_ok hs (n := 3) (Nat.le_refl _)
  generalize (lg_sl cs ++ List.replicate (3 - (lg_sl cs).length) Slot.unset).toArray = ls at hLr ⊢
  obtain ⟨c1, h1, ⟨rfl, e1⟩⟩ := hLr.at (i := 0) (show au_get (au_L0 3 [au_r (x, 0, 5), au_i f, au_i pl]) 0 = some (au_r (x, 0, 5)) from rfl)
  refine lv_aload_n B.exec B.bytes dX5_init_0 rfl h1 ?_
  intro T hT X
  have htr : e.platform.stackTraces = false := (show e.platform.stackTraces = G.1.stackTraces by rw [X.admits.platform]).trans hl
  have hKn := hU.1.1 5 _ rfl
  have hfc : s.vm.findClass "ApologyUp$Wrong" = some (G.2.1.1 5) := hKn.2.1
  obtain ⟨vU, oU, zU, rU⟩ := ex_static_v hP (a := (197, 0, 60)) ⟨by decide, rfl⟩ (hU.2.1.2.1 ("java/lang/Throwable", "UNASSIGNED_STACK", "[Ljava/lang/StackTraceElement;", (197, 0, 60)) (List.Mem.tail _ (List.Mem.head _))).1
  obtain ⟨vN, oN, zN, rN⟩ := ex_static_v hP (a := (198, 0, 60)) ⟨by decide, rfl⟩ (hU.2.1.2.1 ("java/lang/Throwable", "SUPPRESSED_SENTINEL", "Ljava/util/List;", (198, 0, 60)) (List.Mem.tail _ (List.Mem.tail _ (List.Mem.head _)))).1
  have hsz : ls.size = c.maxLocals := by
    obtain ⟨lv, q1, -⟩ := hLr
    rw [q1.1, hml]
    rfl
  obtain ⟨vm', ce, Ls, X2, hL, hc1, hc2, hsl, st⟩ := ex_ctor X B.exec htr (own := "ApologyUp$Wrong") (sup := "java/lang/Exception") (cls := "ApologyUp$Wrong") (n := 8) (ic := 1) (A := au_new G) hown (by decide) (ex_words hU hts) zU zN (fun x hx => nomatch hx) hfc hk (by rw [hT]; exact hcell)
    (g := F0 m 1 ls [.ref (ad (x, 0, 5))]) rfl hsz (rest := []) rfl (by rw [B.bytes]; exact dX5_init_1) (by decide) (Nat.le_of_ble_eq_true rfl)
  have hlt : ad (x, 0, 5) < (T.setVm vm').heap.size := by
    show ad (x, 0, 5) < T.heap.size
    rw [hT]; exact (Array.getElem?_eq_some_iff.mp hcell).1
  generalize hH1 : ((T.setVm vm').setCell (ad (x, 0, 5)) ce).heap = H1
  have w1 : H1[ad (x, 0, 5)]? = some ce := by rw [← hH1]; exact heapAt_setCell_self (s := T.setVm vm') ce hlt
  have w2 : ∀ q : Nat, q ≠ ad (x, 0, 5) → H1[q]? = s.heap[q]? := fun q hq => by
    rw [← hH1, heapAt_setCell_ne (s := T.setVm vm') ce (Ne.symm hq)]
    show T.heap[q]? = _
    rw [hT]
  have w3 : H1.size = s.heap.size := by
    rw [← hH1]
    show (T.heap.setIfInBounds _ _).size = _
    rw [Array.size_setIfInBounds, hT]
  have hcb : au_new G (ad (x, 0, 5)) := by
    rcases hP.2.2.2.1 _ e1 with q | q
    · exact absurd q (by show ¬ x < 1000; omega)
    · exact q
  obtain ⟨fs, p1, p2, p3⟩ := (hP.1 _ e1).1 (show 5 < 40 by decide)
  obtain ⟨rr, hrr, cell, q1, q2, q3, q4⟩ := p1
  cases (show some (RX5, TX5, 8) = some rr from hrr)
  cases q1.symm.trans hcell
  have hit : ∀ k, k < 8 → kX.instanceTypes[G.2.1.2 5 k]? = some (tyX5 k) := fun k hk8 => by
    obtain ⟨cf, kf, fi, fd, hi9, he⟩ := hKn.1 k hk8
    have h3 := (u_facts hfc hk (u_lays hts in_X5 hk8) hi9).2.2
    rw [(State.fieldFound?_type hi9 (tyX5_ok k hk8)).2] at h3
    rw [← he]
    exact h3
  have hq : ∀ k : Nat, ∃ o : Option au_A, k < 5 → ∃ v : Value, ce.slots[G.2.1.2 5 k]? = some v ∧ au_rel ad Lv (au_q o) v := fun k => by
    by_cases hk5 : k < 5
    · have hd : defaultValue (tyX5 k) = .null := by
        rcases (show k = 0 ∨ k = 1 ∨ k = 2 ∨ k = 3 ∨ k = 4 by omega) with e | e | e | e | e <;> subst e <;> rfl
      obtain ⟨v, v1, v2⟩ := (hsl _ _ (hit k (by omega))).2 hd
      rcases v2 with e | e | e | e
      · exact ⟨none, fun _ => ⟨v, v1, e⟩⟩
      · exact ⟨some (x, 0, 5), fun _ => ⟨v, v1, e, e1⟩⟩
      · exact ⟨oU, fun _ => ⟨v, v1, by rw [e]; exact rU⟩⟩
      · exact ⟨oN, fun _ => ⟨v, v1, by rw [e]; exact rN⟩⟩
    · exact ⟨none, fun z => absurd z hk5⟩
  have hq' : ∃ F : Nat → Option au_A, ∀ k, k < 5 → ∃ v : Value, ce.slots[G.2.1.2 5 k]? = some v ∧ au_rel ad Lv (au_q (F k)) v := ⟨fun k => Classical.choose (hq k), fun k => Classical.choose_spec (hq k)⟩
  obtain ⟨F, hF⟩ := hq'
  let r' : au_A → Int → Option au_A := fun b j => if b = (x, 0, 5) then F j.toNat else r b j
  have hr1 : ∀ b, b ≠ (x, 0, 5) → r' b = r b := fun b hb => funext fun j => if_neg hb
  have hP' : au_P G ad Lv (mi, si, hi, sl, r', nx) H1 := by
    refine hP.upd e1 (show 5 < 60 by decide) w3 w2 rfl (fun b hb q i => ?_) ⟨fun _ => ?_, fun z => absurd z (show ¬ 40 ≤ 5 by decide)⟩
    · match q with
      | 0 => rfl
      | 1 => rfl
      | n + 2 => show au_q (r' b i) = au_q (r b i); rw [hr1 b hb]
    · have hv : ∀ k : Nat, k < 8 → ∃ v : Value, ce.slots[G.2.1.2 5 k]? = some v ∧ au_rel ad Lv (au_val (au_tv (tyX5 k)) (mi, si, hi, sl, r', nx) (x, 0, 5) (k : Int)) v := fun k hk8 => by
        by_cases hk5 : k < 5
        · obtain ⟨v, v1, v2⟩ := hF k hk5
          refine ⟨v, v1, ?_⟩
          have e9 : au_val (au_tv (tyX5 k)) (mi, si, hi, sl, r', nx) (x, 0, 5) (k : Int) = au_q (F k) := by
            rcases (show k = 0 ∨ k = 1 ∨ k = 2 ∨ k = 3 ∨ k = 4 by omega) with e | e | e | e | e <;> subst e <;> exact congrArg au_q (if_pos rfl)
          rw [e9]; exact v2
        · have hty : tyX5 k = .int := by
            rcases (show k = 5 ∨ k = 6 ∨ k = 7 by omega) with e | e | e <;> subst e <;> rfl
          have v1 := (hsl _ _ (hit k hk8)).1 hty
          obtain ⟨c9, a1, a2⟩ := p3 k hk8
          have a3 : (freshCell (G.2.1.1 5) kX).slots[G.2.1.2 5 k]? = some (.int 0) := by
            have := hit k hk8
            rw [hty] at this
            simp [this, defaultValue]
          have a4 := q4 k hk8
          rw [a3] at a4
          have a5 : c9 = .int 0 := by
            have h9 : vp_V fs k = c9 := by unfold vp_V; rw [List.getD_eq_getElem?_getD, a1]; rfl
            rw [← h9]; exact (Option.some.inj a4).symm
          refine ⟨_, v1, ?_⟩
          rw [← a5]
          have a6 : au_rel ad Lv (au_val (au_tv (tyX5 k)) (mi, si, hi, sl, r, nx) (x, 0, 5) (k : Int)) c9 := a2
          rw [hty] at a6 ⊢
          exact a6
      have hv' : ∃ V : Nat → Value, ∀ k, k < 8 → ce.slots[G.2.1.2 5 k]? = some (V k) ∧ au_rel ad Lv (au_val (au_tv (tyX5 k)) (mi, si, hi, sl, r', nx) (x, 0, 5) (k : Int)) (V k) :=
        ⟨fun k => if h : k < 8 then Classical.choose (hv k h) else .null, fun k hk8 => by
          have := Classical.choose_spec (hv k hk8)
          simp only [hk8, dif_pos]
          exact this⟩
      obtain ⟨V, hV⟩ := hv'
      refine ⟨(List.range 8).map V, ⟨_, rfl, ce, w1, hc1, hc2, fun k hk8 => ?_⟩, by simp [au_N], fun k hk8 => ⟨V k, ?_, (hV k hk8).2⟩⟩
      · rw [(hV k hk8).1]
        unfold vp_V
        rw [List.getD_eq_getElem?_getD]
        simp [show k < 8 from hk8]
      · simp [show k < 8 from hk8]
  have hS' : va_S (au_new G) s.heap H1 ([] ++ Ls) := ⟨Nat.le_of_eq w3.symm, fun q h1 h2 => w2 q (fun z => h2 (by rw [z]; exact hcb)), fun z hz => by rw [hL z (by simpa using hz)]; exact hcb⟩
  have hgo := ex_tail G x f pl mi si hi sl r' nx hx (fun rv M' => rv = none ∧ ∃ (hi' : au_A → Int → Int) (r' : au_A → Int → Option au_A), M' = (mi, si, hi', sl, r', nx) ∧ (∀ b, b ≠ (x, 0, 5) → hi' b = hi b ∧ r' b = r b) ∧ hi' (x, 0, 5) 6 = f ∧ hi' (x, 0, 5) 7 = pl) ⟨rfl, _, r', rfl, fun b hb => ⟨by
    funext j
    simp only [au_up]
    rw [if_neg (fun z => hb z.1), if_neg (fun z => hb z.1)], hr1 b hb⟩, by simp [au_up], by simp [au_up]⟩
    p e s m cs.toArray below meth c ad ad Lv Lv H1 ls [] ([] ++ Ls) hCx hin hP' rfl hLr trivial hS' au_ext.rf
  obtain ⟨t, a1, b1⟩ := hgo _ hH1 X2
  exact ⟨t, st _ a1, b1⟩
