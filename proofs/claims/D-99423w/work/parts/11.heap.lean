/-! THE WORLD: memory, cells, the picture of the heap, what is fixed for a run, the judgement -/
set_option maxRecDepth 100000
/-- the classes whose objects the world holds, by kind: X0 .. X16, then ArrayList and Integer -/
def au_cl : List vw_C := [(RX0, TX0, 15), (RX1, TX1, 11), (RX2, TX2, 35), (RX3, TX3, 8), (RX4, TX4, 3), (RX5, TX5, 8), (RX6, TX6, 3), (RX7, TX7, 1), (RX8, TX8, 1), (RX9, TX9, 3), (RX10, TX10, 2), (RX11, TX11, 3), (RX12, TX12, 2), (RX13, TX13, 1), (RX14, TX14, 1), (RX15, TX15, 1), (RX16, TX16, 5), (RJ3, TJ3, 3), (RJ15, TJ15, 1)]
def au_ty (c : Nat) : Nat → FieldType := match c with
  | 0 => tyX0 | 1 => tyX1 | 2 => tyX2 | 3 => tyX3 | 4 => tyX4 | 5 => tyX5 | 6 => tyX6 | 7 => tyX7 | 8 => tyX8 | 9 => tyX9 | 10 => tyX10
  | 11 => tyX11 | 12 => tyX12 | 13 => tyX13 | 14 => tyX14 | 15 => tyX15 | 16 => tyX16 | 17 => tyJ3 | _ => tyJ15
def au_N (c : Nat) : Nat := match c with
  | 0 => 15 | 1 => 11 | 2 => 35 | 3 => 8 | 4 => 3 | 5 => 8 | 6 => 3 | 7 => 1 | 8 => 1 | 9 => 3 | 10 => 2
  | 11 => 3 | 12 => 2 | 13 => 1 | 14 => 1 | 15 => 1 | 16 => 5 | 17 => 3 | 18 => 1 | _ => 0
/-- the component of an array of a kind -/
def au_et (kd : Nat) : FieldType := match kd with
  | 40 => .int | 41 => .byte | 42 => .long | 43 => .boolean | 44 => .array .int | 45 => .object "java/lang/Object" | 46 => .object "ApologyUp$Sum" | 47 => .object "ApologyUp$Text" | _ => .object "java/lang/String"
/-- int-like 0, long 1, reference 2 -/
def au_tv (t : FieldType) : Nat := match t with
  | .long => 1 | .array _ => 2 | .object _ => 2 | _ => 0
/-- memory: main ints, scratch ints, ints of things made in a run, longs, references, the next cell's number -/
abbrev au_M : Type := (au_A → Int → Int) × (au_A → Int → Int) × (au_A → Int → Int) × (au_A → Int → Int) × (au_A → Int → Option au_A) × Nat
/-- the first number of a cell that the law makes; the first one behind the two systems' own cells -/
abbrev au_KS : Nat := 1000
abbrev au_KF : Nat := 1126
/-- scratch among the two systems' own cells: what no call reads that another call wrote -/
def au_scr (n : Nat) (j : Int) : Bool := (n == 1000 && (j == 10 || j == 11 || j == 12 || j == 14)) || n == 1106 || n == 1108 || n == 1109 || n == 1110 || (n == 1111 && ((decide (7 ≤ j) && decide (j ≤ 19)) || j == 24 || j == 25 || j == 31 || j == 32 || j == 34)) || (decide (1116 ≤ n) && decide (n ≤ 1125))
def au_reg (a : au_A) (j : Int) : Nat := if decide (a.1 < 1126) then (if au_scr a.1 j then 1 else 0) else if a.2.2 == 40 then 1 else 2
def au_gi (M : au_M) (a : au_A) (j : Int) : Int := match au_reg a j with
  | 0 => M.1 a j | 1 => M.2.1 a j | _ => M.2.2.1 a j
def au_val (k : Nat) (M : au_M) (a : au_A) (j : Int) : au_V := match k with
  | 0 => au_i (au_gi M a j) | 1 => au_l (M.2.2.2.1 a j) | _ => au_q (M.2.2.2.2.1 a j)
/-- the run: the launch, the classes' numbers, the array classes' numbers, the addresses of old cells, the heap's size at the law's start -/
abbrev au_G : Type := Launch × va_G × (Nat → ClassId) × (au_A → Nat) × Nat
def au_C (G : au_G) (ad : au_A → Nat) (Lv : au_A → Prop) (M : au_M) (a : au_A) (H : Heap) : Prop :=
  (a.2.2 < 40 → ∃ fs : List Value, va_at G.2.1 au_cl (ad a, .inr (a.2.2, fs)) H ∧ fs.length = au_N a.2.2 ∧ ∀ k : Nat, k < au_N a.2.2 → ∃ c, fs[k]? = some c ∧ au_rel ad Lv (au_val (au_tv (au_ty a.2.2 k)) M a (k : Int)) c) ∧
  (40 ≤ a.2.2 → a.2.2 < 60 → ∃ f : Nat → Value, H[ad a]? = some (arrV (G.2.2.1 a.2.2) a.2.1 f) ∧ ∀ i : Nat, i < a.2.1 → au_rel ad Lv (au_val (au_tv (au_et a.2.2)) M a (i : Int)) (f i))
def au_P (G : au_G) (ad : au_A → Nat) (Lv : au_A → Prop) (M : au_M) (H : Heap) : Prop :=
  (∀ a, Lv a → au_C G ad Lv M a H) ∧ (∀ a b, Lv a → Lv b → a.2.2 < 60 → b.2.2 < 60 → ad a = ad b → a = b) ∧ (∀ a, Lv a → a.1 < M.2.2.2.2.2) ∧ (∀ a, Lv a → a.1 < 1000 ∨ G.2.2.2.2 ≤ ad a) ∧ (∀ a : au_A, a.1 < 1000 → a.2.2 = 60 → Lv a ∧ ad a = G.2.2.2.1 a) ∧ (∀ a, Lv a → ad a < H.size)
def au_tys (G : au_G) : List (ClassId × FieldType) := [(G.2.2.1 40, au_et 40), (G.2.2.1 41, au_et 41), (G.2.2.1 42, au_et 42), (G.2.2.1 43, au_et 43), (G.2.2.1 44, au_et 44), (G.2.2.1 45, au_et 45), (G.2.2.1 46, au_et 46), (G.2.2.1 47, au_et 47), (G.2.2.1 48, au_et 48)]
def au_cv (G : au_G) (v : au_V) : Value := match v with
  | .inl x => .int (Int32.ofInt x)
  | .inr (.inl x) => .long (Int64.ofInt x)
  | .inr (.inr none) => .null
  | .inr (.inr (some a)) => .ref (G.2.2.2.1 a)
/-- statics: class, name, descriptor, what it holds -/
def au_sta : List (String × String × String × au_V) := [("ApologyUp", "NOTHING", "LApologyUp$Text;", au_r (190, 0, 60)), ("ApologyUp$Tokens", "WORDS", "[Ljava/lang/String;", au_r (192, 28, 60)), ("ApologyUp$Tokens", "NAMED", "[I", au_r (193, 9, 60)), ("java/lang/Integer$IntegerCache", "high", "I", au_i 127), ("java/lang/Integer$IntegerCache", "cache", "[Ljava/lang/Integer;", au_r (194, 256, 60)), ("java/util/ArrayList", "DEFAULTCAPACITY_EMPTY_ELEMENTDATA", "[Ljava/lang/Object;", au_r (195, 0, 60)), ("java/lang/String", "COMPACT_STRINGS", "Z", au_i 1)]
/-- statics of which only a reference or null is known -/
def au_stu : List (String × String × String × au_A) := [("jdk/internal/util/Preconditions", "SIOOBE_FORMATTER", "Ljava/util/function/BiFunction;", (196, 0, 60)), ("java/lang/Throwable", "UNASSIGNED_STACK", "[Ljava/lang/StackTraceElement;", (197, 0, 60)), ("java/lang/Throwable", "SUPPRESSED_SENTINEL", "Ljava/util/List;", (198, 0, 60))]
/-- a small whole number's Integer: an old cell -/
def ic (s : Int) : au_A := ((s + 328).toNat, 0, 60)
/-- the texts of the String constants: the words, the signs -/
def au_byt : List (List Int32) := [[97, 100, 100, 115], [112, 97, 114, 100, 111, 110, 115], [119, 101, 97, 114, 115], [111, 102, 102, 105, 99, 101, 114], [99, 111, 117, 115, 105, 110], [119, 114, 111, 110, 103], [97, 119, 97, 121], [115, 101, 110, 100], [100, 97, 121], [117, 110, 100, 101, 114], [116, 111], [115, 105, 122, 101], [100, 97, 121, 115], [104, 97, 108, 118, 101, 115], [98, 121], [114, 97, 110, 107, 115], [105, 102], [116, 104, 101, 110], [101, 108, 115, 101], [101, 110, 100], [111, 114], [97, 110, 100], [110, 111, 116], [119, 104, 111], [112, 114, 105, 100, 101], [114, 97, 110, 107], [102, 114, 111, 109], [100, 101, 115, 107], [60, 62, 61, 35, 43, 45, 42, 47, 40, 41, 59]]
def au_len : List Nat := [4, 7, 5, 7, 6, 5, 4, 4, 3, 5, 2, 4, 4, 6, 2, 5, 2, 4, 4, 3, 2, 3, 3, 3, 5, 4, 4, 4, 11]
def au_sn (i : Nat) : au_A := (600 + i, 0, 60)
def au_bn (i : Nat) : au_A := (640 + i, au_len.getD i 0, 60)
def au_nmd : List Int32 := [208, 211, 223, 224, 225, 226, 210, 212, 227]
abbrev au_new (G : au_G) : Nat → Prop := fun q => G.2.2.2.2 ≤ q
/-- what is known of old things -/
def au_old (G : au_G) (s : State) (H : Heap) : Prop :=
  (∀ q ∈ au_sta, va_Z q.1 q.2.1 q.2.2.1 (au_cv G q.2.2.2) (au_new G) s H) ∧
  (∀ q ∈ au_stu, (va_Z q.1 q.2.1 q.2.2.1 .null (au_new G) s H ∨ va_Z q.1 q.2.1 q.2.2.1 (.ref (G.2.2.2.1 q.2.2.2)) (au_new G) s H) ∧ vx_L q.1 q.2.1 q.2.2.1 (au_new G) s H) ∧
  va_O "ApologyUp$Text" (G.2.2.2.1 (190, 0, 60)) (au_new G) s H ∧
  va_OF "ApologyUp$Text" "law" "[LApologyUp$Sum;" (.ref (G.2.2.2.1 (191, 3, 60))) (G.2.2.2.1 (190, 0, 60)) (au_new G) s H ∧
  va_T (.object "ApologyUp$Sum") (G.2.2.2.1 (191, 3, 60)) 3 (fun _ => .null) (au_new G) s H ∧
  va_T (.object "java/lang/String") (G.2.2.2.1 (192, 28, 60)) 28 (fun j => .ref (G.2.2.2.1 (au_sn j))) (au_new G) s H ∧
  va_T .int (G.2.2.2.1 (193, 9, 60)) 9 (fun j => .int (au_nmd.getD j 0)) (au_new G) s H ∧
  va_T (.object "java/lang/Integer") (G.2.2.2.1 (194, 256, 60)) 256 (fun j => .ref (G.2.2.2.1 (ic ((j : Int) - 128)))) (au_new G) s H ∧
  (∀ v : Int, -128 ≤ v → v ≤ 127 → va_O "java/lang/Integer" (G.2.2.2.1 (ic v)) (au_new G) s H ∧ va_OF "java/lang/Integer" "value" "I" (.int (Int32.ofInt v)) (G.2.2.2.1 (ic v)) (au_new G) s H) ∧
  va_T (.object "java/lang/Object") (G.2.2.2.1 (195, 0, 60)) 0 (fun _ => .null) (au_new G) s H ∧
  vk_S 29 au_len au_byt (fun i => G.2.2.2.1 (au_sn i)) (fun i => G.2.2.2.1 (au_bn i)) (au_new G) s H
theorem au_old.go {G : au_G} {s U : State} {H H1 : Heap} (hvm : s.vm.Alike U.vm) (h : au_old G s H) (hq : ∀ a : Nat, a < H.size → ¬ au_new G a → H1[a]? = H[a]?) : au_old G U H1 := by
  obtain ⟨h1, h2, h3, h4, h5, h6, h7, h8, h9, h10, h11⟩ := h
  exact ⟨fun q k => va_Z.kept (va_Z.moved hvm (h1 q k)) hq, fun q k => ⟨(h2 q k).1.imp (fun z => va_Z.kept (va_Z.moved hvm z) hq) (fun z => va_Z.kept (va_Z.moved hvm z) hq), vx_L.kept (vx_L.moved hvm (h2 q k).2) hq⟩,
    (h3.moved hvm).kept hq, (h4.moved hvm).kept hq, (h5.moved hvm).kept hq, (h6.moved hvm).kept hq, (h7.moved hvm).kept hq, (h8.moved hvm).kept hq, fun v a b => ⟨((h9 v a b).1.moved hvm).kept hq, ((h9 v a b).2.moved hvm).kept hq⟩, (h10.moved hvm).kept hq, (h11.moved hvm).kept hq⟩
/-- nest mates' links, and other words that ride beside the list -/
def au_isN : Cond → Bool
  | .fieldLinkNest .. => true
  | .methodLinkNest .. => true
  | .declares _ => true
  | .castable .. => true
  | _ => false
theorem au_tr {u U : State} {c : Cond} (hc : c.onTables = true) (h : c.before #[] (u.setVm U.vm) = true) : c.before #[] U = true := by
  have e := Cond.onTables_vm (A := #[]) (A' := #[]) (U := u) (U' := U) U.vm c hc
  have hU : U.setVm U.vm = U := rfl
  rw [hU] at e
  rw [← e]
  exact h
def au_nst (G : au_G) (s : State) : Prop := (∀ w ∈ lw_tbl, au_isN w = true → va_Nw w s) ∧ vk_R "ApologyUp$Tokens" 53 "<>=#+-*/();" (G.2.2.2.1 (au_sn 28)) s
theorem au_nst.warm {G : au_G} {s U : State} (hW : s.WarmedH U.vm) (h : au_nst G s) : au_nst G U := by
  refine ⟨?_, vk_R.warm hW h.2⟩
  intro w hw hn
  have h1 := h.1 w hw hn
  match w, hn, h1 with
  | .fieldLinkNest a i b n d h', _, h1 => exact va_Nw.warmF hW h1
  | .methodLinkNest a i x h', _, h1 => exact va_Nw.warmM hW h1
  | .declares x, _, h1 => exact au_tr (u := s) rfl (by rw [Cond.declares_setVm hW.alike]; exact h1)
  | .castable a b, _, h1 => exact au_tr (u := s) rfl (by rw [Cond.castable_setVm hW.alike]; exact h1)
theorem au_nst.same {G : au_G} {s U : State} (hv : s.vm = U.vm) (h : au_nst G s) : au_nst G U := by
  refine ⟨?_, vk_R.same hv.symm h.2⟩
  intro w hw hn
  have h1 := h.1 w hw hn
  match w, hn, h1 with
  | .fieldLinkNest a i b n d h', _, h1 => exact va_Nw.same rfl hv h1
  | .methodLinkNest a i x h', _, h1 => exact va_Nw.same rfl hv h1
  | .declares x, _, h1 => exact va_Nw.same rfl hv h1
  | .castable a b, _, h1 => exact va_Nw.same rfl hv h1
def au_fw (C : String) (x y : MethodName) : Prop := (x.cls ≠ "java/lang/invoke/MethodHandle" ∧ x.cls ≠ "java/lang/invoke/VarHandle") ∧ Cond.declares x ∈ lw_tbl ∧ Cond.interfaceMethod x.cls x.cls x.name x.desc ∈ lw_tbl ∧ Cond.publicMethod y ∈ lw_tbl ∧ Cond.unhidden C x.name x.desc ∈ lw_tbl ∧ Cond.castable C x.cls ∈ lw_tbl
def au_oth (s : State) : Prop := (∀ C : String, Cond.arrayOver (.object C) ∈ lw_tbl → va_AO C s) ∧ (∀ (C : String) (x y : MethodName), au_fw C x y → va_Fw C x y s)
theorem au_oth.moved {s U : State} (hv : s.vm.Alike U.vm) (h : au_oth s) : au_oth U := ⟨fun C hC => (h.1 C hC).moved hv, fun C x y q => va_Fw.moved q.1 hv (h.2 C x y q)⟩
/-- what holds of the tables and statics at every method's start -/
def au_U (G : au_G) (s : State) (H : Heap) : Prop :=
  va_K G.2.1 au_cl (au_tys G) s ∧ au_old G s H ∧ G.2.2.2.2 ≤ H.size ∧ au_nst G s ∧ au_oth s
theorem au_U.go {G : au_G} {s U : State} {H H1 : Heap} (hvm : s.vm.Alike U.vm) (h : au_U G s H) (hN : au_nst G U) (hq : ∀ a : Nat, a < H.size → ¬ au_new G a → H1[a]? = H[a]?) (hz : H.size ≤ H1.size) : au_U G U H1 :=
  ⟨va_K.moved hvm h.1, h.2.1.go hvm hq, Nat.le_trans h.2.2.1 hz, hN, h.2.2.2.2.moved hvm⟩
/-- the one method of the system that has handlers -/
def au_hh : List (Nat × Nat × Nat × Nat) := [(30, 62, 70, 109), (30, 62, 96, 0), (70, 89, 96, 0), (96, 98, 96, 0)]
def au_tb (own nm : String) (c : Code) : Prop := (c.exceptionTable.toList = [] ∧ (own ≠ "ApologyUp" ∨ nm ≠ "text")) ∨ (own = "ApologyUp" ∧ nm = "text" ∧ c.exceptionTable.toList = tableOf au_hh)
/-- a method's frame: the machine's facts that hold all through its body -/
def au_Cx (G : au_G) (own : String) (cc : ByteArray) (nL : Nat) (rt : Option FieldType) (p : Program) (e : Env) (s : State) (m : MethodId) (args : Array Value) (meth : Method) (c : Code) : Prop :=
  p.tables.exec = Jvm.exec ∧ c.code = cc ∧ c.maxLocals = nL ∧ meth.sig.returnType = rt ∧ (meth.locks = false ∧ au_tb own meth.name c) ∧ s.vm.findClass own = some m.cls ∧ (∀ w ∈ lw_all, w.before args s = true) ∧ au_U G s s.heap
/-- who asks: what a method's end must be -/
abbrev au_Qf : Type := (au_A → Nat) → (au_A → Prop) → List Frame → Array Value → State → State → Prop
/-- the method's own numbers: its class, code, locals, answer, room -/
abbrev au_K : Type := String × ByteArray × Nat × Option FieldType × Room × String
def au_Go (G : au_G) (K : au_K) (Qf : au_Qf) (pc : Nat) (L : List (Option au_V)) (st : List au_V) (M : au_M) (ck cs : Nat) : Prop :=
  ∀ (p : Program) (e : Env) (s : State) (m : MethodId) (args : Array Value) (below : List Frame) (meth : Method) (c : Code) (ad0 ad : au_A → Nat) (Lv0 Lv : au_A → Prop) (H : Heap) (ls : Array Slot) (cst : List Value) (locs : List Loc),
    au_Cx G K.1 K.2.1 K.2.2.1 K.2.2.2.1 p e s m args meth c → meth.name = K.2.2.2.2.2 → au_P G ad Lv M H → L.length = K.2.2.1 → au_Lr ad Lv L ls → au_S ad Lv st cst → va_S (au_new G) s.heap H locs → au_ext ad0 Lv0 ad Lv →
    W p G.1 e K.2.2.2.2.1 s m args below meth c H locs ck cs (Qf ad0 Lv0 below args s) (F0 m pc ls cst)
def au_relO (ad : au_A → Nat) (Lv : au_A → Prop) (rv : Option au_V) (cv : Option Value) : Prop := match rv, cv with
  | none, none => True
  | some v, some c => au_rel ad Lv v c
  | _, _ => False
/-- how a method that returns ends -/
def au_Q (G : au_G) (Post : Option au_V → au_M → Prop) (ad0 : au_A → Nat) (Lv0 : au_A → Prop) : Array Value → State → Outcome → State → Prop := fun _ st o t =>
  ∃ (rv : Option au_V) (M : au_M) (ad : au_A → Nat) (Lv : au_A → Prop) (cv : Option Value), o = .returned cv ∧ au_relO ad Lv rv cv ∧ Post rv M ∧ au_ext ad0 Lv0 ad Lv ∧ au_P G ad Lv M t.heap ∧ va_F (au_new G) st t
def au_QM (G : au_G) (rm : Room) (Post : Option au_V → au_M → Prop) : au_Qf := fun ad0 Lv0 below args s => MQ below (au_Q G Post ad0 Lv0) args s rm.cells rm.slots (au_new G)
abbrev au_rm (dep mc ms : Nat) : Room := { frames := dep, cells := mc, slots := ms, locals := 80 * dep }
/-- A METHOD's CONTRACT: called with these values in this memory, it returns, and Post says what -/
def au_Ctr (G : au_G) (y : MethodName) (cc : ByteArray) (nL : Nat) (rt : Option FieldType) (dep mc ms : Nat) (as : List au_V) (M : au_M) (Post : Option au_V → au_M → Prop) : Prop :=
  ∀ (ad : au_A → Nat) (Lv : au_A → Prop) (cs : List Value), au_S ad Lv as cs →
    Met G.1 y (ws_ y cc nL rt) (au_rm dep mc ms) (fun v U => v = cs.toArray ∧ au_P G ad Lv M U.heap ∧ au_U G U U.heap) (au_Q G Post ad Lv) mc ms (au_new G)
set_option maxHeartbeats 1000000 in
theorem au_of {G : au_G} {y : MethodName} {cc : ByteArray} {nL : Nat} {rt : Option FieldType} {dep mc ms : Nat} {as : List au_V} {M : au_M} {Post : Option au_V → au_M → Prop} (hy : plainName y.cls = true) (hn : (au_sl as).length ≤ nL)
    (h : au_Go G (y.cls, cc, nL, rt, au_rm dep mc ms, y.name) (au_QM G (au_rm dep mc ms) Post) 0 (au_L0 nL as) [] M 0 0) (hnt : y.cls ≠ "ApologyUp" ∨ y.name ≠ "text" := by first | exact Or.inr (by decide) | exact Or.inl (by decide)) : au_Ctr G y cc nL rt dep mc ms as M Post := by
  intro ad Lv cs hs
  refine Met.ofW (cc := cc) (maxL := nL) (ret := rt) hy rfl ?_
  intro p e s m args below meth c s₁ B hml hv
  obtain ⟨rfl, hP, hU⟩ := hv
  have hts := atoms_spec (ws := ws_ y cc nL rt) B.pre
  have hts : ∀ w ∈ lw_all, w.before _ s = true := fun w h => hts w (List.mem_cons_of_mem _ h)
  have hown : s.vm.findClass y.cls = some m.cls := findClass_of_methodNamed B.named
  have hin : meth.name = y.name := (name_of_methodNamed B.named B.method).1
  have ht : c.exceptionTable.toList = [] := by
    obtain ⟨meth9, c9, h1, h2, -, -, -, -, h7, -⟩ := Cond.code_spec B.named (atoms_spec (ws := ws_ y cc nL rt) B.pre _ List.mem_cons_self)
    cases Option.some.inj (h1.symm.trans B.method)
    cases Option.some.inj (h2.symm.trans (Stand.of_body B).code)
    rw [Array.isEmpty_iff.mp h7]
  rw [lg_entry_eq]
  refine h p e s m _ below meth c ad ad Lv Lv s.heap _ [] [] ⟨B.exec, B.bytes, hml, B.returns, ⟨B.notSynchronized, Or.inl ⟨ht, by rw [hin]; exact hnt⟩⟩, hown, hts, hU⟩ hin hP ?_ (au_L0_ok hs hn) trivial va_S.rf au_ext.rf
  show (au_L0 nL as).length = nL
  simp [au_L0]
  omega
