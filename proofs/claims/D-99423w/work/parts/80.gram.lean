/-! PURE: the grammar of a sum and the machine of waiting signs, over the signs of a text (so: the sort, en: where the next begins, nu: the number) -/
set_option maxRecDepth 100000
abbrev au_Co : Type := List (Int × Int)
abbrev au_PV : Type := au_F × au_Co
/-- a fault and where, or a thing and where it goes on -/
abbrev au_R (α : Type) : Type := (Int × Int) ⊕ (α × Int)
def bnd {α β : Type} (r : au_R α) (k : α → Int → au_R β) : au_R β := match r with
  | .inl e => .inl e
  | .inr (a, p) => k a p
def nmI (s : Int) : Int := if s = 208 then 0 else if s = 211 then 1 else if s = 223 then 2 else if s = 224 then 3 else if s = 225 then 4 else if s = 226 then 5 else if s = 210 then 6 else if s = 212 then 7 else if s = 227 then 8 else -1
def mayN (kd k : Int) : Bool := decide (k < 7 ∨ kd = 0 ∨ (k = 7 ∧ kd = 1))
def isPM (s : Int) : Bool := decide (s = 43 ∨ s = 45)
def isTD (s : Int) : Bool := decide (s = 42 ∨ s = 47)
def isCm (s : Int) : Bool := decide (s = 60 ∨ s = 62 ∨ s = 61 ∨ s = 35 ∨ s = 303 ∨ s = 304)
def opO (s : Int) : Int := if s = 43 then 6 else if s = 45 then 7 else if s = 42 then 8 else 9
def cmO (s : Int) : Int := if s = 60 then 10 else if s = 303 then 11 else if s = 62 then 12 else if s = 304 then 13 else if s = 61 then 14 else if s = 35 then 15 else -1
section GR
variable (so en nu : Int → Int) (kd : Int)
/-- a chain from the left -/
def lpB (one : Int → au_R au_PV) (isop : Int → Bool) : Nat → au_PV → Int → au_R au_PV
  | 0, v, p => .inr (v, p)
  | k + 1, v, p => if isop (so p) then bnd (one (en p)) fun w q => lpB one isop k (fun nm => twoF (so p) (v.1 nm) (w.1 nm), v.2 ++ w.2 ++ [(opO (so p), 0)]) q else .inr (v, p)
def gChain (one : Int → au_R au_PV) (isop : Int → Bool) (p : Int) : au_R au_PV := bnd (one p) fun v q => lpB so en one isop 302 v q
def gProd (one : Int → au_R au_PV) : Int → au_R au_PV := gChain so en one isTD
def gSum (one : Int → au_R au_PV) : Int → au_R au_PV := gChain so en (gProd so en one) isPM
def gCmp (one : Int → au_R au_PV) (p : Int) : au_R au_PV := bnd (gSum so en one p) fun a q => if isCm (so q) then bnd (gSum so en one (en q)) fun b r => .inr ((fun nm => cmpF (so q) (a.1 nm - b.1 nm), a.2 ++ b.2 ++ [(cmO (so q), 0)]), r) else .inl (1, q)
/-- askings one behind the other: how many are so, how many there are -/
def lpA (ask : Int → au_R au_PV) (w op : Int) : Nat → au_F × Nat × au_Co → Int → au_R (au_F × Nat × au_Co)
  | 0, v, p => .inr (v, p)
  | k + 1, v, p => if so p = w then bnd (ask (en p)) fun b q => lpA ask w op k (fun nm => v.1 nm + b.1 nm, v.2.1 + 1, v.2.2 ++ b.2 ++ [(op, 0)]) q else .inr (v, p)
def allV (op : Int) (s : au_F × Nat × au_Co) : au_PV := if s.2.1 = 1 then (s.1, s.2.2) else ((fun nm => if op = 22 then (if 0 < s.1 nm then 1 else 0) else (if s.1 nm = (s.2.1 : Int) then 1 else 0)), s.2.2)
def gAll (ask : Int → au_R au_PV) (w op : Int) (p : Int) : au_R au_PV := bnd (ask p) fun v q => bnd (lpA so en ask w op 302 (v.1, 1, v.2) q) fun s r => .inr (allV op s, r)
def gBoth (ask : Int → au_R au_PV) : Int → au_R au_PV := gAll so en ask 221 21
def gEither (ask : Int → au_R au_PV) : Int → au_R au_PV := gAll so en (gBoth so en ask) 220 22
/-- what opens -/
def gDeep (one ask : Int → au_R au_PV) (p : Int) : au_R au_PV :=
  if so p = 40 then bnd (gSum so en one (en p)) fun v q => if so q = 41 then .inr (v, en q) else .inl (1, q)
  else if so p = 45 then bnd (one (en p)) fun v q => .inr ((fun nm => -v.1 nm, v.2 ++ [(5, 0)]), q)
  else if so p = 215 then bnd (one (en p)) fun v q => .inr ((fun nm => rnkF nm (v.1 nm), v.2 ++ [(2, 0)]), q)
  else if so p = 213 then bnd (one (en p)) fun v q => if so q = 214 then bnd (one (en q)) fun w r => .inr ((fun nm => hlvF (v.1 nm) (w.1 nm).toNat, v.2 ++ w.2 ++ [(4, 0)]), r) else .inl (1, q)
  else bnd (gEither so en ask (en p)) fun a q => if so q = 217 then bnd (gSum so en one (en q)) fun v r => if so r = 218 then bnd (gSum so en one (en r)) fun w t => if so t = 219 then .inr ((fun nm => if a.1 nm = 0 then w.1 nm else v.1 nm, a.2 ++ v.2 ++ w.2 ++ [(3, 0)]), en t) else .inl (1, t) else .inl (1, r) else .inl (1, q)
def isDp (s : Int) : Bool := decide (s = 40 ∨ s = 45 ∨ s = 215 ∨ s = 213 ∨ s = 216)
def gAtom (dp : Int → au_R au_PV) (p : Int) : au_R au_PV :=
  if so p = 300 then (if nu p ≤ 9999 then .inr ((fun _ => nu p, [(0, nu p)]), en p) else .inl (2, p))
  else if 0 ≤ nmI (so p) then (if mayN kd (nmI (so p)) then .inr ((fun nm => nm (nmI (so p)), [(1, nmI (so p))]), en p) else .inl (5, p))
  else if isDp (so p) then dp p
  else .inl (1, p)
/-- one thing, an asking, by how many may open yet -/
def gLv : Nat → (Int → au_R au_PV) × (Int → au_R au_PV)
  | 0 => (gAtom so en nu kd (fun p => .inl (3, p)), fun p => if so p = 222 then .inl (3, p) else gCmp so en (gAtom so en nu kd (fun p => .inl (3, p))) p)
  | d + 1 => (gAtom so en nu kd (gDeep so en (gLv d).1 (gLv d).2), fun p => if so p = 222 then bnd ((gLv d).2 (en p)) (fun v q => .inr ((fun nm => 1 - v.1 nm, v.2 ++ [(20, 0)]), q)) else gCmp so en (gAtom so en nu kd (gDeep so en (gLv d).1 (gLv d).2)) p)
end GR
/-! the machine -/
def wRk (o : Int) : Int := if 40 ≤ o then 0 else if o = 22 then 1 else if o = 21 then 2 else if o = 20 then 3 else if 10 ≤ o then 4 else if o = 5 ∨ o = 2 ∨ o = 4 then 7 else if 8 ≤ o then 6 else 5
def stl (l : Int) : List Int → au_Co → Int → List Int × au_Co × Int
  | [], c, o => ([], c, o)
  | x :: W, c, o => if l ≤ wRk x then stl l W (c ++ [(x, 0)]) (if wRk x = 7 ∨ x = 20 then o - 1 else o) else (x :: W, c, o)
def opn : List Int → Int
  | [] => -1
  | x :: W => if 40 ≤ x then x else opn W
def cmd : List Int → Bool
  | [] => false
  | x :: W => if 4 < wRk x then cmd W else decide (wRk x = 4)
def ahd (W : List Int) : Bool := decide (opn W = 42) && match W with
  | [] => false
  | x :: _ => decide (40 ≤ x ∨ (1 ≤ wRk x ∧ wRk x ≤ 3))
def sto (v : Int) : List Int → List Int
  | [] => []
  | x :: W => if 40 ≤ x then v :: W else x :: sto v W
/-- where, what waits, what is done, how many are open, whether a whole one stands before it -/
abbrev au_MS : Type := Int × List Int × au_Co × Int × Bool
section MA
variable (so en nu : Int → Int) (kd : Int)
def endM (p : Int) (W : List Int) (c : au_Co) (o : Int) : (Int × Int) ⊕ au_MS :=
  match (stl 7 W c o).1 with
  | [] => .inr (p, [], (stl 7 W c o).2.1, (stl 7 W c o).2.2, true)
  | x :: R => if x = 41 then (if so p = 214 then .inr (en p, 4 :: R, (stl 7 W c o).2.1, (stl 7 W c o).2.2, false) else .inl (1, p)) else .inr (p, x :: R, (stl 7 W c o).2.1, (stl 7 W c o).2.2, true)
def opnM (x : Int) (p : Int) (W : List Int) (c : au_Co) (o : Int) : (Int × Int) ⊕ au_MS := if o = 8 then .inl (3, p) else .inr (en p, x :: W, c, o + 1, false)
def dpO (s : Int) : Int := if s = 40 then 40 else if s = 45 then 5 else if s = 213 then 41 else if s = 215 then 2 else 42
def begM (p : Int) (W : List Int) (c : au_Co) (o : Int) : (Int × Int) ⊕ au_MS :=
  if so p = 300 ∧ 9999 < nu p then .inl (2, p)
  else if 0 ≤ nmI (so p) ∧ mayN kd (nmI (so p)) = false then .inl (5, p)
  else if so p = 300 then endM so en (en p) W (c ++ [(0, nu p)]) o
  else if 0 ≤ nmI (so p) then endM so en (en p) W (c ++ [(1, nmI (so p))]) o
  else if isDp (so p) then opnM en (dpO (so p)) p W c o
  else if so p = 222 ∧ ahd W = true then opnM en 20 p W c o
  else .inl (1, p)
def betM (p : Int) (W : List Int) : Int :=
  if isPM (so p) || isTD (so p) then opO (so p)
  else if opn W ≠ 42 then -1
  else if cmd W = false then cmO (so p)
  else if so p = 221 then 21 else if so p = 220 then 22 else -1
def parM (p : Int) (W : List Int) : Int :=
  if opn W = 40 then (if so p = 41 then 0 else -1)
  else if opn W = 42 then (if so p = 217 ∧ cmd W = true then 43 else -1)
  else if opn W = 43 then (if so p = 218 then 44 else -1)
  else if opn W = 44 then (if so p = 219 then 0 else -1)
  else -1
def behM (p : Int) (W : List Int) (c : au_Co) (o : Int) : (Int × Int) ⊕ au_MS :=
  if 0 ≤ betM so p W then
    .inr (en p, betM so p W :: (stl (if wRk (betM so p W) = 4 then 5 else wRk (betM so p W)) W c o).1, (stl (if wRk (betM so p W) = 4 then 5 else wRk (betM so p W)) W c o).2.1, (stl (if wRk (betM so p W) = 4 then 5 else wRk (betM so p W)) W c o).2.2, false)
  else if parM so p W < 0 then .inl (-1, p)
  else if parM so p W = 0 then endM so en (en p) ((stl 1 W c o).1.drop 1) ((stl 1 W c o).2.1 ++ (if opn W = 44 then [(3, 0)] else [])) ((stl 1 W c o).2.2 - 1)
  else .inr (en p, sto (parM so p W) (stl 1 W c o).1, (stl 1 W c o).2.1, (stl 1 W c o).2.2, false)
def stpM (s : au_MS) : (Int × Int) ⊕ au_MS := if s.2.2.2.2 = true then behM so en s.1 s.2.1 s.2.2.1 s.2.2.2.1 else begM so en nu kd s.1 s.2.1 s.2.2.1 s.2.2.2.1
/-- to the end -/
def runM : Nat → au_MS → Option (au_R au_Co)
  | 0, _ => none
  | k + 1, s => match stpM so en nu kd s with
    | .inr s' => runM k s'
    | .inl (f, p) => if 0 < f then some (.inl (f, p)) else if 0 ≤ opn s.2.1 then some (.inl (1, p)) else some (.inr ((stl 1 s.2.1 s.2.2.1 s.2.2.2.1).2.1, p))
def Rt (s : au_MS) (r : au_R au_Co) : Prop := ∃ k, runM so en nu kd k s = some r
def Re (q : Int) (W : List Int) (c : au_Co) (o : Int) (r : au_R au_Co) : Prop := match endM so en q W c o with
  | .inl e => r = .inl e
  | .inr s => Rt so en nu kd s r
end MA
