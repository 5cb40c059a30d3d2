/-! ===== THE ABSTRACT MACHINE (Layer 1, definitions): numbers are Int, a reference is (kind, cell number) ===== -/
/-- a value: an int, a long, a reference (kind of its cell, number of its cell) or null -/
abbrev mV : Type := Int ⊕ (Int ⊕ Option (Nat × Nat))
/-- a world: the kinds and sizes of its cells; the numbers in their slots; the references in their slots -/
abbrev mW : Type := List (Nat × Nat) × (Nat → Nat → Int) × (Nat → Nat → Option Nat)
/-- local variables, by number -/
abbrev mL : Type := List (Nat × mV)
/-- an end: returned (with a value or without), or threw the object of a cell; and the world then -/
abbrev mR : Type := (Option mV ⊕ Nat) × mW
/-- an instruction: its pc, itself, its length, what its operand means (three numbers) -/
abbrev mI : Type := Nat × Instr × Nat × (Nat × Nat × Nat)
/-- a block: whether runs are cut there, which variables are kept there, its instructions -/
abbrev mB : Type := Bool × List Nat × List mI
def w8 (x : Int) : Int := x.bmod 256
def w16 (x : Int) : Int := x.bmod 65536
def w32 (x : Int) : Int := x.bmod 4294967296
def w64 (x : Int) : Int := x.bmod 18446744073709551616
def m_iand (x y : Int) : Int := (Int32.ofInt x &&& Int32.ofInt y).toInt
def m_ior (x y : Int) : Int := (Int32.ofInt x ||| Int32.ofInt y).toInt
def m_ishl (x y : Int) : Int := (Int32.ofInt x <<< (Int32.ofInt y &&& 31)).toInt
def m_ishr (x y : Int) : Int := (Int32.ofInt x >>> (Int32.ofInt y &&& 31)).toInt
def m_land (x y : Int) : Int := (Int64.ofInt x &&& Int64.ofInt y).toInt
def m_lor (x y : Int) : Int := (Int64.ofInt x ||| Int64.ofInt y).toInt
def m_lxor (x y : Int) : Int := (Int64.ofInt x ^^^ Int64.ofInt y).toInt
def m_lshl (x y : Int) : Int := (Int64.ofInt x <<< ((Int32.ofInt y).toInt64 &&& 63)).toInt
def m_lshr (x y : Int) : Int := (Int64.ofInt x >>> ((Int32.ofInt y).toInt64 &&& 63)).toInt
def m_lcmp (x y : Int) : Int := if x < y then -1 else if x = y then 0 else 1
/-- a number in a slot of a cell; the world with another one there -/
def m_get (w : mW) (k j : Nat) : Int := w.2.1 k j
def m_put (w : mW) (k j : Nat) (v : Int) : mW := (w.1, fun a b => if a = k ∧ b = j then v else w.2.1 a b, w.2.2)
def m_ref (w : mW) (k j : Nat) : Option Nat := w.2.2 k j
def m_putr (w : mW) (k j : Nat) (v : Nat) : mW := (w.1, w.2.1, fun a b => if a = k ∧ b = j then some v else w.2.2 a b)
/-- how many slots a cell has; its kind -/
def m_len (w : mW) (k : Nat) : Int := match w.1[k]? with
  | some q => (q.2 : Int)
  | none => 0
/-- a new cell at the end -/
def m_new (w : mW) (c n : Nat) : mW := (w.1 ++ [(c, n)], fun a b => if a = w.1.length then 0 else w.2.1 a b, fun a b => if a = w.1.length then none else w.2.2 a b)
def m_cat : mV → Nat
  | .inr (.inl _) => 2
  | _ => 1
def m_lk : mL → Nat → Option mV
  | [], _ => none
  | q :: r, i => bif Nat.beq q.1 i then some q.2 else m_lk r i
def m_st1 (ls : mL) (i : Nat) (v : mV) : mL := (i, v) :: ls.filter (fun q => !(Nat.beq q.1 i) && !(Nat.beq (q.1 + 1) i && Nat.beq (m_cat q.2) 2))
def m_st2 (ls : mL) (i : Nat) (v : mV) : mL := (i, v) :: ls.filter (fun q => !(Nat.beq q.1 i) && (!(Nat.beq q.1 (i + 1)) && !(Nat.beq (q.1 + 1) i && Nat.beq (m_cat q.2) 2)))
def m_pick (live : List Nat) (ls : mL) : mL := live.filterMap (fun i => (m_lk ls i).map (fun v => (i, v)))
/-- the handler of a place -/
def m_hd : List (Nat × Nat × Nat) → Nat → Option Nat
  | [], _ => none
  | q :: r, pc => bif Nat.ble q.1 pc && Nat.blt pc q.2.1 then some q.2.2 else m_hd r pc
def m_cond (c : ClassFile.Cond) (x y : Int) (a b : Option mR) : Option mR := match c with
  | .eq => if x = y then a else b
  | .ne => if x = y then b else a
  | .lt => if x < y then a else b
  | .ge => if x < y then b else a
  | .gt => if y < x then a else b
  | .le => if y < x then b else a
/-- a guard -/
def m_g (p : Prop) [Decidable p] (a : Option mR) : Option mR := if p then a else none
/-- behind a call, by the kind of its answer -/
def m_bv (r : Option mR) (k : mW → Option mR) (h : Nat → mW → Option mR) : Option mR := match r with
  | some (.inl none, w) => k w
  | some (.inr x, w) => h x w
  | _ => none
def m_bi (r : Option mR) (k : Int → mW → Option mR) (h : Nat → mW → Option mR) : Option mR := match r with
  | some (.inl (some (.inl x)), w) => k x w
  | some (.inr x, w) => h x w
  | _ => none
def m_bl (r : Option mR) (k : Int → mW → Option mR) (h : Nat → mW → Option mR) : Option mR := match r with
  | some (.inl (some (.inr (.inl x))), w) => k x w
  | some (.inr x, w) => h x w
  | _ => none
def m_br (r : Option mR) (k : Nat → Nat → mW → Option mR) (h : Nat → mW → Option mR) : Option mR := match r with
  | some (.inl (some (.inr (.inr (some q)))), w) => k q.1 q.2 w
  | some (.inr x, w) => h x w
  | _ => none
def m_bn (r : Option Nat) (k : Nat → Option mR) : Option mR := match r with
  | some x => k x
  | none => none
/-- switches -/
def m_sw (x : Int) : Int → List Int → (Int → Option mR) → Option mR → Option mR
  | _, [], _, d => d
  | v, o :: r, k, d => if x = v then k o else m_sw x (v + 1) r k d
def m_lsw (x : Int) : List (Int × Int) → (Int → Option mR) → Option mR → Option mR
  | [], _, d => d
  | q :: r, k, d => if x = q.1 then k q.2 else m_lsw x r k d
/-- what stands on the pile -/
def m_p1 (st : List mV) (k : Int → List mV → Option mR) : Option mR := match st with
  | .inl x :: r => k x r
  | _ => none
def m_p2 (st : List mV) (k : Int → Int → List mV → Option mR) : Option mR := match st with
  | .inl y :: .inl x :: r => k x y r
  | _ => none
def m_pl (st : List mV) (k : Int → List mV → Option mR) : Option mR := match st with
  | .inr (.inl x) :: r => k x r
  | _ => none
def m_pll (st : List mV) (k : Int → Int → List mV → Option mR) : Option mR := match st with
  | .inr (.inl y) :: .inr (.inl x) :: r => k x y r
  | _ => none
def m_pli (st : List mV) (k : Int → Int → List mV → Option mR) : Option mR := match st with
  | .inl y :: .inr (.inl x) :: r => k x y r
  | _ => none
def m_pr (st : List mV) (k : Nat → Nat → List mV → Option mR) : Option mR := match st with
  | .inr (.inr (some q)) :: r => k q.1 q.2 r
  | _ => none
/-- an index over an array; a value over these -/
def m_pai (st : List mV) (k : Nat → Nat → Int → List mV → Option mR) : Option mR := match st with
  | .inl i :: .inr (.inr (some q)) :: r => k q.1 q.2 i r
  | _ => none
def m_pvi (st : List mV) (k : Nat → Nat → Int → Int → List mV → Option mR) : Option mR := match st with
  | .inl v :: .inl i :: .inr (.inr (some q)) :: r => k q.1 q.2 i v r
  | _ => none
def m_pvl (st : List mV) (k : Nat → Nat → Int → Int → List mV → Option mR) : Option mR := match st with
  | .inr (.inl v) :: .inl i :: .inr (.inr (some q)) :: r => k q.1 q.2 i v r
  | _ => none
def m_pvr (st : List mV) (k : Nat → Nat → Int → Nat → Nat → List mV → Option mR) : Option mR := match st with
  | .inr (.inr (some v)) :: .inl i :: .inr (.inr (some q)) :: r => k q.1 q.2 i v.1 v.2 r
  | _ => none
/-- the arguments of a call, the last on top: in order, and what is below -/
def m_args : Nat → List mV → List mV → Option (List mV × List mV)
  | 0, as, st => some (as, st)
  | n + 1, as, v :: st => m_args n (v :: as) st
  | _ + 1, _, [] => none
/-- how many words stand on the pile -/
def m_wd : List mV → Nat
  | [] => 0
  | v :: t => m_cat v + m_wd t
/-- a receiver of a kind -/
def m_rcv (t : Nat) : List mV → Bool
  | .inr (.inr (some q)) :: _ => Nat.beq q.1 t
  | _ => false
def m_rv (t k : Nat) : mV := .inr (.inr (some (t, k)))
/-- a throw that isn't caught here -/
def m_up (x : Nat) (w : mW) : Option mR := some (.inr x, w)
def m_li (x : Int) : mV := .inl x
def m_ll (x : Int) : mV := .inr (.inl x)
/-! kinds of cells: 0 WatchedObjects, 1 Edition, 2 Names, 3 Type, 4 Code, 5 Reader, 6 Counts, 7 Tokens, 8 IllegalStateException, 9 WatchedObjectsModel, 10 String (a constant, by its number);
arrays: 20 byte[], 21 boolean[], 22 short[], 23 char[], 24 int[], 25 long[], 26 String[], 27 Type[]; 28 the law's script -/
def m_go (B : Nat → Option mB) (J : Nat → mL → List mV → mW → Option mR) (ev : List mI → mL → List mV → mW → Option mR) (pc : Nat) (ls : mL) (st : List mV) (w : mW) : Option mR := match B pc with
  | none => none
  | some (true, live, _) => J pc (m_pick live ls) st w
  | some (false, _, cd) => ev cd ls st w
def m_thr (B : Nat → Option mB) (Hd : List (Nat × Nat × Nat)) (J : Nat → mL → List mV → mW → Option mR) (ev : List mI → mL → List mV → mW → Option mR) (pc : Nat) (ls : mL) (x : Nat) (w : mW) : Option mR := match m_hd Hd pc with
  | none => some (.inr x, w)
  | some t => m_go B J ev t ls [m_rv 8 x] w
/-- ONE BLOCK's RUN. md: whether fields that are set once may be told by lay; B: the method's blocks; Hd: its handlers; cl: calls; J: what runs are cut at -/
def m_ev (md : Bool) (lay : Nat → Nat → Nat → Nat) (B : Nat → Option mB) (Hd : List (Nat × Nat × Nat)) (cl : Nat → List mV → mW → Option mR) (J : Nat → mL → List mV → mW → Option mR) : Nat → List mI → mL → List mV → mW → Option mR
  | 0, _, _, _, _ => none
  | n + 1, cd, ls, st, w => match cd with
    | [] => none
    | (pc, i, len, a) :: rest => match i with
      -- a block's end without a jump
      | .nop => m_go B J (m_ev md lay B Hd cl J n) pc ls st w
      | .goto off => m_go B J (m_ev md lay B Hd cl J n) ((pc : Int) + off).toNat ls st w
      | .ifCond c off => m_p1 st fun x r => m_cond c x 0 (m_go B J (m_ev md lay B Hd cl J n) ((pc : Int) + off).toNat ls r w) (m_ev md lay B Hd cl J n rest ls r w)
      | .if_icmp c off => m_p2 st fun x y r => m_cond c x y (m_go B J (m_ev md lay B Hd cl J n) ((pc : Int) + off).toNat ls r w) (m_ev md lay B Hd cl J n rest ls r w)
      | .ifnonnull off => match st with
        | .inr (.inr none) :: r => m_ev md lay B Hd cl J n rest ls r w
        | .inr (.inr (some _)) :: r => m_go B J (m_ev md lay B Hd cl J n) ((pc : Int) + off).toNat ls r w
        | _ => none
      | .tableswitch dflt lo _ offs => m_p1 st fun x r => m_sw x lo offs.toList (fun o => m_go B J (m_ev md lay B Hd cl J n) ((pc : Int) + o).toNat ls r w) (m_go B J (m_ev md lay B Hd cl J n) ((pc : Int) + dflt).toNat ls r w)
      | .lookupswitch dflt ps => m_p1 st fun x r => m_lsw x ps.toList (fun o => m_go B J (m_ev md lay B Hd cl J n) ((pc : Int) + o).toNat ls r w) (m_go B J (m_ev md lay B Hd cl J n) ((pc : Int) + dflt).toNat ls r w)
      | .iconst v => m_ev md lay B Hd cl J n rest ls (m_li v :: st) w
      | .bipush v => m_ev md lay B Hd cl J n rest ls (m_li v :: st) w
      | .sipush v => m_ev md lay B Hd cl J n rest ls (m_li v :: st) w
      | .lconst v => m_ev md lay B Hd cl J n rest ls (m_ll (v.val : Int) :: st) w
      -- constants of the pool: sign and amount stand beside them; of a String its number
      | .ldc _ => match a with
        | (0, s, v) => m_ev md lay B Hd cl J n rest ls (m_li (if s = 0 then (v : Int) else -(v : Int)) :: st) w
        | (1, _, v) => m_ev md lay B Hd cl J n rest ls (m_rv 10 v :: st) w
        | _ => none
      | .ldc_w _ => match a with
        | (0, s, v) => m_ev md lay B Hd cl J n rest ls (m_li (if s = 0 then (v : Int) else -(v : Int)) :: st) w
        | (1, _, v) => m_ev md lay B Hd cl J n rest ls (m_rv 10 v :: st) w
        | _ => none
      | .ldc2_w _ => m_ev md lay B Hd cl J n rest ls (m_ll (if a.2.1 = 0 then (a.2.2 : Int) else -(a.2.2 : Int)) :: st) w
      | .aconst_null => m_ev md lay B Hd cl J n rest ls (.inr (.inr none) :: st) w
      | .iload k => match m_lk ls k with
        | some (.inl x) => m_ev md lay B Hd cl J n rest ls (m_li x :: st) w
        | _ => none
      | .iload_n k => match m_lk ls k.val with
        | some (.inl x) => m_ev md lay B Hd cl J n rest ls (m_li x :: st) w
        | _ => none
      | .lload k => match m_lk ls k with
        | some (.inr (.inl x)) => m_ev md lay B Hd cl J n rest ls (m_ll x :: st) w
        | _ => none
      | .lload_n k => match m_lk ls k.val with
        | some (.inr (.inl x)) => m_ev md lay B Hd cl J n rest ls (m_ll x :: st) w
        | _ => none
      | .aload k => match m_lk ls k with
        | some (.inr (.inr x)) => m_ev md lay B Hd cl J n rest ls (.inr (.inr x) :: st) w
        | _ => none
      | .aload_n k => match m_lk ls k.val with
        | some (.inr (.inr x)) => m_ev md lay B Hd cl J n rest ls (.inr (.inr x) :: st) w
        | _ => none
      | .istore k => m_p1 st fun x r => m_ev md lay B Hd cl J n rest (m_st1 ls k (m_li x)) r w
      | .istore_n k => m_p1 st fun x r => m_ev md lay B Hd cl J n rest (m_st1 ls k.val (m_li x)) r w
      | .lstore k => m_pl st fun x r => m_ev md lay B Hd cl J n rest (m_st2 ls k (m_ll x)) r w
      | .lstore_n k => m_pl st fun x r => m_ev md lay B Hd cl J n rest (m_st2 ls k.val (m_ll x)) r w
      | .astore k => match st with
        | .inr (.inr x) :: r => m_ev md lay B Hd cl J n rest (m_st1 ls k (.inr (.inr x))) r w
        | _ => none
      | .astore_n k => match st with
        | .inr (.inr x) :: r => m_ev md lay B Hd cl J n rest (m_st1 ls k.val (.inr (.inr x))) r w
        | _ => none
      | .iinc k v => match m_lk ls k with
        | some (.inl x) => m_ev md lay B Hd cl J n rest (m_st1 ls k (m_li (w32 (x + v)))) st w
        | _ => none
      | .iadd => m_p2 st fun x y r => m_ev md lay B Hd cl J n rest ls (m_li (w32 (x + y)) :: r) w
      | .isub => m_p2 st fun x y r => m_ev md lay B Hd cl J n rest ls (m_li (w32 (x - y)) :: r) w
      | .imul => m_p2 st fun x y r => m_ev md lay B Hd cl J n rest ls (m_li (w32 (x * y)) :: r) w
      | .idiv => m_p2 st fun x y r => m_g (y ≠ 0) (m_ev md lay B Hd cl J n rest ls (m_li (w32 (x.tdiv y)) :: r) w)
      | .irem => m_p2 st fun x y r => m_g (y ≠ 0) (m_ev md lay B Hd cl J n rest ls (m_li (x.tmod y) :: r) w)
      | .ineg => m_p1 st fun x r => m_ev md lay B Hd cl J n rest ls (m_li (w32 (-x)) :: r) w
      | .iand => m_p2 st fun x y r => m_ev md lay B Hd cl J n rest ls (m_li (m_iand x y) :: r) w
      | .ior => m_p2 st fun x y r => m_ev md lay B Hd cl J n rest ls (m_li (m_ior x y) :: r) w
      | .ishl => m_p2 st fun x y r => m_ev md lay B Hd cl J n rest ls (m_li (m_ishl x y) :: r) w
      | .ishr => m_p2 st fun x y r => m_ev md lay B Hd cl J n rest ls (m_li (m_ishr x y) :: r) w
      | .ladd => m_pll st fun x y r => m_ev md lay B Hd cl J n rest ls (m_ll (w64 (x + y)) :: r) w
      | .lsub => m_pll st fun x y r => m_ev md lay B Hd cl J n rest ls (m_ll (w64 (x - y)) :: r) w
      | .lmul => m_pll st fun x y r => m_ev md lay B Hd cl J n rest ls (m_ll (w64 (x * y)) :: r) w
      | .ldiv => m_pll st fun x y r => m_g (y ≠ 0) (m_ev md lay B Hd cl J n rest ls (m_ll (w64 (x.tdiv y)) :: r) w)
      | .lrem => m_pll st fun x y r => m_g (y ≠ 0) (m_ev md lay B Hd cl J n rest ls (m_ll (x.tmod y) :: r) w)
      | .lneg => m_pl st fun x r => m_ev md lay B Hd cl J n rest ls (m_ll (w64 (-x)) :: r) w
      | .land => m_pll st fun x y r => m_ev md lay B Hd cl J n rest ls (m_ll (m_land x y) :: r) w
      | .lor => m_pll st fun x y r => m_ev md lay B Hd cl J n rest ls (m_ll (m_lor x y) :: r) w
      | .lxor => m_pll st fun x y r => m_ev md lay B Hd cl J n rest ls (m_ll (m_lxor x y) :: r) w
      | .lshl => m_pli st fun x y r => m_ev md lay B Hd cl J n rest ls (m_ll (m_lshl x y) :: r) w
      | .lshr => m_pli st fun x y r => m_ev md lay B Hd cl J n rest ls (m_ll (m_lshr x y) :: r) w
      | .lcmp => m_pll st fun x y r => m_ev md lay B Hd cl J n rest ls (m_li (m_lcmp x y) :: r) w
      | .i2l => m_p1 st fun x r => m_ev md lay B Hd cl J n rest ls (m_ll x :: r) w
      | .l2i => m_pl st fun x r => m_ev md lay B Hd cl J n rest ls (m_li (w32 x) :: r) w
      | .i2b => m_p1 st fun x r => m_ev md lay B Hd cl J n rest ls (m_li (w8 x) :: r) w
      | .i2s => m_p1 st fun x r => m_ev md lay B Hd cl J n rest ls (m_li (w16 x) :: r) w
      | .i2c => m_p1 st fun x r => m_ev md lay B Hd cl J n rest ls (m_li (x % 65536) :: r) w
      | .dup => match st with
        | .inl x :: r => m_ev md lay B Hd cl J n rest ls (.inl x :: .inl x :: r) w
        | .inr (.inr x) :: r => m_ev md lay B Hd cl J n rest ls (.inr (.inr x) :: .inr (.inr x) :: r) w
        | _ => none
      | .dup2 => match st with
        | .inl y :: .inr (.inr x) :: r => m_ev md lay B Hd cl J n rest ls (.inl y :: .inr (.inr x) :: .inl y :: .inr (.inr x) :: r) w
        | _ => none
      | .pop => match st with
        | .inl _ :: r => m_ev md lay B Hd cl J n rest ls r w
        | .inr (.inr _) :: r => m_ev md lay B Hd cl J n rest ls r w
        | _ => none
      -- fields: (class, slot, sort): 0 an int, 1 a truth, 2 a long, 3 + 2 k a reference of kind k that is set once, 4 + 2 k one that may change
      | .getfield _ => m_pr st fun t k r => bif Nat.beq t a.1 then (match a.2.2 with
        | 0 => m_ev md lay B Hd cl J n rest ls (m_li (m_get w k a.2.1) :: r) w
        | 1 => m_ev md lay B Hd cl J n rest ls (m_li (m_get w k a.2.1) :: r) w
        | 2 => m_ev md lay B Hd cl J n rest ls (m_ll (m_get w k a.2.1) :: r) w
        | z + 3 => bif md && Nat.beq (z % 2) 0 then m_ev md lay B Hd cl J n rest ls (m_rv (z / 2) (lay t k a.2.1) :: r) w
          else m_bn (m_ref w k a.2.1) fun q => m_ev md lay B Hd cl J n rest ls (m_rv (z / 2) q :: r) w) else none
      | .putfield _ => match a.2.2 with
        | 0 => (match st with
          | .inl v :: .inr (.inr (some q)) :: r => bif Nat.beq q.1 a.1 then m_ev md lay B Hd cl J n rest ls r (m_put w q.2 a.2.1 v) else none
          | _ => none)
        | 1 => (match st with
          | .inl v :: .inr (.inr (some q)) :: r => bif Nat.beq q.1 a.1 then m_g (0 ≤ v ∧ v ≤ 1) (m_ev md lay B Hd cl J n rest ls r (m_put w q.2 a.2.1 v)) else none
          | _ => none)
        | 2 => (match st with
          | .inr (.inl v) :: .inr (.inr (some q)) :: r => bif Nat.beq q.1 a.1 then m_ev md lay B Hd cl J n rest ls r (m_put w q.2 a.2.1 v) else none
          | _ => none)
        | z + 3 => (match st with
          | .inr (.inr (some v)) :: .inr (.inr (some q)) :: r => bif Nat.beq q.1 a.1 && Nat.beq v.1 (z / 2) && !(md && Nat.beq (z % 2) 0) then m_ev md lay B Hd cl J n rest ls r (m_putr w q.2 a.2.1 v.2) else none
          | _ => none)
      -- arrays
      | .iaload => m_pai st fun t k i r => bif Nat.beq t 24 then m_g (0 ≤ i ∧ i < m_len w k) (m_ev md lay B Hd cl J n rest ls (m_li (m_get w k i.toNat) :: r) w) else none
      | .baload => m_pai st fun t k i r => bif Nat.beq t 20 || Nat.beq t 21 then m_g (0 ≤ i ∧ i < m_len w k) (m_ev md lay B Hd cl J n rest ls (m_li (m_get w k i.toNat) :: r) w) else none
      | .saload => m_pai st fun t k i r => bif Nat.beq t 22 then m_g (0 ≤ i ∧ i < m_len w k) (m_ev md lay B Hd cl J n rest ls (m_li (m_get w k i.toNat) :: r) w) else none
      | .caload => m_pai st fun t k i r => bif Nat.beq t 23 then m_g (0 ≤ i ∧ i < m_len w k) (m_ev md lay B Hd cl J n rest ls (m_li (m_get w k i.toNat) :: r) w) else none
      | .laload => m_pai st fun t k i r => bif Nat.beq t 25 then m_g (0 ≤ i ∧ i < m_len w k) (m_ev md lay B Hd cl J n rest ls (m_ll (m_get w k i.toNat) :: r) w) else none
      | .aaload => m_pai st fun t k i r => bif md && Nat.beq t 26 then m_g (0 ≤ i ∧ i < m_len w k) (m_ev md lay B Hd cl J n rest ls (m_rv 10 (lay t k i.toNat) :: r) w)
          else bif md && Nat.beq t 27 then m_g (0 ≤ i ∧ i < m_len w k) (m_ev md lay B Hd cl J n rest ls (m_rv 3 (lay t k i.toNat) :: r) w) else none
      | .iastore => m_pvi st fun t k i v r => bif Nat.beq t 24 then m_g (0 ≤ i ∧ i < m_len w k) (m_ev md lay B Hd cl J n rest ls r (m_put w k i.toNat v)) else none
      | .bastore => m_pvi st fun t k i v r => bif Nat.beq t 20 then m_g (0 ≤ i ∧ i < m_len w k) (m_ev md lay B Hd cl J n rest ls r (m_put w k i.toNat (w8 v)))
          else bif Nat.beq t 21 then m_g (0 ≤ i ∧ i < m_len w k) (m_g (0 ≤ v ∧ v ≤ 1) (m_ev md lay B Hd cl J n rest ls r (m_put w k i.toNat v))) else none
      | .sastore => m_pvi st fun t k i v r => bif Nat.beq t 22 then m_g (0 ≤ i ∧ i < m_len w k) (m_ev md lay B Hd cl J n rest ls r (m_put w k i.toNat (w16 v))) else none
      | .castore => m_pvi st fun t k i v r => bif Nat.beq t 23 then m_g (0 ≤ i ∧ i < m_len w k) (m_ev md lay B Hd cl J n rest ls r (m_put w k i.toNat (v % 65536))) else none
      | .lastore => m_pvl st fun t k i v r => bif Nat.beq t 25 then m_g (0 ≤ i ∧ i < m_len w k) (m_ev md lay B Hd cl J n rest ls r (m_put w k i.toNat v)) else none
      | .aastore => m_pvr st fun t k i vt v r => bif !md && (Nat.beq t 26 && Nat.beq vt 10 || Nat.beq t 27 && Nat.beq vt 3) then m_g (0 ≤ i ∧ i < m_len w k) (m_ev md lay B Hd cl J n rest ls r (m_putr w k i.toNat v)) else none
      | .arraylength => m_pr st fun t k r => bif Nat.ble 20 t && Nat.ble t 27 then m_ev md lay B Hd cl J n rest ls (m_li (m_len w k) :: r) w else none
      -- new cells: (kind, slots)
      | .new _ => bif md then none else m_ev md lay B Hd cl J n rest ls (m_rv a.1 w.1.length :: st) (m_new w a.1 a.2.1)
      | .newarray _ => bif md then none else m_p1 st fun x r => m_g (0 ≤ x) (m_ev md lay B Hd cl J n rest ls (m_rv a.1 w.1.length :: r) (m_new w a.1 x.toNat))
      | .anewarray _ => bif md then none else m_p1 st fun x r => m_g (0 ≤ x) (m_ev md lay B Hd cl J n rest ls (m_rv a.1 w.1.length :: r) (m_new w a.1 x.toNat))
      -- calls: (method, how many arguments (of a virtual call 100 times the receiver's kind more), sort of its answer: 0 none, 1 an int, 2 a long, 3 + k a reference of kind k; 99: Object's constructor)
      | .invokevirtual _ => match m_args (a.2.1 % 100) [] st with
        | none => none
        | some (as, r) => bif m_rcv (a.2.1 / 100) as && Nat.ble (m_wd r) 24 then (match a.2.2 with
          | 0 => m_bv (cl a.1 as w) (fun w' => m_ev md lay B Hd cl J n rest ls r w') (fun x w' => m_thr B Hd J (m_ev md lay B Hd cl J n) pc ls x w')
          | 1 => m_bi (cl a.1 as w) (fun v w' => m_ev md lay B Hd cl J n rest ls (m_li v :: r) w') (fun x w' => m_thr B Hd J (m_ev md lay B Hd cl J n) pc ls x w')
          | 2 => m_bl (cl a.1 as w) (fun v w' => m_ev md lay B Hd cl J n rest ls (m_ll v :: r) w') (fun x w' => m_thr B Hd J (m_ev md lay B Hd cl J n) pc ls x w')
          | _ => m_br (cl a.1 as w) (fun t v w' => bif Nat.beq (t + 3) a.2.2 then m_ev md lay B Hd cl J n rest ls (m_rv (a.2.2 - 3) v :: r) w' else none) (fun x w' => m_thr B Hd J (m_ev md lay B Hd cl J n) pc ls x w')) else none
      | .invokestatic _ => match m_args a.2.1 [] st with
        | none => none
        | some (as, r) => bif Nat.ble (m_wd r) 24 then (match a.2.2 with
          | 0 => m_bv (cl a.1 as w) (fun w' => m_ev md lay B Hd cl J n rest ls r w') (fun x w' => m_thr B Hd J (m_ev md lay B Hd cl J n) pc ls x w')
          | 1 => m_bi (cl a.1 as w) (fun v w' => m_ev md lay B Hd cl J n rest ls (m_li v :: r) w') (fun x w' => m_thr B Hd J (m_ev md lay B Hd cl J n) pc ls x w')
          | 2 => m_bl (cl a.1 as w) (fun v w' => m_ev md lay B Hd cl J n rest ls (m_ll v :: r) w') (fun x w' => m_thr B Hd J (m_ev md lay B Hd cl J n) pc ls x w')
          | _ => m_br (cl a.1 as w) (fun t v w' => bif Nat.beq (t + 3) a.2.2 then m_ev md lay B Hd cl J n rest ls (m_rv (a.2.2 - 3) v :: r) w' else none) (fun x w' => m_thr B Hd J (m_ev md lay B Hd cl J n) pc ls x w')) else none
      | .invokespecial _ => bif Nat.beq a.2.2 99 then (m_pr st fun _ _ r => m_ev md lay B Hd cl J n rest ls r w) else match m_args a.2.1 [] st with
        | none => none
        | some (as, r) => bif Nat.ble (m_wd r) 24 then m_bv (cl a.1 as w) (fun w' => m_ev md lay B Hd cl J n rest ls r w') (fun x w' => m_thr B Hd J (m_ev md lay B Hd cl J n) pc ls x w') else none
      | .athrow => m_pr st fun t k _ => bif Nat.beq t 8 then m_thr B Hd J (m_ev md lay B Hd cl J n) pc ls k w else none
      -- ends: (1 if a truth is answered)
      | .ireturn => (match st with
        | [.inl x] => bif Nat.beq a.1 1 then m_g (0 ≤ x ∧ x ≤ 1) (some (.inl (some (.inl x)), w)) else some (.inl (some (.inl x)), w)
        | _ => none)
      | .lreturn => (match st with
        | [.inr (.inl x)] => some (.inl (some (.inr (.inl x))), w)
        | _ => none)
      | .areturn => (match st with
        | [.inr (.inr (some x))] => some (.inl (some (.inr (.inr (some x)))), w)
        | _ => none)
      | .return_ => (match st with
        | [] => some (.inl none, w)
        | _ => none)
      | _ => none
