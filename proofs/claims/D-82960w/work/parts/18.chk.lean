/-! ===== WHAT IS CHECKED OF A METHOD's BLOCKS ===== -/
/-- own class, return sort (0 none, 1 int, 2 truth, 3 long, 4 object), number of variables, constants of the pool (entry, sort 0 int 1 long, sign, amount), calls (entry, method, parameters, 0 virtual 1 static, receiver's kind) -/
def a_ci (o rt nL : Nat) (kt : List (Nat × Nat × Nat × Nat)) (ml : List (Nat × Nat × Nat × Nat × Nat)) (pc : Nat) (i : Instr) (a : Nat × Nat × Nat) : Bool := match i with
  | .goto off => decide (0 ≤ (pc : Int) + off)
  | .ifCond _ off => decide (0 ≤ (pc : Int) + off)
  | .if_icmp _ off => decide (0 ≤ (pc : Int) + off)
  | .ifnonnull off => decide (0 ≤ (pc : Int) + off)
  | .tableswitch d lo hi os => decide (hi = lo + os.size - 1) && decide (0 ≤ (pc : Int) + d) && os.toList.all (fun x => decide (0 ≤ (pc : Int) + x))
  | .lookupswitch d ps => (ps.toList.zip (ps.toList.drop 1)).all (fun (a, next) => a.1 < next.1) && decide (0 ≤ (pc : Int) + d) && ps.toList.all (fun x => decide (0 ≤ (pc : Int) + x.2))
  | .iconst v => decide (-2147483648 ≤ v ∧ v < 2147483648)
  | .bipush v => decide (-128 ≤ v ∧ v < 128)
  | .sipush v => decide (-32768 ≤ v ∧ v < 32768)
  | .ldc ix => kt.contains (ix, 0, a.2.1, a.2.2) && decide (a.2.2 < 2147483648 ∨ (a.2.1 ≠ 0 ∧ a.2.2 = 2147483648)) && Nat.beq a.1 0
  | .ldc_w ix => kt.contains (ix, 0, a.2.1, a.2.2) && decide (a.2.2 < 2147483648 ∨ (a.2.1 ≠ 0 ∧ a.2.2 = 2147483648)) && Nat.beq a.1 0
  | .ldc2_w ix => kt.contains (ix, 1, a.2.1, a.2.2) && decide (a.2.2 < 9223372036854775808 ∨ (a.2.1 ≠ 0 ∧ a.2.2 = 9223372036854775808))
  | .istore k => decide (k < nL)
  | .istore_n k => decide (k.val < nL)
  | .lstore k => decide (k + 1 < nL)
  | .lstore_n k => decide (k.val + 1 < nL)
  | .astore k => decide (k < nL)
  | .astore_n k => decide (k.val < nL)
  | .iinc k _ => decide (k < nL)
  | .getfield ix => decide ((fs a.1)[a.2.1]? = some a.2.2) && decide (a.2.2 < 100) && (ft o).any (fun q => Nat.beq q.1 ix && Nat.beq q.2.1 a.1 && Nat.beq q.2.2.1 a.2.1)
  | .putfield ix => decide ((fs a.1)[a.2.1]? = some a.2.2) && decide (a.2.2 < 100) && (ft o).any (fun q => Nat.beq q.1 ix && Nat.beq q.2.1 a.1 && Nat.beq q.2.2.1 a.2.1)
  | .invokevirtual ix => ml.any (fun q => Nat.beq q.1 ix && Nat.beq q.2.1 a.1 && Nat.beq (q.2.2.1 + 1 + 100 * q.2.2.2.2) a.2.1 && Nat.beq q.2.2.2.1 0 && Nat.ble (q.2.2.1 + 1) 99)
  | .invokestatic ix => ml.any (fun q => Nat.beq q.1 ix && Nat.beq q.2.1 a.1 && Nat.beq q.2.2.1 a.2.1 && Nat.beq q.2.2.2.1 1)
  | .invokespecial _ => false
  | .ireturn => (Nat.beq a.1 1 && Nat.beq rt 2) || (Nat.beq a.1 0 && Nat.beq rt 1)
  | .lreturn => Nat.beq rt 3
  | .areturn => Nat.beq rt 4
  | .return_ => Nat.beq rt 0
  | _ => true
def a_sw1 (i : Instr) : Bool := match i with
  | .tableswitch .. => true
  | .lookupswitch .. => true
  | _ => false
def a_chk (bs : ByteArray) (o rt nL : Nat) (kt : List (Nat × Nat × Nat × Nat)) (ml : List (Nat × Nat × Nat × Nat × Nat)) : List mI → Nat → Bool
  | [], _ => true
  | (pc, i, len, a) :: rest, e => Nat.beq pc e && (match i with
    | .nop => true
    | _ => decide (decode bs pc = .ok (i, len)) && a_ci o rt nL kt ml pc i a && (a_sw1 i || (Nat.beq len (a_len i) && a_chk bs o rt nL kt ml rest (pc + len))))
theorem a_chk_c {bs : ByteArray} {o rt nL : Nat} {kt : List (Nat × Nat × Nat × Nat)} {ml : List (Nat × Nat × Nat × Nat × Nat)} {pc len e : Nat} {i : Instr} {a : Nat × Nat × Nat} {rest : List mI} (h : a_chk bs o rt nL kt ml ((pc, i, len, a) :: rest) e = true) (hi : i ≠ .nop) :
    pc = e ∧ decode bs pc = .ok (i, len) ∧ a_ci o rt nL kt ml pc i a = true ∧ (a_sw1 i = true ∨ (len = a_len i ∧ a_chk bs o rt nL kt ml rest (pc + len) = true)) := by
  unfold a_chk at h
  rw [Bool.and_eq_true] at h
  obtain ⟨h1, h2⟩ := h
  refine ⟨Nat.eq_of_beq_eq_true h1, ?_⟩
  split at h2
  · exact absurd rfl hi
  · simp only [Bool.and_eq_true, Bool.or_eq_true, decide_eq_true_eq] at h2
    refine ⟨h2.1.1, h2.1.2, ?_⟩
    rcases h2.2 with h | h
    · exact Or.inl h
    · exact Or.inr ⟨Nat.eq_of_beq_eq_true h.1, h.2⟩
/-- what the tables say at a class's call entries -/
def a_mlok (Ts : List Cond) (nm : Nat → MethodName) (mx : Nat → Nat) (o : Nat) (q : Nat × Nat × Nat × Nat × Nat) : Prop :=
  (Cond.methodLink (cn o) q.1 (nm q.2.1) ∈ Ts ∨ ∃ host, Cond.methodLinkNest (cn o) q.1 (nm q.2.1) host ∈ Ts) ∧ (∃ bytes ret, Cond.code (nm q.2.1) bytes (mx q.2.1) ret ∈ Ts ∨ ∃ hs, Cond.codeWith (nm q.2.1) bytes (mx q.2.1) ret hs ∈ Ts) ∧ mx q.2.1 ≤ 15 ∧ Cond.initialized (nm q.2.1).cls ∈ Ts ∧
  ((nm q.2.1).cls ≠ "java/lang/invoke/MethodHandle" ∧ (nm q.2.1).cls ≠ "java/lang/invoke/VarHandle") ∧ (∀ sig, parseMethodDescriptor (nm q.2.1).desc = some sig → q.2.2.1 = sig.parameters.length) ∧
  (q.2.2.2.1 = 0 → q.2.2.2.2 ≤ 10 ∧ Cond.instanceMethod (nm q.2.1) ∈ Ts ∧ Cond.selects (cn q.2.2.2.2) (nm q.2.1) (nm q.2.1) ∈ Ts) ∧ (q.2.2.2.1 = 1 → Cond.static (nm q.2.1) ∈ Ts)
/-- constants -/
def a_ktok (Ts : List Cond) (o : Nat) (q : Nat × Nat × Nat × Nat) : Prop := (q.2.1 = 0 → Cond.constant (cn o) q.1 (Int32.ofInt (if q.2.2.1 = 0 then (q.2.2.2 : Int) else -(q.2.2.2 : Int))) ∈ Ts) ∧ (q.2.1 = 1 → Cond.constantLong (cn o) q.1 (Int64.ofInt (if q.2.2.1 = 0 then (q.2.2.2 : Int) else -(q.2.2.2 : Int))) ∈ Ts)
theorem a_any5 {l : List (Nat × Nat × Nat × Nat × Nat)} {f : Nat × Nat × Nat × Nat × Nat → Bool} (h : l.any f = true) : ∃ q ∈ l, f q = true := List.any_eq_true.mp h
