/-! ===== CONTRACTS AND CALLS, returning or throwing ===== -/
def a_rm (d : Nat) : Room := { frames := d, cells := 0, slots := 0, locals := 50 * d }
/-- the String constants: their lengths and bytes -/
def strLen : List Nat := [4, 5, 6, 5, 4, 5, 3, 3, 2, 4, 5, 2, 4, 3, 4, 4, 5, 4, 6, 3, 5, 3, 1, 1, 1, 1, 1, 1, 5]
def strByt : List (List Int32) := [[115, 116, 111, 112], [99, 108, 97, 115, 115], [115, 116, 97, 116, 105, 99], [102, 105, 110, 97, 108], [102, 111, 114, 109], [116, 114, 117, 116, 104], [97, 99, 116], [108, 101, 116], [105, 102], [101, 108, 115, 101], [119, 104, 105, 108, 101], [100, 111], [102, 97, 105, 108], [110, 101, 119], [110, 117, 108, 108], [116, 114, 117, 101], [102, 97, 108, 115, 101], [116, 104, 105, 115], [108, 101, 110, 103, 116, 104], [115, 117, 109], [99, 111, 117, 110, 116], [119, 97, 115], [90], [66], [83], [67], [73], [74], [119, 114, 111, 110, 103]]
/-- what is kept of the JDK's own cells: the String constants (and their byte arrays, by numbers 100 more), a static of String's -/
def a_J (E : Nat × (Nat → Nat)) (U : State) (H : Heap) : Prop := vk_S 29 strLen strByt E.2 (fun k => E.2 (k + 100)) (fun q => E.1 ≤ q) U H ∧ va_Z "java/lang/String" "COMPACT_STRINGS" "Z" (.int 1) (fun q => E.1 ≤ q) U H ∧ va_Zq "jdk/internal/util/Preconditions" "SIOOBE_FORMATTER" "Ljava/util/function/BiFunction;" (fun q => E.1 ≤ q) U H
theorem a_J.moved {E : Nat × (Nat → Nat)} {u U : State} {H : Heap} (hvm : u.vm.Alike U.vm) (h : a_J E u H) : a_J E U H := ⟨h.1.moved hvm, h.2.1.moved hvm, h.2.2.moved hvm⟩
theorem a_J.kept {E : Nat × (Nat → Nat)} {U : State} {H H1 : Heap} (h : a_J E U H) (hq : ∀ a : Nat, a < H.size → ¬ E.1 ≤ a → H1[a]? = H[a]?) : a_J E U H1 := ⟨h.1.kept hq, h.2.1.kept hq, h.2.2.kept hq⟩
def a_P (E : Nat × (Nat → Nat)) (dA : Nat → ClassId) (D : va_G) (as : List mV) (w : mW) : Array Value → State → Prop := fun av U => av = (as.map (a_v E)).toArray ∧ va_P D classes (a_ws E dA w) U.heap ∧ va_K D classes (a_tys dA) U ∧ a_wok w ∧ (∀ v ∈ as, a_ok w v) ∧ a_J E U U.heap
def a_Qc (E : Nat × (Nat → Nat)) (dA : Nat → ClassId) (D : va_G) (r : mR) : Array Value → State → Outcome → State → Prop := fun _ st o t => a_out E r.2 r.1 o ∧ ∃ L, a_St st E dA D r.2 t.heap L ∧ st.WarmedH t.vm ∧ st.sameButNew ({ t with vm := st.vm } : State) L 0 0
/-- THE CONTRACT of a method at a call depth d: from a world w with these arguments it comes to the end r -/
def a_C (l : Launch) (E : Nat × (Nat → Nat)) (dA : Nat → ClassId) (D : va_G) (Ts : List Cond) (d : Nat) (y : MethodName) (as : List mV) (w : mW) (r : mR) : Prop := MetFree l y (headSpec Ts (a_rm d)) (a_P E dA D as w) (fun _ _ _ _ _ => True) (a_Qc E dA D r)
/-- what a caller wants of a callee's tables: its code, of whatever form -/
def a_Code (y : MethodName) (maxL : Nat) (U : State) : Prop := ∃ mk methY cY, U.methodNamed? y = some mk ∧ U.vm.method? mk = some methY ∧ methY.code = some cY ∧ cY.maxLocals = maxL ∧ parseMethodDescriptor y.desc = some methY.sig
theorem a_Code.of {y : MethodName} {bytes : ByteArray} {maxL : Nat} {ret : Option FieldType} {args : Array Value} {U : State} (h : (Cond.code y bytes maxL ret).before args U = true) : a_Code y maxL U := by
  obtain ⟨mk, hn⟩ := Cond.code_named h
  obtain ⟨meth, c, h1, h2, -, h4, -, -, -, h8⟩ := Cond.code_spec hn h
  exact ⟨mk, meth, c, hn, h1, h2, h4, h8⟩
theorem a_Code.ofW {y : MethodName} {bytes : ByteArray} {maxL : Nat} {ret : Option FieldType} {hs : List (Nat × Nat × Nat × Nat)} {args : Array Value} {U : State} (h : (Cond.codeWith y bytes maxL ret hs).before args U = true) : a_Code y maxL U := by
  obtain ⟨mk, meth, c, hn, h1, h2, -, h4, -, -, -, h8⟩ := Cond.codeWith_spec h
  exact ⟨mk, meth, c, hn, h1, h2, h4, h8⟩
section AC
variable {p : Program} {l : Launch} {e : Env} {R : Room} {s : State} {m : MethodId} {args : Array Value} {below : List Frame} {meth : Method} {c : Code}
variable {E : Nat × (Nat → Nat)} {dA : Nat → ClassId} {D : va_G}
/-- behind an invocation: the callee's end, and the caller standing again -/
theorem a_back {y : MethodName} {S : Spec} {P : Array Value → State → Prop} {Q : Array Value → State → Outcome → State → Prop} (hM : MetFree l y S P (fun _ _ _ _ _ => True) Q) {U : State} {locs : List Loc} (X : Stand p l e R s m args below meth c U locs 0 0)
    {g : JFrame} (hg : g.method = m) (hsize : g.locals.size = c.maxLocals) {ig : Instr} {len : Nat} (hdg : decode c.code g.pc = .ok (ig, len)) {Wd maxL : Nat} (hW : 2 * g.monitorRoom + (g.stack.map fun v => v.category).sum ≤ Wd) (hY : a_Code y maxL U) {mk : MethodId} (hn : U.methodNamed? y = some mk)
    (hfr : S.room.frames + 1 ≤ R.frames) (hlo : Wd + (maxL + 11) + S.room.locals ≤ R.locals) (hcl : S.room.cells = 0) (hsl : S.room.slots = 0) {a : Array Value} (hpre : S.pre.before a U = true) (hini : (Cond.initialized y.cls).before a U = true) (hP : P a (U.calling g mk a)) :
    ∃ (o : Outcome) (t : State), Q a (U.calling g mk a) o t ∧ ∀ L, (U.calling g mk a).WarmedH t.vm → (U.calling g mk a).sameButNew ({ t with vm := (U.calling g mk a).vm } : State) L 0 0 →
      ∃ T' : State, T'.heap = t.heap ∧ T'.vm = t.vm ∧ Stand p l e R s m args below meth c T' (locs ++ L) 0 0 ∧
        ((∃ v, o = .returned v ∧ Steps p.tables e below (doInvoke e (U.setTop g) [] mk a).1 (T'.setTop { g with pc := g.pc + len, stack := v.toList ++ g.stack })) ∨ (∃ x, o = .threw x ∧ Steps p.tables e below (doInvoke e (U.setTop g) [] mk a).1 ((T'.setTop g).pushFrame (.throwing x)))) := by
  obtain ⟨mk', methY, cY, hn', hmY, hcY, hlY, -⟩ := hY
  cases hn.symm.trans hn'
  obtain ⟨kY, hkY, -⟩ := className_of_methodNamed hn
  have hinitY : kY.init = .initialized := Cond.initialized_spec (findClass_of_methodNamed hn) hkY hini
  have h : At U g.method c below := by rw [hg]; exact X.here
  have happ : S.appliesLoose y e.platform (U.calling g mk a) = true :=
    Spec.appliesLoose_calling (g := g) h hdg hn hkY hinitY
      (X.room_calling (g := g) (R' := S.room) hsize hmY hcY hfr (by rw [hlY]; omega) (by rw [hcl]; exact Nat.zero_le _) (by rw [hsl]; exact Nat.zero_le _)) hpre
  obtain ⟨mid, hmid⟩ := h.above
  have hfr : (U.setTop g).frames = (.java g :: mid) ++ below := by rw [State.frames_setTop' g h.top, hmid]; rfl
  obtain ⟨o, s₂, hsteps, -, hend, hq⟩ := Steps.callFree hM p X.admits X.cas X.clock (acts := []) hfr happ hP trivial
  have hq' : Q a (U.calling g mk a) o s₂ := hq
  rw [State.frames_setTop' g h.top] at hend
  refine ⟨o, s₂, hq', fun L hW₂ hfe => ?_⟩
  obtain ⟨e2, q2, q3, q4, q5, q6⟩ := id hfe
  have e3 : s₂ = ({ (U.calling g mk a).setFrames s₂.frames with heap := s₂.heap, slotsUsed := s₂.slotsUsed } : State).setVm s₂.vm := by
    have : s₂ = ({ s₂ with vm := (U.calling g mk a).vm } : State).setVm s₂.vm := rfl
    rw [e2] at this
    exact this
  have hW' : U.WarmedH s₂.vm := hW₂
  obtain ⟨g₀, hg0⟩ := Option.isSome_iff_exists.mp h.top
  obtain ⟨r, hr⟩ := State.topJava?_eq_some.mp hg0
  have hr' : (({ U with heap := s₂.heap, slotsUsed := s₂.slotsUsed } : State).setVm s₂.vm).frames = .java g₀ :: r := hr
  have hsame : U.sameButNew ({ U with heap := s₂.heap, slotsUsed := s₂.slotsUsed } : State) L 0 0 := by
    refine ⟨?_, q2, q3, q4, q5, q6⟩
    obtain ⟨t, ht, -⟩ := State.frames_cons hr
    show ({ U with heap := s₂.heap, slotsUsed := s₂.slotsUsed } : State) = { U.setFrames U.frames with heap := s₂.heap, slotsUsed := s₂.slotsUsed }
    rw [State.setFrames_self ht]
  subst hg
  have X' : Stand p l e R s g.method args below meth c (({ U with heap := s₂.heap, slotsUsed := s₂.slotsUsed } : State).setVm s₂.vm) (locs ++ L) 0 0 :=
    ⟨X.admits, X.cas, X.clock, X.frames, X.room, X.hears, X.method, X.code, (X.here.setHeapUsed s₂.heap s₂.slotsUsed).setVm hW'.alike, X.tail, State.WarmedH.trans X.warmed hW', X.limits, X.bytes, X.same.trans (hsame.setVm s.vm)⟩
  refine ⟨(({ U with heap := s₂.heap, slotsUsed := s₂.slotsUsed } : State).setVm s₂.vm), rfl, rfl, X', ?_⟩
  cases o with
  | returned v =>
    refine Or.inl ⟨v, rfl, ?_⟩
    obtain ⟨c₂, i₂, len₂, hc₂, hd₂, hf₂⟩ := hend
    have hcc : c₂ = c := by
      have h1 : s₂.code? g.method = U.code? g.method := by
        rw [State.code?_eq, State.code?_eq, hW'.alike.method?]
      exact Option.some.inj (hc₂.symm.trans (h1.trans h.code))
    subst hcc
    have hlen : len₂ = len := by rw [hdg] at hd₂; cases hd₂; rfl
    subst hlen
    have hs₂ : s₂ = (({ U with heap := s₂.heap, slotsUsed := s₂.slotsUsed } : State).setVm s₂.vm).setTop { g with pc := g.pc + len₂, stack := v.toList ++ g.stack } := by
      refine e3.trans ?_
      rw [hf₂, State.calling_eq h.top, State.setFrames_setFrames, State.setTop_of_frames _ hr', hr]
      rfl
    rw [← hs₂]
    exact hsteps
  | threw x =>
    refine Or.inr ⟨x, rfl, ?_⟩
    have hf₂ : s₂.frames = .throwing x :: .java g :: U.frames.tail := hend
    have hs₂ : s₂ = ((({ U with heap := s₂.heap, slotsUsed := s₂.slotsUsed } : State).setVm s₂.vm).setTop g).pushFrame (.throwing x) := by
      refine e3.trans ?_
      rw [hf₂, State.calling_eq h.top, State.setFrames_setFrames, State.pushFrame, State.frames_setTop _ hr', State.setTop_of_frames _ hr', State.setFrames_setFrames, hr]
      rfl
    rw [← hs₂]
    exact hsteps
/-- a throw over a frame, to an end -/
def a_WT (p : Program) (l : Launch) (e : Env) (R : Room) (s : State) (m : MethodId) (args : Array Value) (below : List Frame) (meth : Method) (c : Code) (H : Heap) (locs : List Loc) (Q : State → Prop) (g : JFrame) (a : Addr) : Prop :=
  ∀ T : State, T.heap = H → Stand p l e R s m args below meth c T locs 0 0 → ∃ t, Steps p.tables e below ((T.setTop g).pushFrame (.throwing a)) t ∧ Q t
/-- it leaves the method -/
theorem a_thrOut {w : mW} {x pc : Nat} {lsR : Array Slot} {stk : List Value} {H : Heap} {locs : List Loc} (hlk : meth.locks = false) (hout : ∀ y ∈ c.exceptionTable.toList, covers y pc = false) (hS : a_St s E dA D w H locs) (hok : a_ok w (m_rv 8 x)) : a_WT p l e R s m args below meth c H locs (a_Q below s E dA D (.inr x, w)) (F0 m pc lsR stk) (a_ad E 8 x) := by
  intro T hT X
  obtain ⟨h1, h2, h3, h4, h5⟩ := X.leaveThrown (a_ad E 8 x) (g := F0 m pc lsR stk) rfl rfl rfl hout hlk
  refine ⟨_, h1, _, h2, h3, ⟨rfl, hok⟩, locs, ?_, h4, h5⟩
  show a_St s E dA D w T.heap locs
  rw [hT]; exact hS
/-- it is caught -/
theorem a_thrIn {pc tgt ct : Nat} {own : String} {a : Addr} {cell : Cell} {lsR : Array Slot} {stk : List Value} {H : Heap} {locs : List Loc} {Q : State → Prop} (hown : s.vm.findClass own = some m.cls) (hlink : (Cond.classLink own ct "java/lang/IllegalStateException").before args s = true) (hcast : (Cond.castable "java/lang/IllegalStateException" "java/lang/IllegalStateException").before args s = true)
    (pre : List ExceptionTableEntry) (x : ExceptionTableEntry) (rest : List ExceptionTableEntry) (hsplit : c.exceptionTable.toList = pre ++ x :: rest) (hskip : ∀ y ∈ pre, covers y pc = false) (hx : covers x pc = true) (h0 : x.catchType = ct) (hct : ct ≠ 0) (ht : x.handlerPc = tgt) (hcell : H[a]? = some cell) (hvm : cell.vm = .none) (hcls : s.vm.findClass "java/lang/IllegalStateException" = some cell.cls)
    (k : W p l e R s m args below meth c H locs 0 0 Q (F0 m tgt lsR [.ref a])) : a_WT p l e R s m args below meth c H locs Q (F0 m pc lsR stk) a := by
  intro T hT X
  subst h0; subst ht
  have hpl : e.platform.magicAccessors = ({} : Platform).magicAccessors := by rw [X.admits.platform]
  obtain ⟨cc, hfcc, hcl⟩ := Cond.classLink_spec hown hlink e.platform hpl
  cases hcls.symm.trans hfcc
  obtain ⟨c0, t0, f1, f2, f3⟩ := Cond.castable_spec hcast
  cases hcls.symm.trans f1
  cases hcls.symm.trans f2
  obtain ⟨hg₁, hwarm₁, hready₁⟩ := State.classEntry (e := e) X.warmed hcl
  have hal := hwarm₁.alike
  obtain ⟨k0, hk0⟩ := Vm.classAt_of_findClass hcls
  obtain ⟨k1, hk1, -⟩ := hal.2.2 _ _ hk0
  have hfit : (T.vm.noted m.cls x.catchType (.cls cell.cls)).assignable cell.cls cell.cls = true := by
    show Vm.assignableAux _ (255 + 1) _ _ = true
    rw [Vm.assignableAux, Bool.or_eq_true, beq_iff_eq]
    exact Or.inl rfl
  have X₁ := X.noted hwarm₁
  obtain ⟨t, a1, b1⟩ := k (T.setVm (T.vm.noted m.cls x.catchType (.cls cell.cls))) hT X₁
  refine ⟨t, ?_, b1⟩
  have hAt : At T (F0 m pc lsR stk).method c below := X.here
  refine a_caught_cold hAt (pc := x.handlerPc) (vm' := T.vm.noted m.cls x.catchType (.cls cell.cls)) ?_ a1
  refine a_find_cold (s := (T.setTop (F0 m pc lsR stk)).pushFrame (.throwing a)) (f := F0 m pc lsR stk) (meth := meth) (code := c) X.method' X.code pre x rest hsplit hskip hx hct hg₁ ?_ (cell := cell) (by show T.heap[a]? = _; rw [hT]; exact hcell) (fun k => by rw [hvm]; simp) ⟨k1, hk1⟩ ⟨k1, hk1⟩ hfit
  have hsz : (T.vm.noted m.cls x.catchType (.cls cell.cls)).classes.size = T.vm.classes.size := by simp [Vm.noted]
  exact Nat.le_of_eq hsz
theorem a_athrow {pc : Nat} {a : Addr} {lsR : Array Slot} {stk : List Value} {H : Heap} {locs : List Loc} {Q : State → Prop} {cc : ByteArray} (hx : p.tables.exec = Jvm.exec) (hb : c.code = cc) (hd : decode cc pc = .ok (.athrow, 1)) (k : a_WT p l e R s m args below meth c H locs Q (F0 m pc lsR stk) a) : W p l e R s m args below meth c H locs 0 0 Q (F0 m pc lsR (.ref a :: stk)) := by
  intro T hT X
  obtain ⟨t, a1, b1⟩ := k T hT X
  refine ⟨t, ?_, b1⟩
  subst hb
  jvm_step X.here [X.here.top, hx, hd, athrow.wp_sem]
  exact a1
end AC
