set_option maxRecDepth 100000 in
theorem tw_14 : (Cond.initialized "java/lang/String") ∈ lw_Ts := tb_in (i := 14) rfl rfl
set_option maxRecDepth 100000 in
theorem tw_15 : (Cond.initialized "java/lang/StringLatin1") ∈ lw_Ts := tb_in (i := 15) rfl rfl
set_option maxRecDepth 100000 in
theorem tw_16 : (Cond.initialized "jdk/internal/util/Preconditions") ∈ lw_Ts := tb_in (i := 16) rfl rfl
set_option maxRecDepth 100000 in
theorem tw_1319 : (Cond.code ({ cls := "java/lang/String", name := "length", desc := "()I" } : Jvm.MethodName) prog_17_method_54_code (1 : Nat) (Option.some Jvm.ClassFile.FieldType.int)) ∈ lw_Ts := tb_in (i := 1319) rfl rfl
set_option maxRecDepth 100000 in
theorem tw_1320 : (Cond.methodLink "java/lang/String" (335 : Nat) ({ cls := "java/lang/String", name := "coder", desc := "()B" } : Jvm.MethodName)) ∈ lw_Ts := tb_in (i := 1320) rfl rfl
set_option maxRecDepth 100000 in
theorem tw_1321 : (Cond.instanceMethod ({ cls := "java/lang/String", name := "coder", desc := "()B" } : Jvm.MethodName)) ∈ lw_Ts := tb_in (i := 1321) rfl rfl
set_option maxRecDepth 100000 in
theorem tw_1322 : (Cond.selects "java/lang/String" ({ cls := "java/lang/String", name := "coder", desc := "()B" } : Jvm.MethodName) ({ cls := "java/lang/String", name := "coder", desc := "()B" } : Jvm.MethodName)) ∈ lw_Ts := tb_in (i := 1322) rfl rfl
set_option maxRecDepth 100000 in
theorem tw_1323 : (Cond.code ({ cls := "java/lang/String", name := "coder", desc := "()B" } : Jvm.MethodName) prog_17_method_152_code (1 : Nat) (Option.some Jvm.ClassFile.FieldType.byte)) ∈ lw_Ts := tb_in (i := 1323) rfl rfl
set_option maxRecDepth 100000 in
theorem tw_1324 : (Cond.fieldLink "java/lang/String" (38 : Nat) "java/lang/String" "COMPACT_STRINGS" "Z") ∈ lw_Ts := tb_in (i := 1324) rfl rfl
set_option maxRecDepth 100000 in
theorem tw_1329 : (Cond.code ({ cls := "java/lang/String", name := "charAt", desc := "(I)C" } : Jvm.MethodName) prog_17_method_56_code (2 : Nat) (Option.some Jvm.ClassFile.FieldType.char)) ∈ lw_Ts := tb_in (i := 1329) rfl rfl
set_option maxRecDepth 100000 in
theorem tw_1330 : (Cond.methodLink "java/lang/String" (492 : Nat) ({ cls := "java/lang/String", name := "isLatin1", desc := "()Z" } : Jvm.MethodName)) ∈ lw_Ts := tb_in (i := 1330) rfl rfl
set_option maxRecDepth 100000 in
theorem tw_1331 : (Cond.instanceMethod ({ cls := "java/lang/String", name := "isLatin1", desc := "()Z" } : Jvm.MethodName)) ∈ lw_Ts := tb_in (i := 1331) rfl rfl
set_option maxRecDepth 100000 in
theorem tw_1332 : (Cond.selects "java/lang/String" ({ cls := "java/lang/String", name := "isLatin1", desc := "()Z" } : Jvm.MethodName) ({ cls := "java/lang/String", name := "isLatin1", desc := "()Z" } : Jvm.MethodName)) ∈ lw_Ts := tb_in (i := 1332) rfl rfl
set_option maxRecDepth 100000 in
theorem tw_1333 : (Cond.code ({ cls := "java/lang/String", name := "isLatin1", desc := "()Z" } : Jvm.MethodName) prog_17_method_154_code (1 : Nat) (Option.some Jvm.ClassFile.FieldType.boolean)) ∈ lw_Ts := tb_in (i := 1333) rfl rfl
set_option maxRecDepth 100000 in
theorem tw_1334 : (Cond.methodLink "java/lang/String" (495 : Nat) ({ cls := "java/lang/StringLatin1", name := "charAt", desc := "([BI)C" } : Jvm.MethodName)) ∈ lw_Ts := tb_in (i := 1334) rfl rfl
set_option maxRecDepth 100000 in
theorem tw_1335 : (Cond.static ({ cls := "java/lang/StringLatin1", name := "charAt", desc := "([BI)C" } : Jvm.MethodName)) ∈ lw_Ts := tb_in (i := 1335) rfl rfl
set_option maxRecDepth 100000 in
theorem tw_1336 : (Cond.code ({ cls := "java/lang/StringLatin1", name := "charAt", desc := "([BI)C" } : Jvm.MethodName) prog_18_method_2_code (2 : Nat) (Option.some Jvm.ClassFile.FieldType.char)) ∈ lw_Ts := tb_in (i := 1336) rfl rfl
set_option maxRecDepth 100000 in
theorem tw_1337 : (Cond.methodLink "java/lang/StringLatin1" (9 : Nat) ({ cls := "java/lang/String", name := "checkIndex", desc := "(II)V" } : Jvm.MethodName)) ∈ lw_Ts := tb_in (i := 1337) rfl rfl
set_option maxRecDepth 100000 in
theorem tw_1338 : (Cond.static ({ cls := "java/lang/String", name := "checkIndex", desc := "(II)V" } : Jvm.MethodName)) ∈ lw_Ts := tb_in (i := 1338) rfl rfl
set_option maxRecDepth 100000 in
theorem tw_1339 : (Cond.code ({ cls := "java/lang/String", name := "checkIndex", desc := "(II)V" } : Jvm.MethodName) prog_17_method_155_code (2 : Nat) (Option.none : Option Jvm.ClassFile.FieldType)) ∈ lw_Ts := tb_in (i := 1339) rfl rfl
set_option maxRecDepth 100000 in
theorem tw_1340 : (Cond.fieldLink "java/lang/String" (1053 : Nat) "jdk/internal/util/Preconditions" "SIOOBE_FORMATTER" "Ljava/util/function/BiFunction;") ∈ lw_Ts := tb_in (i := 1340) rfl rfl
set_option maxRecDepth 100000 in
theorem tw_1342 : (Cond.methodLink "java/lang/String" (1059 : Nat) ({ cls := "jdk/internal/util/Preconditions", name := "checkIndex", desc := "(IILjava/util/function/BiFunction;)I" } : Jvm.MethodName)) ∈ lw_Ts := tb_in (i := 1342) rfl rfl
set_option maxRecDepth 100000 in
theorem tw_1343 : (Cond.static ({ cls := "jdk/internal/util/Preconditions", name := "checkIndex", desc := "(IILjava/util/function/BiFunction;)I" } : Jvm.MethodName)) ∈ lw_Ts := tb_in (i := 1343) rfl rfl
set_option maxRecDepth 100000 in
theorem tw_1344 : (Cond.code ({ cls := "jdk/internal/util/Preconditions", name := "checkIndex", desc := "(IILjava/util/function/BiFunction;)I" } : Jvm.MethodName) prog_21_method_11_code (3 : Nat) (Option.some Jvm.ClassFile.FieldType.int)) ∈ lw_Ts := tb_in (i := 1344) rfl rfl
set_option maxRecDepth 100000 in
theorem tw_3327 : (Cond.fieldLink "java/lang/String" (9 : Nat) "java/lang/String" "value" "[B") ∈ lw_Ts := tb_in (i := 3327) rfl rfl
set_option maxRecDepth 100000 in
theorem tw_3328 : (Cond.fieldLink "java/lang/String" (15 : Nat) "java/lang/String" "coder" "B") ∈ lw_Ts := tb_in (i := 3328) rfl rfl
/-! ===== THE JDK's OWN METHODS: String.length, String.charAt (over constants), by hand ===== -/
def j_Q (E : Nat × (Nat → Nat)) (v : Option Value) : Array Value → State → Outcome → State → Prop := fun _ st o t => o = .returned v ∧ t.heap = st.heap ∧ ∃ L, (∀ q ∈ L, E.1 ≤ q.base) ∧ st.WarmedH t.vm ∧ st.sameButNew ({ t with vm := st.vm } : State) L 0 0
def j_C (l : Launch) (E : Nat × (Nat → Nat)) (d : Nat) (y : MethodName) (av : List Value) (v : Option Value) : Prop := MetFree l y (headSpec lw_Ts (a_rm d)) (fun a U => a = av.toArray ∧ a_J E U U.heap) (fun _ _ _ _ _ => True) (j_Q E v)
/-- an invocation's ends in such a method -/
abbrev j_E (E : Nat × (Nat → Nat)) (below : List Frame) (s : State) (args : Array Value) (v : Option Value) : State → Prop := MQ below (fun _ _ o t => o = .returned v ∧ t.heap = s.heap) args s 0 0 (fun q => E.1 ≤ q)
theorem j_body {l : Launch} {E : Nat × (Nat → Nat)} {y : MethodName} {bs : ByteArray} {nL d : Nat} {ret : Option FieldType} {av : List Value} {v : Option Value} (hpn : plainName y.cls = true) (hw : Cond.code y bs nL ret ∈ lw_Ts) (hwd : (lg_sl av).length ≤ nL)
    (hW : ∀ (p : Program) (e : Env) (s : State) (m : MethodId) (args : Array Value) (below : List Frame) (meth : Method) (c : Code), p.tables.exec = Jvm.exec → c.code = bs → c.maxLocals = nL → meth.locks = false → meth.sig.returnType = ret → (∀ w ∈ lw_Ts, w.before args s = true) → s.vm.findClass y.cls = some m.cls → a_J E s s.heap →
      ∀ lsR, lv_has lsR nL (lv_args 0 av) → W p l e (a_rm d) s m args below meth c s.heap [] 0 0 (j_E E below s args v) (F0 m 0 lsR [])) : j_C l E d y av v := by
  refine MetFree.of_bodyS (code := bs) (maxLocals := nL) (ret := ret) hpn ?_ ?_
  · intro args s mk h hn
    obtain ⟨meth, c, h1, h2, h3, h4, h5, h6, -⟩ := Cond.code_spec hn (atoms_spec (ws := lw_Ts) h _ hw)
    exact ⟨meth, c, h1, h2, h3, h4, h5, h6⟩
  · intro p e s m args below meth c s₁ B hml hP _
    obtain ⟨rfl, hJ⟩ := hP
    have hts := atoms_spec (ws := lw_Ts) B.pre
    have hown : s.vm.findClass y.cls = some m.cls := findClass_of_methodNamed B.named
    obtain ⟨meth', c', g1, g2, g3, g4, g5, g6, -⟩ := Cond.code_spec B.named (hts _ hw)
    cases B.method.symm.trans g1
    have X₀ : Stand p l e (headSpec lw_Ts (a_rm d)).room s m av.toArray below meth c s₁ [] 0 0 := Stand.of_body B
    cases X₀.code.symm.trans g2
    have hh0 : s₁.heap = s.heap := by rw [B.state]; rfl
    obtain ⟨t, a1, o', b1, b2, ⟨b3, b4⟩, L, ⟨_, b5, b6⟩, b7⟩ := hW p e s m av.toArray below meth c B.exec g3 g4 g6 g5 hts hown hJ _ (lv_entry av hwd) s₁ hh0 X₀
    refine ⟨t, o', ?_, b1, b2, b3, b4, L, b7, b5, b6⟩
    rw [lg_entry_eq]
    exact a1
section JJ
variable {p : Program} {l : Launch} {e : Env} {s : State} {m : MethodId} {args : Array Value} {below : List Frame} {meth : Method} {c : Code} {H : Heap} {locs : List Loc} {Q : State → Prop}
variable {E : Nat × (Nat → Nat)} {nL pc d : Nat} {cc : ByteArray} {lsR : Array Slot} {t : List Value}
theorem j_call {y : MethodName} {maxL : Nat} {av stk : List Value} {v : Option Value} {ig : Instr} (hb : c.code = cc) (hml : c.maxLocals = lsR.size) (hts : ∀ w ∈ lw_Ts, w.before args s = true) (hJ : a_J E s s.heap) (hS : va_S (fun q => E.1 ≤ q) s.heap H locs) (hC : j_C l E d y av v) (hY : ∀ U : State, s.WarmedH U.vm → a_Code y maxL U) (hmx : maxL ≤ 15) (hini : Cond.initialized y.cls ∈ lw_Ts) (hw : (t.map fun v => v.category).sum ≤ 24) (hd : decode cc pc = .ok (ig, 3))
    (hI : ∀ (T : State), T.heap = H → Stand p l e (a_rm (d + 1)) s m args below meth c T locs 0 0 → ∃ (vm₁ : Vm) (mk : MethodId), Stand p l e (a_rm (d + 1)) s m args below meth c (T.setVm vm₁) locs 0 0 ∧ (T.setVm vm₁).methodNamed? y = some mk ∧
      ∀ target, (∀ acts, Steps p.tables e below (doInvoke e ((T.setVm vm₁).setTop (F0 m pc lsR t)) acts mk av.toArray).1 target) → Steps p.tables e below (T.setTop (F0 m pc lsR stk)) target)
    (k : ∀ locs', va_S (fun q => E.1 ≤ q) s.heap H locs' → W p l e (a_rm (d + 1)) s m args below meth c H locs' 0 0 Q (F0 m (pc + 3) lsR (v.toList ++ t))) : W p l e (a_rm (d + 1)) s m args below meth c H locs 0 0 Q (F0 m pc lsR stk) := by
  intro T hT X
  obtain ⟨vm₁, mk, X₁, hn, hstep⟩ := hI T hT X
  obtain ⟨o, u, hq, hback⟩ := a_back hC X₁ (g := F0 m pc lsR t) rfl hml.symm (by rw [hb]; exact hd) (Wd := 24) (maxL := maxL) (by show 2 * 0 + (t.map fun v => v.category).sum ≤ 24; omega) (hY _ X₁.warmed) hn (Nat.le_refl _) (by show 24 + (maxL + 11) + 50 * d ≤ 50 * (d + 1); omega) rfl rfl
    (a := av.toArray) (atoms_intro fun w hw => tp_warm (lw_Tp w hw) X₁.warmed (hts w hw)) (tp_warm (lw_Tp _ hini) X₁.warmed (hts _ hini)) ⟨rfl, a_J.moved X₁.warmed.alike (hJ.kept (fun q hq hn => by show T.heap[q]? = _; rw [hT]; exact hS.2.1 q hq hn))⟩
  obtain ⟨ho, h1, L, hL, h2, h3⟩ := hq
  obtain ⟨T', e1, e2, X', hor⟩ := hback L h2 h3
  subst ho
  rcases hor with ⟨v', hv', hst⟩ | ⟨x, hx, -⟩
  · cases hv'
    have hS' : va_S (fun q => E.1 ≤ q) s.heap H (locs ++ L) := ⟨hS.1, hS.2.1, fun q hq => by
      rcases List.mem_append.mp hq with h | h
      · exact hS.2.2 q h
      · exact hL q h⟩
    obtain ⟨z, a1, b1⟩ := k (locs ++ L) hS' T' (by rw [e1, h1]; exact hT) X'
    exact ⟨z, hstep z (fun acts => by rw [doInvoke_state]; exact hst.trans a1), b1⟩
  · cases hx
theorem j_hIV {y : MethodName} {k idx maxL : Nat} {own : String} {as : List Value} (hx : p.tables.exec = Jvm.exec) (hb : c.code = cc) (hown : s.vm.findClass own = some m.cls) (hJ : a_J E s s.heap) (hk : k < 29) (hS : va_S (fun q => E.1 ≤ q) s.heap H locs) (hlink : (Cond.methodLink own idx y).before args s = true) (hinst : (Cond.instanceMethod y).before args s = true) (hsel : (Cond.selects "java/lang/String" y y).before args s = true)
    (hY : a_Code y maxL s) (hy : y.cls ≠ "java/lang/invoke/MethodHandle" ∧ y.cls ≠ "java/lang/invoke/VarHandle") (hlen : ∀ sig, parseMethodDescriptor y.desc = some sig → as.length = sig.parameters.length) (hd : decode cc pc = .ok (.invokevirtual idx, 3))
    (T : State) (hT : T.heap = H) (X : Stand p l e (a_rm (d + 1)) s m args below meth c T locs 0 0) :
    ∃ (vm₁ : Vm) (mk : MethodId), Stand p l e (a_rm (d + 1)) s m args below meth c (T.setVm vm₁) locs 0 0 ∧ (T.setVm vm₁).methodNamed? y = some mk ∧
      ∀ target, (∀ acts, Steps p.tables e below (doInvoke e ((T.setVm vm₁).setTop (F0 m pc lsR t)) acts mk ((.ref (E.2 k) :: as).toArray)).1 target) → Steps p.tables e below (T.setTop (F0 m pc lsR (as.reverse ++ .ref (E.2 k) :: t))) target := by
  obtain ⟨cell, hcell, g4, hcls⟩ := vk_recv hJ.1 hk hS
  obtain ⟨mk, methM, hnamed, hmethM, hstM, habM⟩ := Cond.instanceMethod_spec hinst
  obtain ⟨mk', methM', cM, hn', hmethM', -, -, hsigM⟩ := hY
  cases hnamed.symm.trans hn'
  cases hmethM.symm.trans hmethM'
  obtain ⟨c2, r2, m2, q1, q2, q3, q4, kP, hkP, hkPi⟩ := Cond.selects_spec hsel
  cases hcls.symm.trans q1
  cases (State.methodFound?_of_named hnamed hy).symm.trans q2
  cases hnamed.symm.trans q3
  have hselP : selectMethod e.platform s.vm cell.cls mk = .method mk := by rw [Launch.admits_selectMethod X.admits]; exact q4
  obtain ⟨vm₁, X₁, hstep₁⟩ := X.invokevirtual hx hown hlink hnamed hmethM hstM hkP hkPi hy (a := E.2 k) (cell := cell) (by rw [hT]; exact hcell) (fun z h => by rw [h] at g4; cases g4) hselP hmethM habM hkP hkPi (g := F0 m pc lsR (as.reverse ++ .ref (E.2 k) :: t)) rfl (argsL := as) (rest := t) (hlen _ hsigM) rfl (by rw [hb]; exact hd)
  exact ⟨vm₁, mk, X₁, X₁.named hnamed, fun target h => hstep₁ target h⟩
theorem j_hIS {y : MethodName} {idx maxL : Nat} {own : String} {as : List Value} (hx : p.tables.exec = Jvm.exec) (hb : c.code = cc) (hown : s.vm.findClass own = some m.cls) (hlink : (Cond.methodLink own idx y).before args s = true) (hstat : (Cond.static y).before args s = true) (hini : (Cond.initialized y.cls).before args s = true)
    (hY : a_Code y maxL s) (hy : y.cls ≠ "java/lang/invoke/MethodHandle" ∧ y.cls ≠ "java/lang/invoke/VarHandle") (hlen : ∀ sig, parseMethodDescriptor y.desc = some sig → as.length = sig.parameters.length) (hd : decode cc pc = .ok (.invokestatic idx, 3))
    (T : State) (X : Stand p l e (a_rm (d + 1)) s m args below meth c T locs 0 0) :
    ∃ (vm₁ : Vm) (mk : MethodId), Stand p l e (a_rm (d + 1)) s m args below meth c (T.setVm vm₁) locs 0 0 ∧ (T.setVm vm₁).methodNamed? y = some mk ∧
      ∀ target, (∀ acts, Steps p.tables e below (doInvoke e ((T.setVm vm₁).setTop (F0 m pc lsR t)) acts mk as.toArray).1 target) → Steps p.tables e below (T.setTop (F0 m pc lsR (as.reverse ++ t))) target := by
  obtain ⟨mk, methM, cM, hnamed, hmethM, -, -, hsigM⟩ := hY
  have hstatic : methM.isStatic = true := Cond.static_spec hnamed hmethM hstat
  obtain ⟨kP, hkP, -⟩ := className_of_methodNamed hnamed
  have hinitP : kP.init = .initialized := Cond.initialized_spec (findClass_of_methodNamed hnamed) hkP hini
  obtain ⟨vm₁, X₁, hstep₁⟩ := X.invokestatic hx hown hlink hnamed hmethM hstatic hkP hinitP hy (g := F0 m pc lsR (as.reverse ++ t)) rfl (argsL := as) (rest := t) (hlen _ hsigM) rfl (by rw [hb]; exact hd)
  exact ⟨vm₁, mk, X₁, X₁.named hnamed, fun target h => hstep₁ target h⟩
end JJ
theorem j_yok {y : MethodName} {bs : ByteArray} {nL : Nat} {ret : Option FieldType} {args : Array Value} {s : State} (hw : Cond.code y bs nL ret ∈ lw_Ts) (hts : ∀ w ∈ lw_Ts, w.before args s = true) : ∀ U : State, s.WarmedH U.vm → a_Code y nL U :=
  fun U hU => a_Code.of (args := args) (tp_warm (lw_Tp _ hw) hU (hts _ hw))
set_option maxRecDepth 100000 in
theorem j_coder {l : Launch} {E : Nat × (Nat → Nat)} {d k : Nat} (hk : k < 29) : j_C l E d ⟨"java/lang/String", "coder", "()B"⟩ [.ref (E.2 k)] (some (.int 0)) := by
  refine j_body (bs := prog_17_method_152_code) (nL := 1) (ret := some .byte) (by decide +kernel) tw_1323 (Nat.le_refl 1) ?_
  intro p e s m args below meth c hx hb hml hlk hr hts hown hJ lsR hl
  have hS : va_S (fun q => E.1 ≤ q) s.heap s.heap [] := va_S.rf
  have h0 : lsR[0]? = some (.val (.ref (E.2 k))) := hl.2.2 (0, .ref (E.2 k)) List.mem_cons_self
  refine va_gets hx hb hJ.2.1 hS hown (hts _ tw_1324) (fun x h => h) rfl ?_
  refine lv_if_eq hx hb (off := 10) (tgt := 13) rfl rfl (fun h => absurd h (by decide)) (fun _ => ?_)
  refine lv_aload_n hx hb (i := 0) rfl rfl h0 ?_
  refine vk_getf hx hb (hJ.1.1 k hk).2.1 hS hown (hts _ tw_3328) (fun x h => h) rfl ?_
  refine lv_goto hx hb (off := 4) (tgt := 14) rfl rfl ?_
  exact W.zret hx hb hr rfl (fun t ht _ => ⟨rfl, ht⟩) (fun q hq => by cases hq) rfl hlk
set_option maxRecDepth 100000 in
theorem j_lat {l : Launch} {E : Nat × (Nat → Nat)} {d k : Nat} (hk : k < 29) : j_C l E d ⟨"java/lang/String", "isLatin1", "()Z"⟩ [.ref (E.2 k)] (some (.int 1)) := by
  refine j_body (bs := prog_17_method_154_code) (nL := 1) (ret := some .boolean) (by decide +kernel) tw_1333 (Nat.le_refl 1) ?_
  intro p e s m args below meth c hx hb hml hlk hr hts hown hJ lsR hl
  have hS : va_S (fun q => E.1 ≤ q) s.heap s.heap [] := va_S.rf
  have h0 : lsR[0]? = some (.val (.ref (E.2 k))) := hl.2.2 (0, .ref (E.2 k)) List.mem_cons_self
  refine va_gets hx hb hJ.2.1 hS hown (hts _ tw_1324) (fun x h => h) rfl ?_
  refine lv_if_eq hx hb (off := 14) (tgt := 17) rfl rfl (fun h => absurd h (by decide)) (fun _ => ?_)
  refine lv_aload_n hx hb (i := 0) rfl rfl h0 ?_
  refine vk_getf hx hb (hJ.1.1 k hk).2.1 hS hown (hts _ tw_3328) (fun x h => h) rfl ?_
  refine lv_if_ne hx hb (off := 7) (tgt := 17) rfl rfl (fun h => absurd rfl h) (fun _ => ?_)
  refine lv_iconst hx hb rfl (v := 1) rfl ?_
  refine lv_goto hx hb (off := 4) (tgt := 18) rfl rfl ?_
  exact W.zret hx hb hr rfl (fun t ht _ => ⟨rfl, ht⟩) (fun q hq => by cases hq) rfl hlk
set_option maxRecDepth 100000 in
theorem j_pchk {l : Launch} {E : Nat × (Nat → Nat)} {d : Nat} {i n : Int32} {z : Value} (h0 : ¬ i < 0) (h1 : i < n) (hz : z = .null ∨ ∃ a, z = .ref a) : j_C l E d ⟨"jdk/internal/util/Preconditions", "checkIndex", "(IILjava/util/function/BiFunction;)I"⟩ [.int i, .int n, z] (some (.int i)) := by
  have hzc : (lg_sl [.int i, .int n, z]).length ≤ 3 := by rcases hz with rfl | ⟨a, rfl⟩ <;> exact Nat.le_refl 3
  refine j_body (bs := prog_21_method_11_code) (nL := 3) (ret := some .int) (by decide +kernel) tw_1344 hzc ?_
  intro p e s m args below meth c hx hb hml hlk hr hts hown hJ lsR hl
  have l0 : lsR[0]? = some (.val (.int i)) := hl.2.2 (0, .int i) List.mem_cons_self
  have l1 : lsR[1]? = some (.val (.int n)) := hl.2.2 (1, .int n) (List.mem_cons_of_mem _ List.mem_cons_self)
  refine lv_iload_n hx hb (i := 0) rfl rfl l0 ?_
  refine lv_if_lt hx hb (off := 8) (tgt := 9) rfl rfl (fun h => absurd h h0) (fun _ => ?_)
  refine lv_iload_n hx hb (i := 0) rfl rfl l0 ?_
  refine lv_iload_n hx hb (i := 1) rfl rfl l1 ?_
  refine lv_icmp_lt hx hb (off := 10) (tgt := 16) rfl rfl (fun _ => ?_) (fun h => absurd h1 h)
  refine lv_iload_n hx hb (i := 0) rfl rfl l0 ?_
  exact W.iret hx hb hr (fun t ht _ => ⟨rfl, ht⟩) (fun q hq => by cases hq) rfl hlk
set_option maxRecDepth 100000 in
theorem j_chk {l : Launch} {E : Nat × (Nat → Nat)} {d : Nat} {i n : Int32} (h0 : ¬ i < 0) (h1 : i < n) : j_C l E (d + 1) ⟨"java/lang/String", "checkIndex", "(II)V"⟩ [.int i, .int n] none := by
  refine j_body (bs := prog_17_method_155_code) (nL := 2) (ret := none) (by decide +kernel) tw_1339 (Nat.le_refl 2) ?_
  intro p e s m args below meth c hx hb hml hlk hr hts hown hJ lsR hl
  have hS : va_S (fun q => E.1 ≤ q) s.heap s.heap [] := va_S.rf
  have l0 : lsR[0]? = some (.val (.int i)) := hl.2.2 (0, .int i) List.mem_cons_self
  have l1 : lsR[1]? = some (.val (.int n)) := hl.2.2 (1, .int n) (List.mem_cons_of_mem _ List.mem_cons_self)
  refine lv_iload_n hx hb (i := 0) rfl rfl l0 ?_
  refine lv_iload_n hx hb (i := 1) rfl rfl l1 ?_
  obtain ⟨z, hz, hZ⟩ : ∃ z, (z = .null ∨ ∃ a, z = .ref a) ∧ va_Z "jdk/internal/util/Preconditions" "SIOOBE_FORMATTER" "Ljava/util/function/BiFunction;" z (fun q => E.1 ≤ q) s s.heap := by
    rcases hJ.2.2 with h | ⟨a, h⟩
    · exact ⟨_, Or.inl rfl, h⟩
    · exact ⟨_, Or.inr ⟨a, rfl⟩, h⟩
  refine va_gets hx hb hZ hS hown (hts _ tw_1340) (fun x h => h) rfl ?_
  have hcode : Cond.code ⟨"jdk/internal/util/Preconditions", "checkIndex", "(IILjava/util/function/BiFunction;)I"⟩ prog_21_method_11_code 3 (some .int) ∈ lw_Ts := tw_1344
  refine j_call (t := []) (v := some (.int i)) (maxL := 3) hb (hml.trans hl.1.symm) hts hJ hS (j_pchk h0 h1 hz) (j_yok hcode hts) (by decide) tw_16 (by decide) (ig := .invokestatic 1059) rfl
    (fun T hT X => j_hIS (as := [.int i, .int n, z]) (t := []) hx hb hown (hts _ tw_1342) (hts _ tw_1343) (hts _ tw_16) (a_Code.of (hts _ hcode)) ⟨by decide, by decide⟩ (fun sig h => ?_) rfl T X) (fun locs' hS' => ?_)
  · have e : parseMethodDescriptor "(IILjava/util/function/BiFunction;)I" = some sig := h
    have e2 : (parseMethodDescriptor "(IILjava/util/function/BiFunction;)I").map (fun q => q.parameters.length) = some 3 := by decide +kernel
    rw [e] at e2
    exact (Option.some.inj e2).symm
  · refine lv_pop hx hb rfl rfl ?_
    exact W.vret hx hb hr (fun t ht _ => ⟨rfl, ht⟩) (fun q hq => hS'.2.2 q hq) rfl hlk
theorem j_pl {desc : String} {n : Nat} (h : (parseMethodDescriptor desc).map (fun q => q.parameters.length) = some n) : ∀ sig, parseMethodDescriptor desc = some sig → n = sig.parameters.length := by
  intro sig hs
  rw [hs] at h
  exact (Option.some.inj h).symm
/-- a constant's char -/
def strCh (k j : Nat) : Int32 := (strByt.getD k []).getD j 0
theorem strCh_ok : ∀ k, k < 29 → ∀ j, j < strLen.getD k 0 → (((strCh k j &&& 255).toUInt32 % 65536).toInt32 = strCh k j ∧ narrow .char (.int (strCh k j)) = .int (strCh k j) ∧ 0 ≤ (strCh k j).toInt ∧ (strCh k j).toInt < 128) := by decide +kernel
theorem strLen_ok : ∀ k, k < 29 → strLen.getD k 0 < 100 ∧ (Int32.ofNat (strLen.getD k 0) >>> ((0 : Int32) &&& 31)) = Int32.ofNat (strLen.getD k 0) := by decide +kernel
theorem j_idx {j n : Nat} (hj : j < n) (hn : n < 100) : ¬ Int32.ofNat j < 0 ∧ Int32.ofNat j < Int32.ofNat n ∧ (Int32.ofNat j).toNatClampNeg = j := by
  have e1 : (Int32.ofNat j).toInt = j := Int32.toInt_ofNat_of_lt (by omega)
  have e2 : (Int32.ofNat n).toInt = n := Int32.toInt_ofNat_of_lt (by omega)
  refine ⟨?_, ?_, ?_⟩
  · rw [Int32.lt_iff_toInt_lt, e1]; show ¬ (j : Int) < 0; omega
  · rw [Int32.lt_iff_toInt_lt, e1, e2]; omega
  · show (Int32.ofNat j).toInt.toNat = j; rw [e1]; rfl
set_option maxRecDepth 100000 in
theorem j_lchar {l : Launch} {E : Nat × (Nat → Nat)} {d k j : Nat} (hk : k < 29) (hj : j < strLen.getD k 0) : j_C l E (d + 2) ⟨"java/lang/StringLatin1", "charAt", "([BI)C"⟩ [.ref (E.2 (k + 100)), .int (Int32.ofNat j)] (some (.int (strCh k j))) := by
  refine j_body (bs := prog_18_method_2_code) (nL := 2) (ret := some .char) (by decide +kernel) tw_1336 (Nat.le_refl 2) ?_
  intro p e s m args below meth c hx hb hml hlk hr hts hown hJ lsR hl
  have hS : va_S (fun q => E.1 ≤ q) s.heap s.heap [] := va_S.rf
  obtain ⟨k1, k2, k3⟩ := j_idx hj (strLen_ok k hk).1
  obtain ⟨c1, c2, -⟩ := strCh_ok k hk j hj
  have l0 : lsR[0]? = some (.val (.ref (E.2 (k + 100)))) := hl.2.2 (0, .ref (E.2 (k + 100))) List.mem_cons_self
  have l1 : lsR[1]? = some (.val (.int (Int32.ofNat j))) := hl.2.2 (1, .int (Int32.ofNat j)) (List.mem_cons_of_mem _ List.mem_cons_self)
  have hT0 := (hJ.1.1 k hk).2.2.2
  refine lv_iload_n hx hb (i := 1) rfl rfl l1 ?_
  refine lv_aload_n hx hb (i := 0) rfl rfl l0 ?_
  refine va_tlen hx hb hT0 hS rfl rfl ?_
  have hcode : Cond.code ⟨"java/lang/String", "checkIndex", "(II)V"⟩ prog_17_method_155_code 2 none ∈ lw_Ts := tw_1339
  refine j_call (t := []) (v := none) (maxL := 2) hb (hml.trans hl.1.symm) hts hJ hS (j_chk (d := d) k1 k2) (j_yok hcode hts) (by decide) tw_14 (by decide) (ig := .invokestatic 9) rfl
    (fun T hT X => j_hIS (as := [.int (Int32.ofNat j), .int (Int32.ofNat (strLen.getD k 0))]) (t := []) hx hb hown (hts _ tw_1337) (hts _ tw_1338) (hts _ tw_14) (a_Code.of (hts _ hcode)) ⟨by decide, by decide⟩ (j_pl (n := 2) (by decide +kernel)) rfl T X) (fun locs' hS' => ?_)
  refine lv_aload_n hx hb (i := 0) rfl rfl l0 ?_
  refine lv_iload_n hx hb (i := 1) rfl rfl l1 ?_
  refine va_tb hx hb hT0 hS' (v := .int (strCh k j)) (fun h => by
    rcases h with h | h
    · exact k1 h
    · rw [k3] at h; omega) (by rw [k3]; rfl) rfl ?_
  refine lv_sipush hx hb (v := 255) rfl rfl ?_
  refine lv_iand hx hb rfl ?_
  refine lv_i2c hx hb rfl c1 ?_
  exact W.zret hx hb hr c2 (fun t ht _ => ⟨rfl, ht⟩) (fun q hq => hS'.2.2 q hq) rfl hlk
set_option maxRecDepth 100000 in
theorem j_length {l : Launch} {E : Nat × (Nat → Nat)} {d k : Nat} (hk : k < 29) : j_C l E (d + 1) ⟨"java/lang/String", "length", "()I"⟩ [.ref (E.2 k)] (some (.int (Int32.ofNat (strLen.getD k 0)))) := by
  refine j_body (bs := prog_17_method_54_code) (nL := 1) (ret := some .int) (by decide +kernel) tw_1319 (Nat.le_refl 1) ?_
  intro p e s m args below meth c hx hb hml hlk hr hts hown hJ lsR hl
  have hS : va_S (fun q => E.1 ≤ q) s.heap s.heap [] := va_S.rf
  have h0 : lsR[0]? = some (.val (.ref (E.2 k))) := hl.2.2 (0, .ref (E.2 k)) List.mem_cons_self
  refine lv_aload_n hx hb (i := 0) rfl rfl h0 ?_
  refine vk_getf hx hb (hJ.1.1 k hk).2.2.1 hS hown (hts _ tw_3327) (fun x h => h) rfl ?_
  refine va_tlen hx hb (hJ.1.1 k hk).2.2.2 hS rfl rfl ?_
  refine lv_aload_n hx hb (i := 0) rfl rfl h0 ?_
  have hcode : Cond.code ⟨"java/lang/String", "coder", "()B"⟩ prog_17_method_152_code 1 (some .byte) ∈ lw_Ts := tw_1323
  refine j_call (t := [.int (Int32.ofNat (strLen.getD k 0))]) (v := some (.int 0)) (maxL := 1) hb (hml.trans hl.1.symm) hts hJ hS (j_coder hk) (j_yok hcode hts) (by decide) tw_14 (by show 1 ≤ 24; decide) (ig := .invokevirtual 335) rfl
    (fun T hT X => j_hIV (as := []) (k := k) (t := [.int (Int32.ofNat (strLen.getD k 0))]) hx hb hown hJ hk hS (hts _ tw_1320) (hts _ tw_1321) (hts _ tw_1322) (a_Code.of (hts _ hcode)) ⟨by decide, by decide⟩ (j_pl (n := 0) (by decide +kernel)) rfl T hT X) (fun locs' hS' => ?_)
  refine lv_ishr hx hb rfl ?_
  rw [(strLen_ok k hk).2]
  exact W.iret hx hb hr (fun t ht _ => ⟨rfl, ht⟩) (fun q hq => hS'.2.2 q hq) rfl hlk
set_option maxRecDepth 100000 in
theorem j_charAt {l : Launch} {E : Nat × (Nat → Nat)} {d k j : Nat} (hk : k < 29) (hj : j < strLen.getD k 0) : j_C l E (d + 3) ⟨"java/lang/String", "charAt", "(I)C"⟩ [.ref (E.2 k), .int (Int32.ofNat j)] (some (.int (strCh k j))) := by
  refine j_body (bs := prog_17_method_56_code) (nL := 2) (ret := some .char) (by decide +kernel) tw_1329 (Nat.le_refl 2) ?_
  intro p e s m args below meth c hx hb hml hlk hr hts hown hJ lsR hl
  have hS : va_S (fun q => E.1 ≤ q) s.heap s.heap [] := va_S.rf
  obtain ⟨c1, c2, -⟩ := strCh_ok k hk j hj
  have l0 : lsR[0]? = some (.val (.ref (E.2 k))) := hl.2.2 (0, .ref (E.2 k)) List.mem_cons_self
  have l1 : lsR[1]? = some (.val (.int (Int32.ofNat j))) := hl.2.2 (1, .int (Int32.ofNat j)) (List.mem_cons_of_mem _ List.mem_cons_self)
  refine lv_aload_n hx hb (i := 0) rfl rfl l0 ?_
  have hcode : Cond.code ⟨"java/lang/String", "isLatin1", "()Z"⟩ prog_17_method_154_code 1 (some .boolean) ∈ lw_Ts := tw_1333
  refine j_call (t := []) (v := some (.int 1)) (maxL := 1) hb (hml.trans hl.1.symm) hts hJ hS (j_lat (d := d + 2) hk) (j_yok hcode hts) (by decide) tw_14 (by decide) (ig := .invokevirtual 492) rfl
    (fun T hT X => j_hIV (as := []) (k := k) (t := []) hx hb hown hJ hk hS (hts _ tw_1330) (hts _ tw_1331) (hts _ tw_1332) (a_Code.of (hts _ hcode)) ⟨by decide, by decide⟩ (j_pl (n := 0) (by decide +kernel)) rfl T hT X) (fun locs' hS' => ?_)
  refine lv_if_eq hx hb (off := 12) (tgt := 16) rfl rfl (fun h => absurd h (by decide)) (fun _ => ?_)
  refine lv_aload_n hx hb (i := 0) rfl rfl l0 ?_
  refine vk_getf hx hb (hJ.1.1 k hk).2.2.1 hS' hown (hts _ tw_3327) (fun x h => h) rfl ?_
  refine lv_iload_n hx hb (i := 1) rfl rfl l1 ?_
  have hcode2 : Cond.code ⟨"java/lang/StringLatin1", "charAt", "([BI)C"⟩ prog_18_method_2_code 2 (some .char) ∈ lw_Ts := tw_1336
  refine j_call (t := []) (v := some (.int (strCh k j))) (maxL := 2) hb (hml.trans hl.1.symm) hts hJ hS' (j_lchar (d := d) hk hj) (j_yok hcode2 hts) (by decide) tw_15 (by decide) (ig := .invokestatic 495) rfl
    (fun T hT X => j_hIS (as := [.ref (E.2 (k + 100)), .int (Int32.ofNat j)]) (t := []) hx hb hown (hts _ tw_1334) (hts _ tw_1335) (hts _ tw_15) (a_Code.of (hts _ hcode2)) ⟨by decide, by decide⟩ (j_pl (n := 2) (by decide +kernel)) rfl T X) (fun locs'' hS'' => ?_)
  exact W.zret hx hb hr c2 (fun t ht _ => ⟨rfl, ht⟩) (fun q hq => hS''.2.2 q hq) rfl hlk
/-- from such a contract to the machine's -/
theorem j_to {l : Launch} {E : Nat × (Nat → Nat)} {dA : Nat → ClassId} {D : va_G} {d : Nat} {y : MethodName} {as : List mV} {w : mW} {av : List Value} {v : Option mV} {vR : Option Value} (h : j_C l E d y av vR) (ha : as.map (a_v E) = av) (hv : v.map (a_v E) = vR) (hok : ∀ u, v = some u → a_ok w u) : a_C l E dA D lw_Ts d y as w (.inl v, w) := by
  intro p e h1 h2 h3 s m args below hf happ hP hK
  obtain ⟨g1, g2, g3, g4, g5, g6⟩ := hP
  obtain ⟨n, o, q1, q2, q3, q4, q5, L, q6, q7, q8⟩ := h p e h1 h2 h3 s m args below hf happ ⟨by rw [g1, ha], g6⟩ trivial
  subst q4
  refine ⟨n, _, q1, q2, q3, ⟨by rw [hv], hok⟩, L, ⟨by rw [q5]; exact g2, ⟨?_, ?_, q6⟩, g4⟩, q7, q8⟩
  · rw [q5]; exact (va_S.rf (A := fun q => E.1 ≤ q) (H0 := s.heap)).1
  · rw [q5]; exact (va_S.rf (A := fun q => E.1 ≤ q) (H0 := s.heap)).2.1
