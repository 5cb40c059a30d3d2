/-! ===== A WHOLE METHOD; CALLS BY THEIR DEPTH ===== -/
/-- the variables at a method's entry -/
def m_ent : Nat → List mV → mL
  | _, [] => []
  | i, v :: vs => (i, v) :: m_ent (bif Nat.beq (m_cat v) 2 then i + 2 else i + 1) vs
theorem a_ent {E : Nat × (Nat → Nat)} : ∀ (vs : List mV) (i : Nat), lv_args i (vs.map (a_v E)) = (m_ent i vs).map (fun q => (q.1, a_v E q.2))
  | [], _ => rfl
  | v :: vs, i => by
    rw [List.map_cons]
    unfold lv_args m_ent
    rw [List.map_cons, ← a_ent vs, a_cat]
    congr 1
    cases h : Nat.beq (m_cat v) 2 with
    | true => rw [if_pos (Nat.eq_of_beq_eq_true h)]; rfl
    | false => rw [if_neg (Nat.ne_of_beq_eq_false h)]; rfl
theorem a_ent_ok {w : mW} : ∀ (vs : List mV) (i : Nat), (∀ v ∈ vs, a_ok w v) → ∀ q ∈ m_ent i vs, a_ok w q.2
  | [], _, _, q, hq => by cases hq
  | v :: vs, i, h, q, hq => by
    unfold m_ent at hq
    rcases List.mem_cons.mp hq with rfl | hq
    · exact h _ List.mem_cons_self
    · exact a_ent_ok vs _ (fun v hv => h v (List.mem_cons_of_mem _ hv)) q hq
theorem a_slw {E : Nat × (Nat → Nat)} : ∀ (vs : List mV), (lg_sl (vs.map (a_v E))).length = m_wd vs
  | [] => rfl
  | v :: vs => by
    have ih := a_slw (E := E) vs
    unfold lg_sl at *
    rw [List.map_cons, List.flatMap_cons, List.length_append, ih, a_cat]
    show _ = m_cat v + m_wd vs
    congr 1
    rcases v with x | x | _ | q <;> rfl
/-- all of a method's blocks are in order -/
def a_blks (bs : ByteArray) (o rt nL : Nat) (kt : List (Nat × Nat × Nat × Nat)) (ml : List (Nat × Nat × Nat × Nat × Nat)) (M : mM) : Bool := M.2.1.all (fun q => a_chk bs o rt nL kt ml q.2.2.2 q.1)
theorem a_blks_B {bs : ByteArray} {o rt nL : Nat} {kt : List (Nat × Nat × Nat × Nat)} {ml : List (Nat × Nat × Nat × Nat × Nat)} : ∀ (bl : List (Nat × mB)), bl.all (fun q => a_chk bs o rt nL kt ml q.2.2.2 q.1) = true → ∀ pc b, m_B bl pc = some b → a_chk bs o rt nL kt ml b.2.2 pc = true
  | [], _, pc, b, h => by cases h
  | q :: r, ha, pc, b, h => by
    rw [List.all_cons, Bool.and_eq_true] at ha
    unfold m_B at h
    cases hq : Nat.beq q.1 pc with
    | true => rw [hq] at h; cases h; rw [← Nat.eq_of_beq_eq_true hq]; exact ha.1
    | false => rw [hq] at h; exact a_blks_B r ha.2 pc b h
/-- what is known of a method's tables: its name, code (of either form), return type; the class that it stands in -/
def a_MT (Ts : List Cond) (y : MethodName) (bs : ByteArray) (o rt nL ct : Nat) (Hd : List (Nat × Nat × Nat)) : Prop :=
  plainName y.cls = true ∧ y.cls = cn o ∧ ∃ ret, a_rt rt ret ∧ ((Cond.code y bs nL ret ∈ Ts ∧ Hd = []) ∨ (Cond.codeWith y bs nL ret (Hd.map (fun q => (q.1, q.2.1, q.2.2, ct))) ∈ Ts ∧ ct ≠ 0 ∧ Cond.classLink (cn o) ct "java/lang/IllegalStateException" ∈ Ts ∧ Cond.castable "java/lang/IllegalStateException" "java/lang/IllegalStateException" ∈ Ts))
theorem a_MT.spec {Ts : List Cond} {y : MethodName} {bs : ByteArray} {o rt nL ct : Nat} {Hd : List (Nat × Nat × Nat)} (h : a_MT Ts y bs o rt nL ct Hd) : ∃ ret, a_rt rt ret ∧ ∀ (args : Array Value) (s : State) (mk : MethodId), (∀ w ∈ Ts, w.before args s = true) → s.methodNamed? y = some mk →
    ∃ meth c, s.vm.method? mk = some meth ∧ meth.code = some c ∧ c.code = bs ∧ c.maxLocals = nL ∧ meth.sig.returnType = ret ∧ meth.locks = false ∧ c.exceptionTable.toList.map (fun h => (h.startPc, h.endPc, h.handlerPc, h.catchType)) = Hd.map (fun q => (q.1, q.2.1, q.2.2, ct)) := by
  obtain ⟨-, -, ret, hrt, hor⟩ := h
  refine ⟨ret, hrt, fun args s mk hts hn => ?_⟩
  rcases hor with ⟨hw, rfl⟩ | ⟨hw, -⟩
  · obtain ⟨meth, c, h1, h2, h3, h4, h5, h6, h7, -⟩ := Cond.code_spec hn (hts _ hw)
    refine ⟨meth, c, h1, h2, h3, h4, h5, h6, ?_⟩
    have h0 : c.exceptionTable.size = 0 := by simpa [Array.isEmpty] using h7
    have h9 : c.exceptionTable.toList = [] := List.eq_nil_of_length_eq_zero (by simpa using h0)
    rw [h9]; rfl
  · obtain ⟨mk', meth, c, hn', h1, h2, h3, h4, h5, h6, h7, -⟩ := Cond.codeWith_spec (hts _ hw)
    cases hn.symm.trans hn'
    exact ⟨meth, c, h1, h2, h3, h4, h6, h7, h5⟩
/-- A METHOD's RUN IS ITS CONTRACT -/
theorem a_meth {l : Launch} {E : Nat × (Nat → Nat)} {dA : Nat → ClassId} {D : va_G} {Ts : List Cond} {y : MethodName} {bs : ByteArray} {o rt nL ct d : Nat} {kt : List (Nat × Nat × Nat × Nat)} {ml : List (Nat × Nat × Nat × Nat × Nat)} {nm : Nat → MethodName} {mx : Nat → Nat} {M : mM} {cl : Nat → List mV → mW → Option mR}
    (hT : ∀ w ∈ tables_1, tp_ok w = true → w ∈ Ts) (hTs : ∀ w ∈ Ts, tp_ok w = true) (hMT : a_MT Ts y bs o rt nL ct M.2.2) (hmd : M.1 = true) (hbk : a_blks bs o rt nL kt ml M = true) (hml2 : ∀ q ∈ ml, a_mlok Ts nm mx o q) (hkt : ∀ q ∈ kt, a_ktok Ts o q)
    (hcl : ∀ y as w r, cl y as w = some r → a_C l E dA D Ts d (nm y) as w r ∧ r.2.1 = w.1) {as : List mV} {w : mW} {r : mR} (hwd : m_wd as ≤ nL) (h : m_K lay M cl 0 (m_ent 0 as) [] w = some r) : a_C l E dA D Ts (d + 1) y as w r ∧ r.2.1 = w.1 := by
  obtain ⟨md, bl, Hd⟩ := M
  cases hmd
  have hshk : ∀ f pc ls st w, m_Sh w (m_k lay (true, bl, Hd) cl f pc ls st w) := by
    intro f
    induction f with
    | zero => intro pc ls st w; exact m_Sh_n w
    | succ f ih =>
      intro pc ls st w
      show m_Sh w (match m_B bl pc with | none => none | some b => _)
      split
      · exact m_Sh_n w
      · exact m_Sh_ev ih (fun y as w r h => (hcl y as w r h).2) _ _ _ _ _
  obtain ⟨f0, hf⟩ := (m_lim_Lm _ r).mp h
  have hf := hf f0 (Nat.le_refl _)
  have hf : m_k lay (true, bl, Hd) cl f0 0 (m_ent 0 as) [] w = some r := hf
  refine ⟨?_, hshk f0 _ _ _ _ r hf⟩
  obtain ⟨ret, hrt, hsp⟩ := hMT.spec
  refine MetFree.of_bodyS (code := bs) (maxLocals := nL) (ret := ret) hMT.1 ?_ ?_
  · intro args s mk h hn
    obtain ⟨meth, c, h1, h2, h3, h4, h5, h6, -⟩ := hsp args s mk (atoms_spec (ws := Ts) h) hn
    exact ⟨meth, c, h1, h2, h3, h4, h5, h6⟩
  · intro p e s m args below meth c s₁ B hml hP _
    obtain ⟨rfl, hPp, hK, hwok, hoa, hJ0⟩ := hP
    have hts := atoms_spec (ws := Ts) B.pre
    have hown : s.vm.findClass (cn o) = some m.cls := by rw [← hMT.2.1]; exact findClass_of_methodNamed B.named
    obtain ⟨meth', c', g1, g2, g3, g4, g5, g6, g7⟩ := hsp _ s m hts B.named
    cases B.method.symm.trans g1
    have X₀ : Stand p l e (headSpec Ts (a_rm (d + 1))).room s m (as.map (a_v E)).toArray below meth c s₁ [] 0 0 := Stand.of_body B
    cases X₀.code.symm.trans g2
    have hh0 : s₁.heap = s.heap := by rw [B.state]; rfl
    have hrt' : a_rt rt meth.sig.returnType := by rw [g5]; exact hrt
    have hlink : Hd ≠ [] → ct ≠ 0 ∧ (Cond.classLink (cn o) ct "java/lang/IllegalStateException").before (as.map (a_v E)).toArray s = true ∧ (Cond.castable "java/lang/IllegalStateException" "java/lang/IllegalStateException").before (as.map (a_v E)).toArray s = true := by
      intro hne
      obtain ⟨-, -, -, -, ⟨-, hz⟩ | ⟨-, k1, k2, k3⟩⟩ := hMT
      · exact absurd hz hne
      · exact ⟨k1, hts _ k2, hts _ k3⟩
    have hW : ∀ f pc ls st w r, m_k lay (true, bl, Hd) cl f pc ls st w = some r → a_W p l e (a_rm (d + 1)) s m (as.map (a_v E)).toArray below meth c E dA D nL pc ls st w r := by
      intro f
      induction f with
      | zero => intro pc ls st w r h; cases h
      | succ f ih =>
        intro pc ls st w r h
        have h : (match m_B bl pc with | none => none | some b => m_ev true lay (m_B bl) Hd cl (m_k lay (true, bl, Hd) cl f) 5000 b.2.2 ls st w) = some r := h
        cases hb : m_B bl pc with
        | none => rw [hb] at h; cases h
        | some b =>
          rw [hb] at h
          exact a_main (d := d) (nm := nm) (mx := mx) B.exec g3 g4 rfl g6 hrt' hT hTs hts hown hK hJ0 hlink g7 hml2 hkt hcl ih (a_blks_B bl hbk) 5000 b.2.2 pc ls st w r (a_blks_B bl hbk pc b hb) h
    have hl := lv_entry (as.map (a_v E)) (n := nL) (by rw [a_slw]; exact hwd)
    rw [a_ent] at hl
    have K := hW f0 0 (m_ent 0 as) [] w r hf s.heap [] _ ⟨hPp, va_S.rf, hwok⟩ hl (a_ent_ok as 0 hoa) (fun v hv => by cases hv)
    obtain ⟨t, a1, o', b1, b2, b3, L, b4, b5, b6⟩ := K s₁ hh0 X₀
    refine ⟨t, o', ?_, b1, b2, b3, L, b4, b5, b6⟩
    rw [lg_entry_eq]
    exact a1
