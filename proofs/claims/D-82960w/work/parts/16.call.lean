/-! ===== A CALL AND A THROW OF THE MACHINE AGAINST THE JVM's ===== -/
theorem a_S_trans {A : Nat → Prop} {H0 H1 H2 : Heap} {l1 l2 : List Loc} (h1 : va_S A H0 H1 l1) (h2 : va_S A H1 H2 l2) : va_S A H0 H2 (l1 ++ l2) := by
  refine ⟨Nat.le_trans h1.1 h2.1, fun q hq hn => ?_, fun x hx => ?_⟩
  · rw [h2.2.1 q (Nat.lt_of_lt_of_le hq h1.1) hn, h1.2.1 q hq hn]
  · rcases List.mem_append.mp hx with h | h
    · exact h1.2.2 x h
    · exact h2.2.2 x h
theorem a_hd_none : ∀ (Hd : List (Nat × Nat × Nat)) (tb : List ExceptionTableEntry) {ct pc : Nat}, tb.map (fun h => (h.startPc, h.endPc, h.handlerPc, h.catchType)) = Hd.map (fun q => (q.1, q.2.1, q.2.2, ct)) → m_hd Hd pc = none → ∀ y ∈ tb, covers y pc = false
  | [], tb, ct, pc, h, _, y, hy => by
    cases tb with
    | nil => cases hy
    | cons _ _ => cases h
  | q :: Hd, tb, ct, pc, h, hn, y, hy => by
    cases tb with
    | nil => cases h
    | cons x tb =>
      rw [List.map_cons, List.map_cons, List.cons.injEq] at h
      unfold m_hd at hn
      cases hb : (Nat.ble q.1 pc && Nat.blt pc q.2.1) with
      | true => rw [hb] at hn; cases hn
      | false =>
        rw [hb] at hn
        rcases List.mem_cons.mp hy with rfl | hy
        · have h1 := h.1
          simp only [Prod.mk.injEq] at h1
          unfold covers
          rw [h1.1, h1.2.1]
          rw [← hb]
          congr 1
          · exact (Bool.eq_iff_iff.mpr (by rw [decide_eq_true_iff, Nat.ble_eq]))
          · exact (Bool.eq_iff_iff.mpr (by rw [decide_eq_true_iff, Nat.blt_eq]))
        · exact a_hd_none Hd tb h.2 hn y hy
theorem a_hd_some : ∀ (Hd : List (Nat × Nat × Nat)) (tb : List ExceptionTableEntry) {ct pc tgt : Nat}, tb.map (fun h => (h.startPc, h.endPc, h.handlerPc, h.catchType)) = Hd.map (fun q => (q.1, q.2.1, q.2.2, ct)) → m_hd Hd pc = some tgt → ∃ pre x rest, tb = pre ++ x :: rest ∧ (∀ y ∈ pre, covers y pc = false) ∧ covers x pc = true ∧ x.handlerPc = tgt ∧ x.catchType = ct
  | [], tb, ct, pc, tgt, h, hn => by cases hn
  | q :: Hd, tb, ct, pc, tgt, h, hn => by
    cases tb with
    | nil => cases h
    | cons x tb =>
      rw [List.map_cons, List.map_cons, List.cons.injEq] at h
      have h1 := h.1
      simp only [Prod.mk.injEq] at h1
      have hcov : covers x pc = (Nat.ble q.1 pc && Nat.blt pc q.2.1) := by
        unfold covers
        rw [h1.1, h1.2.1]
        congr 1
        · exact (Bool.eq_iff_iff.mpr (by rw [decide_eq_true_iff, Nat.ble_eq]))
        · exact (Bool.eq_iff_iff.mpr (by rw [decide_eq_true_iff, Nat.blt_eq]))
      unfold m_hd at hn
      cases hb : (Nat.ble q.1 pc && Nat.blt pc q.2.1) with
      | true =>
        rw [hb] at hn
        cases hn
        exact ⟨[], x, tb, rfl, (fun _ h => absurd h List.not_mem_nil), (by rw [hcov, hb]), h1.2.2.1, h1.2.2.2⟩
      | false =>
        rw [hb] at hn
        obtain ⟨pre, x', rest, e1, e2, e3⟩ := a_hd_some Hd tb h.2 hn
        refine ⟨x :: pre, x', rest, by rw [e1]; rfl, fun y hy => ?_, e3⟩
        rcases List.mem_cons.mp hy with rfl | hy
        · rw [hcov, hb]
        · exact e2 y hy
section AK
variable {p : Program} {l : Launch} {e : Env} {R : Room} {s : State} {m : MethodId} {args : Array Value} {below : List Frame} {meth : Method} {c : Code}
variable {E : Nat × (Nat → Nat)} {dA : Nat → ClassId} {D : va_G} {nL pc : Nat} {ls : mL} {t : List mV} {w : mW} {r : mR} {cc : ByteArray} {Ts : List Cond}
/-- a throw of the object of cell x at pc comes to the end r -/
def a_T (p : Program) (l : Launch) (e : Env) (R : Room) (s : State) (m : MethodId) (args : Array Value) (below : List Frame) (meth : Method) (c : Code) (E : Nat × (Nat → Nat)) (dA : Nat → ClassId) (D : va_G) (nL pc : Nat) (ls : mL) (x : Nat) (w : mW) (r : mR) : Prop :=
  ∀ (H : Heap) (locs : List Loc) (lsR : Array Slot) (stk : List Value), a_St s E dA D w H locs → lv_has lsR nL (ls.map fun q => (q.1, a_v E q.2)) → (∀ q ∈ ls, a_ok w q.2) → a_ok w (m_rv 8 x) → a_WT p l e R s m args below meth c H locs (a_Q below s E dA D r) (F0 m pc lsR stk) (a_ad E 8 x)
theorem s_thr {B : Nat → Option mB} {Hd : List (Nat × Nat × Nat)} {J : Nat → mL → List mV → mW → Option mR} {ev : List mI → mL → List mV → mW → Option mR} {x ct : Nat} {own : String} (hlk : meth.locks = false) (hK : va_K D classes (a_tys dA) s) (hown : s.vm.findClass own = some m.cls)
    (hlink : Hd ≠ [] → ct ≠ 0 ∧ (Cond.classLink own ct "java/lang/IllegalStateException").before args s = true ∧ (Cond.castable "java/lang/IllegalStateException" "java/lang/IllegalStateException").before args s = true)
    (hex : c.exceptionTable.toList.map (fun h => (h.startPc, h.endPc, h.handlerPc, h.catchType)) = Hd.map (fun q => (q.1, q.2.1, q.2.2, ct)))
    (hgo : ∀ tgt, m_go B J ev tgt ls [m_rv 8 x] w = some r → a_W p l e R s m args below meth c E dA D nL tgt ls [m_rv 8 x] w r) (h : m_thr B Hd J ev pc ls x w = some r) : a_T p l e R s m args below meth c E dA D nL pc ls x w r := by
  intro H locs lsR stk hS hl hlo hx
  unfold m_thr at h
  cases hh : m_hd Hd pc with
  | none =>
    rw [hh] at h
    cases h
    exact a_thrOut hlk (a_hd_none Hd _ hex hh) hS hx
  | some tgt =>
    rw [hh] at h
    obtain ⟨pre, y, rest, e1, e2, e3, e4, e5⟩ := a_hd_some Hd _ hex hh
    have hne : Hd ≠ [] := by rintro rfl; cases hh
    obtain ⟨l1, l2, l3⟩ := hlink hne
    obtain ⟨n, hk⟩ := a_ref hx (by decide)
    have he : (a_ws E dA w)[x]? = some (E.1 + x, .inr (8, a_fs E w x 8)) := a_ws_at hk
    obtain ⟨q, g1, cell, g2, g3, g4, -⟩ := hS.1 x _ he
    have g5 := (hK.1 8 q g1).2.1
    have g1' : classes[8]? = some q := g1
    rw [a_cl 8 (by decide)] at g1'
    cases g1'
    refine a_thrIn hown l2 l3 pre y rest e1 e2 e3 e5 l1 e4 (show H[a_ad E 8 x]? = some cell from g2) g4 (by rw [g3]; exact g5) ?_
    exact hgo tgt h H locs lsR hS hl hlo (fun v hv => by rw [List.mem_singleton] at hv; subst hv; exact hx)
theorem s_athrow {x : Nat} (hx : p.tables.exec = Jvm.exec) (hb : c.code = cc) (hd : decode cc pc = .ok (.athrow, 1)) (k : a_T p l e R s m args below meth c E dA D nL pc ls x w r) : a_W p l e R s m args below meth c E dA D nL pc ls (.inr (.inr (some (8, x))) :: t) w r := by
  intro H locs lsR hS hl hlo hso
  exact a_athrow hx hb hd (k H locs lsR _ hS hl hlo (hso _ List.mem_cons_self))
theorem a_wd (t : List mV) : ((t.map (a_v E)).map fun v => v.category).sum = m_wd t := by
  induction t with
  | nil => rfl
  | cons v t ih => rw [List.map_cons, List.map_cons, List.sum_cons, ih, a_cat]; rfl
/-- a call, by the invoking instruction's own step (hI) and the callee's contract -/
theorem s_call {y : MethodName} {d maxL : Nat} {as : List mV} {stk : List mV} {r1 : mR} {ig : Instr} (hb : c.code = cc) (hml : c.maxLocals = nL) (hR : R = a_rm (d + 1)) (hTs : ∀ w ∈ Ts, tp_ok w = true) (hts : ∀ w ∈ Ts, w.before args s = true) (hK : va_K D classes (a_tys dA) s) (hJ0 : a_J E s s.heap)
    (hC : a_C l E dA D Ts d y as w r1) (hsh : r1.2.1 = w.1) (hY : ∀ U : State, s.WarmedH U.vm → a_Code y maxL U) (hmx : maxL ≤ 15) (hini : Cond.initialized y.cls ∈ Ts) (hw : m_wd t ≤ 24) (hd : decode cc pc = .ok (ig, 3)) (hmem : ∀ v ∈ as, v ∈ stk) (hmt : ∀ v ∈ t, v ∈ stk)
    (hI : ∀ (T : State) (locs : List Loc) (lsR : Array Slot), a_St s E dA D w T.heap locs → (∀ v ∈ as, a_ok w v) → Stand p l e R s m args below meth c T locs 0 0 → ∃ (vm₁ : Vm) (mk : MethodId), Stand p l e R s m args below meth c (T.setVm vm₁) locs 0 0 ∧ (T.setVm vm₁).methodNamed? y = some mk ∧
      ∀ target, (∀ acts, Steps p.tables e below (doInvoke e ((T.setVm vm₁).setTop (F0 m pc lsR (t.map (a_v E)))) acts mk (as.map (a_v E)).toArray).1 target) → Steps p.tables e below (T.setTop (F0 m pc lsR (stk.map (a_v E)))) target)
    (kr : ∀ v, r1.1 = .inl v → a_W p l e R s m args below meth c E dA D nL (pc + 3) ls (v.toList ++ t) r1.2 r) (kt : ∀ x, r1.1 = .inr x → a_T p l e R s m args below meth c E dA D nL pc ls x r1.2 r) : a_W p l e R s m args below meth c E dA D nL pc ls stk w r := by
  intro H locs lsR hS hl hlo hso
  intro T hT X
  have hoa : ∀ v ∈ as, a_ok w v := fun v hv => hso v (hmem v hv)
  obtain ⟨vm₁, mk, X₁, hn, hstep⟩ := hI T locs lsR (by rw [hT]; exact hS) hoa X
  have hR1 : R.frames = d + 1 := by rw [hR]; rfl
  have hR2 : R.locals = 50 * (d + 1) := by rw [hR]; rfl
  obtain ⟨o, u, hq, hback⟩ := a_back hC X₁ (g := F0 m pc lsR (t.map (a_v E))) rfl (hl.1.trans hml.symm) (by rw [hb]; exact hd) (Wd := 24) (maxL := maxL) (by rw [a_wd]; show 2 * 0 + m_wd t ≤ 24; omega) (hY _ X₁.warmed) hn (by show d + 1 ≤ R.frames; omega) (by show 24 + (maxL + 11) + 50 * d ≤ R.locals; omega) rfl rfl
    (a := (as.map (a_v E)).toArray) (atoms_intro fun w hw => tp_warm (hTs w hw) X₁.warmed (hts w hw)) (tp_warm (hTs _ hini) X₁.warmed (hts _ hini)) ⟨rfl, by show va_P D classes (a_ws E dA w) T.heap; rw [hT]; exact hS.1, va_K.moved X₁.warmed.alike hK, hS.2.2, hoa, a_J.moved X₁.warmed.alike (hJ0.kept (fun q hq hn => by show T.heap[q]? = _; rw [hT]; exact hS.2.1.2.1 q hq hn))⟩
  obtain ⟨ho, L, hSt, hwm, hsm⟩ := hq
  obtain ⟨T', e1, e2, X', hor⟩ := hback L hwm hsm
  have hSt' : a_St s E dA D r1.2 T'.heap (locs ++ L) := by
    rw [e1]
    refine ⟨hSt.1, ?_, hSt.2.2⟩
    have h9 := hSt.2.1
    have h8 : va_S (fun q => E.1 ≤ q) H u.heap L := by rw [← hT]; exact h9
    exact a_S_trans hS.2.1 h8
  have hlo' : ∀ q ∈ ls, a_ok r1.2 q.2 := fun q hq => a_ok_congr hsh (hlo q hq)
  have hto' : ∀ v ∈ t, a_ok r1.2 v := fun v hv => a_ok_congr hsh (hso v (hmt v hv))
  obtain ⟨r1a, w1⟩ := r1
  cases r1a with
  | inl v =>
    obtain ⟨rfl, hov⟩ := ho
    rcases hor with ⟨v', hv', hst⟩ | ⟨x, hx, -⟩
    · cases hv'
      have k1 := kr v rfl T'.heap (locs ++ L) lsR hSt' hl hlo' (fun u hu => by
        rcases List.mem_append.mp hu with h | h
        · exact hov u (by cases v with
            | none => cases h
            | some z => rw [Option.toList_some, List.mem_singleton] at h; rw [h])
        · exact hto' u h)
      obtain ⟨z, a1, b1⟩ := k1 T' rfl X'
      refine ⟨z, hstep z (fun acts => ?_), b1⟩
      rw [doInvoke_state]
      refine hst.trans ?_
      have e9 : (v.toList ++ t).map (a_v E) = (v.map (a_v E)).toList ++ t.map (a_v E) := by cases v <;> rfl
      rw [e9] at a1
      exact a1
    · cases hx
  | inr x =>
    obtain ⟨rfl, hox⟩ := ho
    rcases hor with ⟨v', hv', -⟩ | ⟨x', hx', hst⟩
    · cases hv'
    · cases hx'
      obtain ⟨z, a1, b1⟩ := kt x rfl T'.heap (locs ++ L) lsR (t.map (a_v E)) hSt' hl hlo' hox T' rfl X'
      refine ⟨z, hstep z (fun acts => ?_), b1⟩
      rw [doInvoke_state]
      exact hst.trans a1
end AK
