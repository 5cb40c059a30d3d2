/-! ===== the invoking instructions' own steps ===== -/
section AI
variable {p : Program} {l : Launch} {e : Env} {R : Room} {s : State} {m : MethodId} {args : Array Value} {below : List Frame} {meth : Method} {c : Code}
variable {E : Nat × (Nat → Nat)} {dA : Nat → ClassId} {D : va_G} {nL pc : Nat} {t : List mV} {w : mW} {cc : ByteArray}
theorem a_hIV {y : MethodName} {t0 k idx maxL : Nat} {own : String} {as : List mV} (hx : p.tables.exec = Jvm.exec) (hb : c.code = cc) (hown : s.vm.findClass own = some m.cls) (hK : va_K D classes (a_tys dA) s) (hJ : a_J E s s.heap) (ht : t0 ≤ 10) (hlink : (Cond.methodLink own idx y).before args s = true ∨ ∃ host, (Cond.methodLinkNest own idx y host).before args s = true) (hinst : (Cond.instanceMethod y).before args s = true) (hsel : (Cond.selects (cn t0) y y).before args s = true)
    (hY : a_Code y maxL s) (hy : y.cls ≠ "java/lang/invoke/MethodHandle" ∧ y.cls ≠ "java/lang/invoke/VarHandle") (hlen : ∀ sig, parseMethodDescriptor y.desc = some sig → as.length = sig.parameters.length) (hd : decode cc pc = .ok (.invokevirtual idx, 3))
    (T : State) (locs : List Loc) (lsR : Array Slot) (hP : a_St s E dA D w T.heap locs) (hoa : ∀ v ∈ (.inr (.inr (some (t0, k))) : mV) :: as, a_ok w v) (X : Stand p l e R s m args below meth c T locs 0 0) :
    ∃ (vm₁ : Vm) (mk : MethodId), Stand p l e R s m args below meth c (T.setVm vm₁) locs 0 0 ∧ (T.setVm vm₁).methodNamed? y = some mk ∧
      ∀ target, (∀ acts, Steps p.tables e below (doInvoke e ((T.setVm vm₁).setTop (F0 m pc lsR (t.map (a_v E)))) acts mk ((((.inr (.inr (some (t0, k))) : mV) :: as).map (a_v E)).toArray)).1 target) → Steps p.tables e below (T.setTop (F0 m pc lsR ((as.reverse ++ .inr (.inr (some (t0, k))) :: t).map (a_v E)))) target := by
  obtain ⟨cell, hcell, hcls, g4⟩ : ∃ cell : Cell, T.heap[a_ad E t0 k]? = some cell ∧ s.vm.findClass (cn t0) = some cell.cls ∧ cell.vm.isStatics = false := by
    rcases Nat.lt_or_ge t0 10 with ht | h10
    · obtain ⟨n, hk⟩ := a_ref (hoa _ List.mem_cons_self) (by omega)
      have he : (a_ws E dA w)[k]? = some (E.1 + k, .inr (t0, a_fs E w k t0)) := by
        rw [a_ws_at hk]; unfold a_en; rw [if_pos (show (t0, n).1 < 10 from ht)]
      obtain ⟨q, g1, cell, g2, g3, g4, -⟩ := hP.1 k _ he
      have g1' : classes[t0]? = some q := g1
      rw [a_cl t0 ht] at g1'
      cases g1'
      exact ⟨cell, by rw [a_ad10 (by omega)]; exact g2, by rw [g3]; exact (hK.1 t0 _ g1).2.1, by rw [g4]; rfl⟩
    · have e10 : t0 = 10 := by omega
      subst e10
      have hk : k < 29 := by
        rcases hoa _ List.mem_cons_self with h | h
        · exact h.2
        · exact absurd rfl h.1
      obtain ⟨cell, c1, c2, c3⟩ := vk_recv hJ.1 hk hP.2.1
      exact ⟨cell, c1, c3, c2⟩
  obtain ⟨mk, methM, hnamed, hmethM, hstM, habM⟩ := Cond.instanceMethod_spec hinst
  obtain ⟨mk', methM', cM, hn', hmethM', -, -, hsigM⟩ := hY
  cases hnamed.symm.trans hn'
  cases hmethM.symm.trans hmethM'
  obtain ⟨c2, r2, m2, q1, q2, q3, q4, kP, hkP, hkPi⟩ := Cond.selects_spec hsel
  cases hcls.symm.trans q1
  cases (State.methodFound?_of_named hnamed hy).symm.trans q2
  cases hnamed.symm.trans q3
  have hselP : selectMethod e.platform s.vm cell.cls mk = .method mk := by rw [Launch.admits_selectMethod X.admits]; exact q4
  have hstack : (F0 m pc lsR ((as.reverse ++ .inr (.inr (some (t0, k))) :: t).map (a_v E))).stack = (as.map (a_v E)).reverse ++ .ref (a_ad E t0 k) :: t.map (a_v E) := by
    show (as.reverse ++ .inr (.inr (some (t0, k))) :: t).map (a_v E) = _
    rw [List.map_append, List.map_reverse]; rfl
  rcases hlink with hlink | ⟨host, hlink⟩
  · obtain ⟨vm₁, X₁, hstep₁⟩ := X.invokevirtual hx hown hlink hnamed hmethM hstM hkP hkPi hy (a := a_ad E t0 k) (cell := cell) hcell (fun z h => by rw [h] at g4; cases g4) hselP hmethM habM hkP hkPi (g := F0 m pc lsR ((as.reverse ++ .inr (.inr (some (t0, k))) :: t).map (a_v E))) rfl (argsL := as.map (a_v E)) (rest := t.map (a_v E)) (by rw [List.length_map]; exact hlen _ hsigM) hstack (by rw [hb]; exact hd)
    exact ⟨vm₁, mk, X₁, X₁.named hnamed, fun target h => hstep₁ target h⟩
  · obtain ⟨vm₁, X₁, hstep₁⟩ := X.invokevirtualNest hx hown hlink hnamed hmethM hstM hkP hkPi hy (a := a_ad E t0 k) (cell := cell) hcell (fun z h => by rw [h] at g4; cases g4) hselP hmethM habM hkP hkPi (g := F0 m pc lsR ((as.reverse ++ .inr (.inr (some (t0, k))) :: t).map (a_v E))) rfl (argsL := as.map (a_v E)) (rest := t.map (a_v E)) (by rw [List.length_map]; exact hlen _ hsigM) hstack (by rw [hb]; exact hd)
    exact ⟨vm₁, mk, X₁, X₁.named hnamed, fun target h => hstep₁ target h⟩
theorem a_hIS {y : MethodName} {idx maxL : Nat} {own : String} {as : List mV} (hx : p.tables.exec = Jvm.exec) (hb : c.code = cc) (hown : s.vm.findClass own = some m.cls) (hlink : (Cond.methodLink own idx y).before args s = true ∨ ∃ host, (Cond.methodLinkNest own idx y host).before args s = true) (hstat : (Cond.static y).before args s = true) (hini : (Cond.initialized y.cls).before args s = true)
    (hY : a_Code y maxL s) (hy : y.cls ≠ "java/lang/invoke/MethodHandle" ∧ y.cls ≠ "java/lang/invoke/VarHandle") (hlen : ∀ sig, parseMethodDescriptor y.desc = some sig → as.length = sig.parameters.length) (hd : decode cc pc = .ok (.invokestatic idx, 3))
    (T : State) (locs : List Loc) (lsR : Array Slot) (X : Stand p l e R s m args below meth c T locs 0 0) :
    ∃ (vm₁ : Vm) (mk : MethodId), Stand p l e R s m args below meth c (T.setVm vm₁) locs 0 0 ∧ (T.setVm vm₁).methodNamed? y = some mk ∧
      ∀ target, (∀ acts, Steps p.tables e below (doInvoke e ((T.setVm vm₁).setTop (F0 m pc lsR (t.map (a_v E)))) acts mk ((as.map (a_v E)).toArray)).1 target) → Steps p.tables e below (T.setTop (F0 m pc lsR ((as.reverse ++ t).map (a_v E)))) target := by
  obtain ⟨mk, methM, cM, hnamed, hmethM, -, -, hsigM⟩ := hY
  have hstatic : methM.isStatic = true := Cond.static_spec hnamed hmethM hstat
  obtain ⟨kP, hkP, -⟩ := className_of_methodNamed hnamed
  have hinitP : kP.init = .initialized := Cond.initialized_spec (findClass_of_methodNamed hnamed) hkP hini
  have hstack : (F0 m pc lsR ((as.reverse ++ t).map (a_v E))).stack = (as.map (a_v E)).reverse ++ t.map (a_v E) := by
    show (as.reverse ++ t).map (a_v E) = _
    rw [List.map_append, List.map_reverse]
  rcases hlink with hlink | ⟨host, hlink⟩
  · obtain ⟨vm₁, X₁, hstep₁⟩ := X.invokestatic hx hown hlink hnamed hmethM hstatic hkP hinitP hy (g := F0 m pc lsR ((as.reverse ++ t).map (a_v E))) rfl (argsL := as.map (a_v E)) (rest := t.map (a_v E)) (by rw [List.length_map]; exact hlen _ hsigM) hstack (by rw [hb]; exact hd)
    exact ⟨vm₁, mk, X₁, X₁.named hnamed, fun target h => hstep₁ target h⟩
  · obtain ⟨vm₁, X₁, hstep₁⟩ := X.invokestaticNest hx hown hlink hnamed hmethM hstatic hkP hinitP hy (g := F0 m pc lsR ((as.reverse ++ t).map (a_v E))) rfl (argsL := as.map (a_v E)) (rest := t.map (a_v E)) (by rw [List.length_map]; exact hlen _ hsigM) hstack (by rw [hb]; exact hd)
    exact ⟨vm₁, mk, X₁, X₁.named hnamed, fun target h => hstep₁ target h⟩
/-- the arguments off the pile -/
theorem a_args : ∀ (n : Nat) (as st : List mV) (as' t : List mV), m_args n as st = some (as', t) → ∃ bs, as' = bs ++ as ∧ bs.length = n ∧ st = bs.reverse ++ t
  | 0, as, st, as', t, h => by cases h; exact ⟨[], rfl, rfl, rfl⟩
  | n + 1, as, [], as', t, h => by cases h
  | n + 1, as, v :: st, as', t, h => by
    obtain ⟨bs, h1, h2, h3⟩ := a_args n (v :: as) st as' t h
    refine ⟨bs ++ [v], by rw [h1, List.append_assoc]; rfl, by rw [List.length_append, h2]; rfl, ?_⟩
    rw [List.reverse_append, h3]; rfl
end AI
