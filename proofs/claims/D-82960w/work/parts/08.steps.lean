/-! ===== ONE INSTRUCTION OF THE MACHINE AGAINST ONE OF THE JVM ===== -/
theorem m_p1_s {st : List mV} {k : Int → List mV → Option mR} {r : mR} (h : m_p1 st k = some r) : ∃ x t, st = .inl x :: t ∧ k x t = some r := by
  unfold m_p1 at h; split at h
  · exact ⟨_, _, rfl, h⟩
  · cases h
theorem m_p2_s {st : List mV} {k : Int → Int → List mV → Option mR} {r : mR} (h : m_p2 st k = some r) : ∃ x y t, st = .inl y :: .inl x :: t ∧ k x y t = some r := by
  unfold m_p2 at h; split at h
  · exact ⟨_, _, _, rfl, h⟩
  · cases h
theorem m_pl_s {st : List mV} {k : Int → List mV → Option mR} {r : mR} (h : m_pl st k = some r) : ∃ x t, st = .inr (.inl x) :: t ∧ k x t = some r := by
  unfold m_pl at h; split at h
  · exact ⟨_, _, rfl, h⟩
  · cases h
theorem m_pll_s {st : List mV} {k : Int → Int → List mV → Option mR} {r : mR} (h : m_pll st k = some r) : ∃ x y t, st = .inr (.inl y) :: .inr (.inl x) :: t ∧ k x y t = some r := by
  unfold m_pll at h; split at h
  · exact ⟨_, _, _, rfl, h⟩
  · cases h
theorem m_pli_s {st : List mV} {k : Int → Int → List mV → Option mR} {r : mR} (h : m_pli st k = some r) : ∃ x y t, st = .inl y :: .inr (.inl x) :: t ∧ k x y t = some r := by
  unfold m_pli at h; split at h
  · exact ⟨_, _, _, rfl, h⟩
  · cases h
theorem m_pr_s {st : List mV} {k : Nat → Nat → List mV → Option mR} {r : mR} (h : m_pr st k = some r) : ∃ a b t, st = .inr (.inr (some (a, b))) :: t ∧ k a b t = some r := by
  unfold m_pr at h; split at h
  · exact ⟨_, _, _, rfl, h⟩
  · cases h
theorem m_pai_s {st : List mV} {k : Nat → Nat → Int → List mV → Option mR} {r : mR} (h : m_pai st k = some r) : ∃ a b i t, st = .inl i :: .inr (.inr (some (a, b))) :: t ∧ k a b i t = some r := by
  unfold m_pai at h; split at h
  · exact ⟨_, _, _, _, rfl, h⟩
  · cases h
theorem m_pvi_s {st : List mV} {k : Nat → Nat → Int → Int → List mV → Option mR} {r : mR} (h : m_pvi st k = some r) : ∃ a b i v t, st = .inl v :: .inl i :: .inr (.inr (some (a, b))) :: t ∧ k a b i v t = some r := by
  unfold m_pvi at h; split at h
  · exact ⟨_, _, _, _, _, rfl, h⟩
  · cases h
theorem m_pvl_s {st : List mV} {k : Nat → Nat → Int → Int → List mV → Option mR} {r : mR} (h : m_pvl st k = some r) : ∃ a b i v t, st = .inr (.inl v) :: .inl i :: .inr (.inr (some (a, b))) :: t ∧ k a b i v t = some r := by
  unfold m_pvl at h; split at h
  · exact ⟨_, _, _, _, _, rfl, h⟩
  · cases h
theorem m_g_s {q : Prop} [Decidable q] {a : Option mR} {r : mR} (h : m_g q a = some r) : q ∧ a = some r := by
  unfold m_g at h; split at h
  · exact ⟨by assumption, h⟩
  · cases h
theorem m_bif_s {q : Bool} {a : Option mR} {r : mR} (h : (bif q then a else none) = some r) : q = true ∧ a = some r := by
  cases q
  · cases h
  · exact ⟨rfl, h⟩
theorem m_bn_s {q : Option Nat} {k : Nat → Option mR} {r : mR} (h : m_bn q k = some r) : ∃ x, q = some x ∧ k x = some r := by
  unfold m_bn at h; split at h
  · exact ⟨_, rfl, h⟩
  · cases h
/-- the lengths of the instructions -/
def a_len (i : Instr) : Nat := match i with
  | .goto _ => 3
  | .ifCond _ _ => 3
  | .if_icmp _ _ => 3
  | .ifnonnull _ => 3
  | .bipush _ => 2
  | .sipush _ => 3
  | .ldc _ => 2
  | .ldc_w _ => 3
  | .ldc2_w _ => 3
  | .iload _ => 2
  | .lload _ => 2
  | .aload _ => 2
  | .istore _ => 2
  | .lstore _ => 2
  | .astore _ => 2
  | .iinc _ _ => 3
  | .getfield _ => 3
  | .putfield _ => 3
  | .invokevirtual _ => 3
  | .invokestatic _ => 3
  | .invokespecial _ => 3
  | _ => 1
def a_out (E : Nat × (Nat → Nat)) (w : mW) (x : Option mV ⊕ Nat) (o : Outcome) : Prop := match x with
  | .inl v => o = .returned (v.map (a_v E)) ∧ ∀ u, v = some u → a_ok w u
  | .inr k => o = .threw (a_ad E 8 k) ∧ a_ok w (m_rv 8 k)
section AS
variable {p : Program} {l : Launch} {e : Env} {R : Room} {s : State} {m : MethodId} {args : Array Value} {below : List Frame} {meth : Method} {c : Code}
def a_St (s : State) (E : Nat × (Nat → Nat)) (dA : Nat → ClassId) (D : va_G) (w : mW) (H : Heap) (locs : List Loc) : Prop := va_P D classes (a_ws E dA w) H ∧ va_S (fun q => E.1 ≤ q) s.heap H locs ∧ a_wok w
def a_Q (below : List Frame) (s : State) (E : Nat × (Nat → Nat)) (dA : Nat → ClassId) (D : va_G) (r : mR) (t : State) : Prop :=
  ∃ o, t.status = .running ∧ Ended t below o ∧ a_out E r.2 r.1 o ∧ ∃ L, a_St s E dA D r.2 t.heap L ∧ s.WarmedH t.vm ∧ s.sameButNew ({ t with vm := s.vm } : State) L 0 0
/-- from every heap that holds the world, with these variables and this pile at pc: the method comes to the end r -/
def a_W (p : Program) (l : Launch) (e : Env) (R : Room) (s : State) (m : MethodId) (args : Array Value) (below : List Frame) (meth : Method) (c : Code) (E : Nat × (Nat → Nat)) (dA : Nat → ClassId) (D : va_G) (nL pc : Nat) (ls : mL) (st : List mV) (w : mW) (r : mR) : Prop :=
  ∀ (H : Heap) (locs : List Loc) (lsR : Array Slot), a_St s E dA D w H locs → lv_has lsR nL (ls.map fun q => (q.1, a_v E q.2)) → (∀ q ∈ ls, a_ok w q.2) → (∀ v ∈ st, a_ok w v) → W p l e R s m args below meth c H locs 0 0 (a_Q below s E dA D r) (F0 m pc lsR (st.map (a_v E)))
variable {E : Nat × (Nat → Nat)} {dA : Nat → ClassId} {D : va_G} {nL pc : Nat} {ls : mL} {st t : List mV} {w : mW} {r : mR} {cc : ByteArray}
theorem a_lk {ls : mL} {i : Nat} {v : mV} (h : m_lk ls i = some v) : (i, v) ∈ ls := by
  induction ls with
  | nil => cases h
  | cons q t ih =>
    unfold m_lk at h
    cases hq : Nat.beq q.1 i with
    | true =>
      rw [hq] at h
      have := Nat.eq_of_beq_eq_true hq
      cases h
      subst this
      exact List.mem_cons_self
    | false => rw [hq] at h; exact List.mem_cons_of_mem _ (ih h)
theorem a_lkR {lsR : Array Slot} {i : Nat} {v : mV} (hl : lv_has lsR nL (ls.map fun q => (q.1, a_v E q.2))) (h : m_lk ls i = some v) : lsR[i]? = some (.val (a_v E v)) :=
  hl.2.2 (i, a_v E v) (List.mem_map.mpr ⟨(i, v), a_lk h, rfl⟩)
theorem a_mono {H : Heap} {locs : List Loc} {cells slots : Nat} {Q Q' : State → Prop} {g : JFrame} (h : W p l e R s m args below meth c H locs cells slots Q g) (hQ : ∀ t, Q t → Q' t) : W p l e R s m args below meth c H locs cells slots Q' g :=
  fun T hT X => let ⟨t, a, b⟩ := h T hT X; ⟨t, a, hQ t b⟩
/-- weaker variables -/
theorem a_weak {ls' : mL} (hs : ∀ q ∈ ls', q ∈ ls) (h : a_W p l e R s m args below meth c E dA D nL pc ls' st w r) : a_W p l e R s m args below meth c E dA D nL pc ls st w r := by
  intro H locs lsR hS hl hlo hso
  refine h H locs lsR hS ⟨hl.1, hl.2.1, fun q hq => ?_⟩ (fun q hq => hlo q (hs q hq)) hso
  obtain ⟨q', h1, rfl⟩ := List.mem_map.mp hq
  exact hl.2.2 _ (List.mem_map.mpr ⟨q', hs q' h1, rfl⟩)
theorem a_pick {live : List Nat} : ∀ q ∈ m_pick live ls, q ∈ ls := by
  intro q hq
  obtain ⟨i, -, hi⟩ := List.mem_filterMap.mp hq
  cases hk : m_lk ls i with
  | none => rw [hk] at hi; cases hi
  | some v => rw [hk] at hi; cases hi; exact a_lk hk
theorem a_cat (v : mV) : (a_v E v).category = m_cat v := by
  rcases v with x | x | _ | q <;> rfl
theorem a_beq (a b : Nat) : (a == b) = Nat.beq a b := by
  cases h : Nat.beq a b with
  | true => rw [Nat.eq_of_beq_eq_true h]; exact beq_self_eq_true b
  | false => exact beq_eq_false_iff_ne.mpr (Nat.ne_of_beq_eq_false h)
theorem a_st1 {i : Nat} {v : mV} : ((i, a_v E v) :: (ls.map fun q => (q.1, a_v E q.2)).filter (fun q => !(q.1 == i) && !(q.1 + 1 == i && q.2.category == 2))) = (m_st1 ls i v).map (fun q => (q.1, a_v E q.2)) := by
  unfold m_st1
  rw [List.map_cons, List.filter_map]
  congr 2
  apply List.filter_congr
  intro q _
  simp only [Function.comp, a_cat, a_beq]
theorem a_st2 {i : Nat} {v : mV} : ((i, a_v E v) :: (ls.map fun q => (q.1, a_v E q.2)).filter (fun q => !(q.1 == i) && (!(q.1 == i + 1) && !(q.1 + 1 == i && q.2.category == 2)))) = (m_st2 ls i v).map (fun q => (q.1, a_v E q.2)) := by
  unfold m_st2
  rw [List.map_cons, List.filter_map]
  congr 2
  apply List.filter_congr
  intro q _
  simp only [Function.comp, a_cat, a_beq]
theorem a_st1_ok {i : Nat} {v : mV} (h : ∀ q ∈ ls, a_ok w q.2) (hv : a_ok w v) : ∀ q ∈ m_st1 ls i v, a_ok w q.2 := by
  intro q hq
  rcases List.mem_cons.mp hq with rfl | hq
  · exact hv
  · exact h q (List.mem_filter.mp hq).1
theorem a_st2_ok {i : Nat} {v : mV} (h : ∀ q ∈ ls, a_ok w q.2) (hv : a_ok w v) : ∀ q ∈ m_st2 ls i v, a_ok w q.2 := by
  intro q hq
  rcases List.mem_cons.mp hq with rfl | hq
  · exact hv
  · exact h q (List.mem_filter.mp hq).1
end AS
