/-- the words of tables_1 that stay true under warmer tables, as far as the methods want them -/
def tp_ok (w : Cond) : Bool := (w.onTables && w.keeps) || match w with
  | .fieldLinkNest .. => true
  | .methodLinkNest .. => true
  | .castable .. => true
  | _ => false
theorem tp_warm {w : Cond} (h : tp_ok w = true) {args a' : Array Value} {s U : State} (hW : s.WarmedH U.vm) (hw : w.before args s = true) : w.before a' U = true := by
  unfold tp_ok at h
  rw [Bool.or_eq_true] at h
  rcases h with h | h
  · exact word_at hW (Or.inl h) hw
  · split at h
    · exact va_Nw.use rfl (va_Nw.warmF hW (va_Nw.of rfl hw))
    · exact va_Nw.use rfl (va_Nw.warmM hW (va_Nw.of rfl hw))
    · exact va_Nw.use rfl (va_Nw.warmC hW (va_Nw.of rfl hw))
    · cases h
theorem a_ft_tp (o : Nat) (q : Nat × Nat × Nat × Nat × Nat) : tp_ok (ft_c o q) = true := by unfold ft_c; split <;> rfl
theorem a_lay_tp (C : String) (T : u_T) (k : Nat) : tp_ok (u_lay C T k) = true := by unfold u_lay; split <;> rfl
theorem a_uws_tp {C : String} {T : u_T} {N : Nat} {w : Cond} (h : w ∈ u_ws C T N) : tp_ok w = true := by
  obtain ⟨k, -, rfl⟩ := List.mem_map.mp h
  exact a_lay_tp C T k
theorem a_len_at {w : mW} {k : Nat} {q : Nat × Nat} (h : w.1[k]? = some q) : m_len w k = (q.2 : Int) := by unfold m_len; rw [h]
theorem a_ref {w : mW} {t k : Nat} (h : a_ok w (.inr (.inr (some (t, k))))) (ht : t ≠ 10) : ∃ n, w.1[k]? = some (t, n) := by
  rcases h with h | h
  · exact absurd h.1 ht
  · exact h.2
theorem a_nar01 {v : Int} (h : 0 ≤ v ∧ v ≤ 1) : vp_nar .boolean (Int32.ofInt v) = Int32.ofInt v := by
  have : v = 0 ∨ v = 1 := by omega
  rcases this with rfl | rfl <;> rfl
theorem a_narw01 {v : Int} (h : 0 ≤ v ∧ v ≤ 1) : narrow .boolean (.int (Int32.ofInt v)) = .int (Int32.ofInt v) := by
  have : v = 0 ∨ v = 1 := by omega
  rcases this with rfl | rfl <;> rfl
theorem a_fit01 {v : Int} (h : 0 ≤ v ∧ v ≤ 1) : fits .boolean (.int (Int32.ofInt v)) = true := by
  have : v = 0 ∨ v = 1 := by omega
  rcases this with rfl | rfl <;> rfl
theorem a_cl (c : Nat) (h : c < 10) : classes[c]? = some (cn c, F_ c, (fl c).length) := by
  rcases (show c = 0 ∨ c = 1 ∨ c = 2 ∨ c = 3 ∨ c = 4 ∨ c = 5 ∨ c = 6 ∨ c = 7 ∨ c = 8 ∨ c = 9 by omega) with rfl | rfl | rfl | rfl | rfl | rfl | rfl | rfl | rfl | rfl <;> rfl
theorem a_lyt (c : Nat) (h : c < 10) : ∀ w ∈ u_ws (cn c) (F_ c) (fl c).length, w ∈ tables_1 := by
  rcases (show c = 0 ∨ c = 1 ∨ c = 2 ∨ c = 3 ∨ c = 4 ∨ c = 5 ∨ c = 6 ∨ c = 7 ∨ c = 8 ∨ c = 9 by omega) with rfl | rfl | rfl | rfl | rfl | rfl | rfl | rfl | rfl | rfl
  · exact lyt_in_0
  · exact lyt_in_1
  · exact lyt_in_2
  · exact lyt_in_3
  · exact lyt_in_4
  · exact lyt_in_5
  · exact lyt_in_6
  · exact lyt_in_7
  · exact lyt_in_8
  · exact lyt_in_9
theorem a_tl (c : Nat) (h : c < 10) : ∀ k, k < (fl c).length → parseFieldDescriptor (F_ c k).2.2.1 = some ((tl c).getD k .int) := by
  rcases (show c = 0 ∨ c = 1 ∨ c = 2 ∨ c = 3 ∨ c = 4 ∨ c = 5 ∨ c = 6 ∨ c = 7 ∨ c = 8 ∨ c = 9 by omega) with rfl | rfl | rfl | rfl | rfl | rfl | rfl | rfl | rfl | rfl
  · exact tl_ok_0
  · exact tl_ok_1
  · exact tl_ok_2
  · exact tl_ok_3
  · exact tl_ok_4
  · exact tl_ok_5
  · exact tl_ok_6
  · exact tl_ok_7
  · exact tl_ok_8
  · exact tl_ok_9
theorem a_fn (c : Nat) (h : c < 10) : ∀ a, a < (fl c).length → ∀ b, b < (fl c).length → a ≠ b → (F_ c a).2.1 ≠ (F_ c b).2.1 := by
  rcases (show c = 0 ∨ c = 1 ∨ c = 2 ∨ c = 3 ∨ c = 4 ∨ c = 5 ∨ c = 6 ∨ c = 7 ∨ c = 8 ∨ c = 9 by omega) with rfl | rfl | rfl | rfl | rfl | rfl | rfl | rfl | rfl | rfl
  · exact fn_ok_0
  · exact fn_ok_1
  · exact fn_ok_2
  · exact fn_ok_3
  · exact fn_ok_4
  · exact fn_ok_5
  · exact fn_ok_6
  · exact fn_ok_7
  · exact fn_ok_8
  · exact fn_ok_9
/-- what a field's sort says of its type and whether it is final -/
def a_fty (s : Nat) (ty : FieldType) (fin : Bool) : Bool := match s with
  | 0 => decide (ty = .int) && !fin
  | 1 => decide (ty = .boolean) && !fin
  | 2 => decide (ty = .long) && !fin
  | z => (match ty with
    | .object _ => true
    | .array _ => true
    | _ => false) && (decide (z % 2 = 1) || !fin)
set_option maxRecDepth 100000 in
theorem a_fty_ok : ∀ c, c < 10 → ((fs c).length = (fl c).length ∧ ∀ j, j < (fl c).length → a_fty ((fs c).getD j 0) ((tl c).getD j .int) (F_ c j).2.2.2 = true ∧ (F_ c j).1 = cn c) := by decide +kernel
theorem a_ft_ok (o : Nat) (q : Nat × Nat × Nat × Nat × Nat) (h : q ∈ ft o) : tables_1[q.2.2.2.1]? = some (ft_c o q) ∧ q.2.2.1 < (fl q.2.1).length := by
  unfold ft at h
  split at h
  · exact ft_ok_0 q h
  · exact ft_ok_1 q h
  · exact ft_ok_2 q h
  · exact ft_ok_3 q h
  · exact ft_ok_4 q h
  · exact ft_ok_5 q h
  · exact ft_ok_7 q h
  · exact ft_ok_9 q h
  · cases h
theorem a_fl_lt {c j : Nat} (h : j < (fl c).length) : c < 10 := by
  unfold fl at h
  split at h <;> first | omega | (exact absurd h (Nat.not_lt_zero _))
section AH
variable {p : Program} {l : Launch} {e : Env} {R : Room} {s : State} {m : MethodId} {args : Array Value} {below : List Frame} {meth : Method} {c : Code}
variable {E : Nat × (Nat → Nat)} {dA : Nat → ClassId} {D : va_G} {nL pc : Nat} {ls : mL} {st t : List mV} {w : mW} {r : mR} {cc : ByteArray}

theorem a_narc (x : Int32) : vp_nar .char x = (x.toUInt32 % 65536).toInt32 := by
  have h := pk_nc x
  rw [vp_nar_char]
  rfl
theorem s_ld20 {k : Nat} {i : Int} (hx : p.tables.exec = Jvm.exec) (hb : c.code = cc) (hK : va_K D classes (a_tys dA) s) (hd : decode cc pc = .ok (.baload, 1)) (h0 : 0 ≤ i) (h1 : i < m_len w k) (kk : a_W p l e R s m args below meth c E dA D nL (pc + 1) ls (m_li (m_get w k i.toNat) :: t) w r) : a_W p l e R s m args below meth c E dA D nL pc ls (.inl i :: .inr (.inr (some (20, k))) :: t) w r := by
  intro H locs lsR hS hl hlo hso
  have o0 := List.forall_mem_cons.mp hso
  have o1 := List.forall_mem_cons.mp o0.2
  obtain ⟨n, hk⟩ := a_ref o1.1 (by decide)
  rw [a_len_at hk] at h1
  have sl : -128 ≤ w.2.1 k i.toNat ∧ w.2.1 k i.toNat < 128 := (hS.2.2 k _ hk).2 i.toNat 100 (by show (if i.toNat < n then some _ else none) = _; rw [if_pos (by omega)]; rfl)
  have q := kk H locs lsR hS hl hlo (List.forall_mem_cons.mpr ⟨(show a_i32 (w.2.1 k i.toNat) from ⟨by have := sl.1; omega, by have := sl.2; omega⟩), o1.2⟩)
  refine va_bald hx hb hK hS.1 k 0 (a_ws_at hk) rfl (a_in o0.1 h0 h1) hd ?_
  rw [a_clamp o0.1]
  exact q
theorem s_ld21 {k : Nat} {i : Int} (hx : p.tables.exec = Jvm.exec) (hb : c.code = cc) (hK : va_K D classes (a_tys dA) s) (hd : decode cc pc = .ok (.baload, 1)) (h0 : 0 ≤ i) (h1 : i < m_len w k) (kk : a_W p l e R s m args below meth c E dA D nL (pc + 1) ls (m_li (m_get w k i.toNat) :: t) w r) : a_W p l e R s m args below meth c E dA D nL pc ls (.inl i :: .inr (.inr (some (21, k))) :: t) w r := by
  intro H locs lsR hS hl hlo hso
  have o0 := List.forall_mem_cons.mp hso
  have o1 := List.forall_mem_cons.mp o0.2
  obtain ⟨n, hk⟩ := a_ref o1.1 (by decide)
  rw [a_len_at hk] at h1
  have sl : 0 ≤ w.2.1 k i.toNat ∧ w.2.1 k i.toNat ≤ 1 := (hS.2.2 k _ hk).2 i.toNat 1 (by show (if i.toNat < n then some _ else none) = _; rw [if_pos (by omega)]; rfl)
  have q := kk H locs lsR hS hl hlo (List.forall_mem_cons.mpr ⟨(show a_i32 (w.2.1 k i.toNat) from ⟨by have := sl.1; omega, by have := sl.2; omega⟩), o1.2⟩)
  refine va_zald hx hb hK hS.1 k 1 (a_ws_at hk) rfl (a_in o0.1 h0 h1) hd ?_
  rw [a_clamp o0.1]
  exact q
theorem s_ld22 {k : Nat} {i : Int} (hx : p.tables.exec = Jvm.exec) (hb : c.code = cc) (hK : va_K D classes (a_tys dA) s) (hd : decode cc pc = .ok (.saload, 1)) (h0 : 0 ≤ i) (h1 : i < m_len w k) (kk : a_W p l e R s m args below meth c E dA D nL (pc + 1) ls (m_li (m_get w k i.toNat) :: t) w r) : a_W p l e R s m args below meth c E dA D nL pc ls (.inl i :: .inr (.inr (some (22, k))) :: t) w r := by
  intro H locs lsR hS hl hlo hso
  have o0 := List.forall_mem_cons.mp hso
  have o1 := List.forall_mem_cons.mp o0.2
  obtain ⟨n, hk⟩ := a_ref o1.1 (by decide)
  rw [a_len_at hk] at h1
  have sl : -32768 ≤ w.2.1 k i.toNat ∧ w.2.1 k i.toNat < 32768 := (hS.2.2 k _ hk).2 i.toNat 101 (by show (if i.toNat < n then some _ else none) = _; rw [if_pos (by omega)]; rfl)
  have q := kk H locs lsR hS hl hlo (List.forall_mem_cons.mpr ⟨(show a_i32 (w.2.1 k i.toNat) from ⟨by have := sl.1; omega, by have := sl.2; omega⟩), o1.2⟩)
  refine va_sald hx hb hK hS.1 k 2 (a_ws_at hk) rfl (a_in o0.1 h0 h1) hd ?_
  rw [a_clamp o0.1]
  exact q
theorem s_ld23 {k : Nat} {i : Int} (hx : p.tables.exec = Jvm.exec) (hb : c.code = cc) (hK : va_K D classes (a_tys dA) s) (hd : decode cc pc = .ok (.caload, 1)) (h0 : 0 ≤ i) (h1 : i < m_len w k) (kk : a_W p l e R s m args below meth c E dA D nL (pc + 1) ls (m_li (m_get w k i.toNat) :: t) w r) : a_W p l e R s m args below meth c E dA D nL pc ls (.inl i :: .inr (.inr (some (23, k))) :: t) w r := by
  intro H locs lsR hS hl hlo hso
  have o0 := List.forall_mem_cons.mp hso
  have o1 := List.forall_mem_cons.mp o0.2
  obtain ⟨n, hk⟩ := a_ref o1.1 (by decide)
  rw [a_len_at hk] at h1
  have sl : 0 ≤ w.2.1 k i.toNat ∧ w.2.1 k i.toNat < 65536 := (hS.2.2 k _ hk).2 i.toNat 102 (by show (if i.toNat < n then some _ else none) = _; rw [if_pos (by omega)]; rfl)
  have q := kk H locs lsR hS hl hlo (List.forall_mem_cons.mpr ⟨(show a_i32 (w.2.1 k i.toNat) from ⟨by have := sl.1; omega, by have := sl.2; omega⟩), o1.2⟩)
  refine va_cald hx hb hK hS.1 k 3 (a_ws_at hk) rfl (a_in o0.1 h0 h1) hd ?_
  rw [a_clamp o0.1]
  exact q
theorem s_ld24 {k : Nat} {i : Int} (hx : p.tables.exec = Jvm.exec) (hb : c.code = cc) (hK : va_K D classes (a_tys dA) s) (hd : decode cc pc = .ok (.iaload, 1)) (h0 : 0 ≤ i) (h1 : i < m_len w k) (kk : a_W p l e R s m args below meth c E dA D nL (pc + 1) ls (m_li (m_get w k i.toNat) :: t) w r) : a_W p l e R s m args below meth c E dA D nL pc ls (.inl i :: .inr (.inr (some (24, k))) :: t) w r := by
  intro H locs lsR hS hl hlo hso
  have o0 := List.forall_mem_cons.mp hso
  have o1 := List.forall_mem_cons.mp o0.2
  obtain ⟨n, hk⟩ := a_ref o1.1 (by decide)
  rw [a_len_at hk] at h1
  have sl : a_i32 (w.2.1 k i.toNat) := (hS.2.2 k _ hk).2 i.toNat 0 (by show (if i.toNat < n then some _ else none) = _; rw [if_pos (by omega)]; rfl)
  have q := kk H locs lsR hS hl hlo (List.forall_mem_cons.mpr ⟨sl, o1.2⟩)
  refine va_iald hx hb hK hS.1 k 4 (a_ws_at hk) rfl (a_in o0.1 h0 h1) hd ?_
  rw [a_clamp o0.1]
  exact q
theorem s_ld25 {k : Nat} {i : Int} (hx : p.tables.exec = Jvm.exec) (hb : c.code = cc) (hK : va_K D classes (a_tys dA) s) (hd : decode cc pc = .ok (.laload, 1)) (h0 : 0 ≤ i) (h1 : i < m_len w k) (kk : a_W p l e R s m args below meth c E dA D nL (pc + 1) ls (m_ll (m_get w k i.toNat) :: t) w r) : a_W p l e R s m args below meth c E dA D nL pc ls (.inl i :: .inr (.inr (some (25, k))) :: t) w r := by
  intro H locs lsR hS hl hlo hso
  have o0 := List.forall_mem_cons.mp hso
  have o1 := List.forall_mem_cons.mp o0.2
  obtain ⟨n, hk⟩ := a_ref o1.1 (by decide)
  rw [a_len_at hk] at h1
  have sl : a_i64 (w.2.1 k i.toNat) := (hS.2.2 k _ hk).2 i.toNat 2 (by show (if i.toNat < n then some _ else none) = _; rw [if_pos (by omega)]; rfl)
  have q := kk H locs lsR hS hl hlo (List.forall_mem_cons.mpr ⟨sl, o1.2⟩)
  refine va_lald hx hb hK hS.1 k 5 (a_ws_at hk) rfl (a_in o0.1 h0 h1) hd ?_
  rw [a_clamp o0.1]
  exact q
theorem s_st20 {k : Nat} {i v : Int} (hx : p.tables.exec = Jvm.exec) (hb : c.code = cc) (hK : va_K D classes (a_tys dA) s) (hd : decode cc pc = .ok (.bastore, 1)) (h0 : 0 ≤ i) (h1 : i < m_len w k) (kk : a_W p l e R s m args below meth c E dA D nL (pc + 1) ls t (m_put w k i.toNat (w8 v)) r) : a_W p l e R s m args below meth c E dA D nL pc ls (.inl v :: .inl i :: .inr (.inr (some (20, k))) :: t) w r := by
  intro H locs lsR hS hl hlo hso
  have o0 := List.forall_mem_cons.mp hso
  have o1 := List.forall_mem_cons.mp o0.2
  have o2 := List.forall_mem_cons.mp o1.2
  obtain ⟨n, hk⟩ := a_ref o2.1 (by decide)
  rw [a_len_at hk] at h1
  have hw : a_wok (m_put w k i.toNat (w8 v)) := a_wok_put hS.2.2 (fun q s9 hq hs => by
    cases hk.symm.trans hq
    have hs : (if i.toNat < n then some 100 else none) = some s9 := hs
    rw [if_pos (by omega)] at hs
    cases hs
    show -128 ≤ (m_put w k i.toNat (w8 v)).2.1 k i.toNat ∧ (m_put w k i.toNat (w8 v)).2.1 k i.toNat < 128
    rw [m_put_eq]; exact a_w8_in v)
  have hen : a_en E dA (m_put w k i.toNat (w8 v)) k (20, n) = .inl (dA 20, n, .inl (upd (fun j => Int32.ofInt (w.2.1 k j)) (Int32.ofInt i).toNatClampNeg (vp_nar .byte (Int32.ofInt v)))) := by
    show (.inl (dA 20, n, .inl (fun j => Int32.ofInt ((m_put w k i.toNat (w8 v)).2.1 k j))) : va_E) = _
    congr 4
    funext j
    rw [(show vp_nar .byte (Int32.ofInt v) = Int32.ofInt (w8 v) by rw [vp_nar_byte, a_i2b o0.1])]; rw [a_clamp o1.1]
    unfold upd
    by_cases hj : j = i.toNat
    · subst hj; rw [m_put_eq, if_pos rfl]
    · rw [m_put_ne (fun e => hj e.2), if_neg hj]
  refine va_bast hx hb hK hS.1 (a_ws_D E dA w) hS.2.1 k 0 (a_ws_at hk) rfl (a_in o1.1 h0 h1) hd fun H1 locs1 hP _ hS1 => ?_
  refine kk H1 locs1 lsR ⟨?_, hS1, hw⟩ hl (fun q hq => a_ok_congr (w := w) rfl (hlo q hq)) (fun q hq => a_ok_congr (w := w) rfl (o2.2 q hq))
  rw [← a_ws_set (E := E) (dA := dA) (w' := m_put w k i.toNat (w8 v)) hk rfl (fun k' q' hne _ => a_en_put q' hne), hen]
  exact hP
theorem s_st21 {k : Nat} {i v : Int} (hx : p.tables.exec = Jvm.exec) (hb : c.code = cc) (hK : va_K D classes (a_tys dA) s) (hd : decode cc pc = .ok (.bastore, 1)) (h0 : 0 ≤ i) (h1 : i < m_len w k) (hv : 0 ≤ v ∧ v ≤ 1) (kk : a_W p l e R s m args below meth c E dA D nL (pc + 1) ls t (m_put w k i.toNat (v)) r) : a_W p l e R s m args below meth c E dA D nL pc ls (.inl v :: .inl i :: .inr (.inr (some (21, k))) :: t) w r := by
  intro H locs lsR hS hl hlo hso
  have o0 := List.forall_mem_cons.mp hso
  have o1 := List.forall_mem_cons.mp o0.2
  have o2 := List.forall_mem_cons.mp o1.2
  obtain ⟨n, hk⟩ := a_ref o2.1 (by decide)
  rw [a_len_at hk] at h1
  have hw : a_wok (m_put w k i.toNat (v)) := a_wok_put hS.2.2 (fun q s9 hq hs => by
    cases hk.symm.trans hq
    have hs : (if i.toNat < n then some 1 else none) = some s9 := hs
    rw [if_pos (by omega)] at hs
    cases hs
    show 0 ≤ (m_put w k i.toNat (v)).2.1 k i.toNat ∧ (m_put w k i.toNat (v)).2.1 k i.toNat ≤ 1
    rw [m_put_eq]; exact hv)
  have hen : a_en E dA (m_put w k i.toNat (v)) k (21, n) = .inl (dA 21, n, .inl (upd (fun j => Int32.ofInt (w.2.1 k j)) (Int32.ofInt i).toNatClampNeg (vp_nar .boolean (Int32.ofInt v)))) := by
    show (.inl (dA 21, n, .inl (fun j => Int32.ofInt ((m_put w k i.toNat (v)).2.1 k j))) : va_E) = _
    congr 4
    funext j
    rw [a_nar01 hv]; rw [a_clamp o1.1]
    unfold upd
    by_cases hj : j = i.toNat
    · subst hj; rw [m_put_eq, if_pos rfl]
    · rw [m_put_ne (fun e => hj e.2), if_neg hj]
  refine va_zast hx hb hK hS.1 (a_ws_D E dA w) hS.2.1 k 1 (a_ws_at hk) rfl (a_in o1.1 h0 h1) hd fun H1 locs1 hP _ hS1 => ?_
  refine kk H1 locs1 lsR ⟨?_, hS1, hw⟩ hl (fun q hq => a_ok_congr (w := w) rfl (hlo q hq)) (fun q hq => a_ok_congr (w := w) rfl (o2.2 q hq))
  rw [← a_ws_set (E := E) (dA := dA) (w' := m_put w k i.toNat (v)) hk rfl (fun k' q' hne _ => a_en_put q' hne), hen]
  exact hP
theorem s_st22 {k : Nat} {i v : Int} (hx : p.tables.exec = Jvm.exec) (hb : c.code = cc) (hK : va_K D classes (a_tys dA) s) (hd : decode cc pc = .ok (.sastore, 1)) (h0 : 0 ≤ i) (h1 : i < m_len w k) (kk : a_W p l e R s m args below meth c E dA D nL (pc + 1) ls t (m_put w k i.toNat (w16 v)) r) : a_W p l e R s m args below meth c E dA D nL pc ls (.inl v :: .inl i :: .inr (.inr (some (22, k))) :: t) w r := by
  intro H locs lsR hS hl hlo hso
  have o0 := List.forall_mem_cons.mp hso
  have o1 := List.forall_mem_cons.mp o0.2
  have o2 := List.forall_mem_cons.mp o1.2
  obtain ⟨n, hk⟩ := a_ref o2.1 (by decide)
  rw [a_len_at hk] at h1
  have hw : a_wok (m_put w k i.toNat (w16 v)) := a_wok_put hS.2.2 (fun q s9 hq hs => by
    cases hk.symm.trans hq
    have hs : (if i.toNat < n then some 101 else none) = some s9 := hs
    rw [if_pos (by omega)] at hs
    cases hs
    show -32768 ≤ (m_put w k i.toNat (w16 v)).2.1 k i.toNat ∧ (m_put w k i.toNat (w16 v)).2.1 k i.toNat < 32768
    rw [m_put_eq]; exact a_w16_in v)
  have hen : a_en E dA (m_put w k i.toNat (w16 v)) k (22, n) = .inl (dA 22, n, .inl (upd (fun j => Int32.ofInt (w.2.1 k j)) (Int32.ofInt i).toNatClampNeg (vp_nar .short (Int32.ofInt v)))) := by
    show (.inl (dA 22, n, .inl (fun j => Int32.ofInt ((m_put w k i.toNat (w16 v)).2.1 k j))) : va_E) = _
    congr 4
    funext j
    rw [(show vp_nar .short (Int32.ofInt v) = Int32.ofInt (w16 v) by rw [vp_nar_short, a_i2s o0.1])]; rw [a_clamp o1.1]
    unfold upd
    by_cases hj : j = i.toNat
    · subst hj; rw [m_put_eq, if_pos rfl]
    · rw [m_put_ne (fun e => hj e.2), if_neg hj]
  refine va_sast hx hb hK hS.1 (a_ws_D E dA w) hS.2.1 k 2 (a_ws_at hk) rfl (a_in o1.1 h0 h1) hd fun H1 locs1 hP _ hS1 => ?_
  refine kk H1 locs1 lsR ⟨?_, hS1, hw⟩ hl (fun q hq => a_ok_congr (w := w) rfl (hlo q hq)) (fun q hq => a_ok_congr (w := w) rfl (o2.2 q hq))
  rw [← a_ws_set (E := E) (dA := dA) (w' := m_put w k i.toNat (w16 v)) hk rfl (fun k' q' hne _ => a_en_put q' hne), hen]
  exact hP
theorem s_st23 {k : Nat} {i v : Int} (hx : p.tables.exec = Jvm.exec) (hb : c.code = cc) (hK : va_K D classes (a_tys dA) s) (hd : decode cc pc = .ok (.castore, 1)) (h0 : 0 ≤ i) (h1 : i < m_len w k) (kk : a_W p l e R s m args below meth c E dA D nL (pc + 1) ls t (m_put w k i.toNat (v % 65536)) r) : a_W p l e R s m args below meth c E dA D nL pc ls (.inl v :: .inl i :: .inr (.inr (some (23, k))) :: t) w r := by
  intro H locs lsR hS hl hlo hso
  have o0 := List.forall_mem_cons.mp hso
  have o1 := List.forall_mem_cons.mp o0.2
  have o2 := List.forall_mem_cons.mp o1.2
  obtain ⟨n, hk⟩ := a_ref o2.1 (by decide)
  rw [a_len_at hk] at h1
  have hw : a_wok (m_put w k i.toNat (v % 65536)) := a_wok_put hS.2.2 (fun q s9 hq hs => by
    cases hk.symm.trans hq
    have hs : (if i.toNat < n then some 102 else none) = some s9 := hs
    rw [if_pos (by omega)] at hs
    cases hs
    show 0 ≤ (m_put w k i.toNat (v % 65536)).2.1 k i.toNat ∧ (m_put w k i.toNat (v % 65536)).2.1 k i.toNat < 65536
    rw [m_put_eq]; exact (show 0 ≤ v % 65536 ∧ v % 65536 < 65536 by omega))
  have hen : a_en E dA (m_put w k i.toNat (v % 65536)) k (23, n) = .inl (dA 23, n, .inl (upd (fun j => Int32.ofInt (w.2.1 k j)) (Int32.ofInt i).toNatClampNeg (vp_nar .char (Int32.ofInt v)))) := by
    show (.inl (dA 23, n, .inl (fun j => Int32.ofInt ((m_put w k i.toNat (v % 65536)).2.1 k j))) : va_E) = _
    congr 4
    funext j
    rw [(show vp_nar .char (Int32.ofInt v) = Int32.ofInt (v % 65536) by rw [a_narc, a_i2c o0.1])]; rw [a_clamp o1.1]
    unfold upd
    by_cases hj : j = i.toNat
    · subst hj; rw [m_put_eq, if_pos rfl]
    · rw [m_put_ne (fun e => hj e.2), if_neg hj]
  refine va_cast hx hb hK hS.1 (a_ws_D E dA w) hS.2.1 k 3 (a_ws_at hk) rfl (a_in o1.1 h0 h1) hd fun H1 locs1 hP _ hS1 => ?_
  refine kk H1 locs1 lsR ⟨?_, hS1, hw⟩ hl (fun q hq => a_ok_congr (w := w) rfl (hlo q hq)) (fun q hq => a_ok_congr (w := w) rfl (o2.2 q hq))
  rw [← a_ws_set (E := E) (dA := dA) (w' := m_put w k i.toNat (v % 65536)) hk rfl (fun k' q' hne _ => a_en_put q' hne), hen]
  exact hP
theorem s_st24 {k : Nat} {i v : Int} (hx : p.tables.exec = Jvm.exec) (hb : c.code = cc) (hK : va_K D classes (a_tys dA) s) (hd : decode cc pc = .ok (.iastore, 1)) (h0 : 0 ≤ i) (h1 : i < m_len w k) (kk : a_W p l e R s m args below meth c E dA D nL (pc + 1) ls t (m_put w k i.toNat (v)) r) : a_W p l e R s m args below meth c E dA D nL pc ls (.inl v :: .inl i :: .inr (.inr (some (24, k))) :: t) w r := by
  intro H locs lsR hS hl hlo hso
  have o0 := List.forall_mem_cons.mp hso
  have o1 := List.forall_mem_cons.mp o0.2
  have o2 := List.forall_mem_cons.mp o1.2
  obtain ⟨n, hk⟩ := a_ref o2.1 (by decide)
  rw [a_len_at hk] at h1
  have hw : a_wok (m_put w k i.toNat (v)) := a_wok_put hS.2.2 (fun q s9 hq hs => by
    cases hk.symm.trans hq
    have hs : (if i.toNat < n then some 0 else none) = some s9 := hs
    rw [if_pos (by omega)] at hs
    cases hs
    show a_i32 ((m_put w k i.toNat (v)).2.1 k i.toNat)
    rw [m_put_eq]; exact o0.1)
  have hen : a_en E dA (m_put w k i.toNat (v)) k (24, n) = .inl (dA 24, n, .inl (upd (fun j => Int32.ofInt (w.2.1 k j)) (Int32.ofInt i).toNatClampNeg (Int32.ofInt v))) := by
    show (.inl (dA 24, n, .inl (fun j => Int32.ofInt ((m_put w k i.toNat (v)).2.1 k j))) : va_E) = _
    congr 4
    funext j
    rw [a_clamp o1.1]
    unfold upd
    by_cases hj : j = i.toNat
    · subst hj; rw [m_put_eq, if_pos rfl]
    · rw [m_put_ne (fun e => hj e.2), if_neg hj]
  refine va_iast hx hb hK hS.1 (a_ws_D E dA w) hS.2.1 k 4 (a_ws_at hk) rfl (a_in o1.1 h0 h1) hd fun H1 locs1 hP _ hS1 => ?_
  refine kk H1 locs1 lsR ⟨?_, hS1, hw⟩ hl (fun q hq => a_ok_congr (w := w) rfl (hlo q hq)) (fun q hq => a_ok_congr (w := w) rfl (o2.2 q hq))
  rw [← a_ws_set (E := E) (dA := dA) (w' := m_put w k i.toNat (v)) hk rfl (fun k' q' hne _ => a_en_put q' hne), hen]
  exact hP
theorem s_st25 {k : Nat} {i v : Int} (hx : p.tables.exec = Jvm.exec) (hb : c.code = cc) (hK : va_K D classes (a_tys dA) s) (hd : decode cc pc = .ok (.lastore, 1)) (h0 : 0 ≤ i) (h1 : i < m_len w k) (kk : a_W p l e R s m args below meth c E dA D nL (pc + 1) ls t (m_put w k i.toNat (v)) r) : a_W p l e R s m args below meth c E dA D nL pc ls (.inr (.inl v) :: .inl i :: .inr (.inr (some (25, k))) :: t) w r := by
  intro H locs lsR hS hl hlo hso
  have o0 := List.forall_mem_cons.mp hso
  have o1 := List.forall_mem_cons.mp o0.2
  have o2 := List.forall_mem_cons.mp o1.2
  obtain ⟨n, hk⟩ := a_ref o2.1 (by decide)
  rw [a_len_at hk] at h1
  have hw : a_wok (m_put w k i.toNat (v)) := a_wok_put hS.2.2 (fun q s9 hq hs => by
    cases hk.symm.trans hq
    have hs : (if i.toNat < n then some 2 else none) = some s9 := hs
    rw [if_pos (by omega)] at hs
    cases hs
    show a_i64 ((m_put w k i.toNat (v)).2.1 k i.toNat)
    rw [m_put_eq]; exact o0.1)
  have hen : a_en E dA (m_put w k i.toNat (v)) k (25, n) = .inl (dA 25, n, .inr (.inl (vp_updL (fun j => Int64.ofInt (w.2.1 k j)) (Int32.ofInt i).toNatClampNeg (Int64.ofInt v)))) := by
    show (.inl (dA 25, n, .inr (.inl (fun j => Int64.ofInt ((m_put w k i.toNat (v)).2.1 k j)))) : va_E) = _
    congr 5
    funext j
    rw [a_clamp o1.1]
    unfold vp_updL
    by_cases hj : j = i.toNat
    · subst hj; rw [m_put_eq, if_pos rfl]
    · rw [m_put_ne (fun e => hj e.2), if_neg hj]
  refine va_last hx hb hK hS.1 (a_ws_D E dA w) hS.2.1 k 5 (a_ws_at hk) rfl (a_in o1.1 h0 h1) hd fun H1 locs1 hP _ hS1 => ?_
  refine kk H1 locs1 lsR ⟨?_, hS1, hw⟩ hl (fun q hq => a_ok_congr (w := w) rfl (hlo q hq)) (fun q hq => a_ok_congr (w := w) rfl (o2.2 q hq))
  rw [← a_ws_set (E := E) (dA := dA) (w' := m_put w k i.toNat (v)) hk rfl (fun k' q' hne _ => a_en_put q' hne), hen]
  exact hP
end AH
