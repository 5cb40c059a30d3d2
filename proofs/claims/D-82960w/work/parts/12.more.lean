/-! ===== writes by their sorts; arrays of references; switches; ends; constants ===== -/
section AM
variable {p : Program} {l : Launch} {e : Env} {R : Room} {s : State} {m : MethodId} {args : Array Value} {below : List Frame} {meth : Method} {c : Code}
variable {E : Nat × (Nat → Nat)} {dA : Nat → ClassId} {D : va_G} {nL pc : Nat} {ls : mL} {st t : List mV} {w : mW} {r : mR} {cc : ByteArray} {Ts : List Cond} {o : Nat}
theorem a_ad10 {c0 : Nat} (h : c0 ≠ 10) (k : Nat) : a_ad E c0 k = E.1 + k := by
  unfold a_ad
  cases hb9 : Nat.beq c0 10 with
  | false => rfl
  | true => exact absurd (Nat.eq_of_beq_eq_true hb9) h
theorem a_getD {c0 j z : Nat} (hz : (fs c0)[j]? = some z) : (fs c0).getD j 0 = z := by
  rw [List.getD_eq_getElem?_getD, hz]; rfl
/-- a number's write: sorts 0, 1, 2 -/
theorem s_putn {c0 j z row nest idx k : Nat} {v : mV} {x : Int} (hx : p.tables.exec = Jvm.exec) (hb : c.code = cc) (hT : ∀ w ∈ tables_1, tp_ok w = true → w ∈ Ts) (hts : ∀ w ∈ Ts, w.before args s = true) (hown : s.vm.findClass (cn o) = some m.cls) (hK : va_K D classes (a_tys dA) s)
    (hq : (idx, c0, j, row, nest) ∈ ft o) (hz : (fs c0)[j]? = some z) (hd : decode cc pc = .ok (.putfield idx, 3))
    (hv : (z = 0 ∧ v = .inl x) ∨ (z = 1 ∧ v = .inl x ∧ 0 ≤ x ∧ x ≤ 1) ∨ (z = 2 ∧ v = .inr (.inl x)))
    (kk : a_W p l e R s m args below meth c E dA D nL (pc + 3) ls t (m_put w k j x) r) : a_W p l e R s m args below meth c E dA D nL pc ls (v :: .inr (.inr (some (c0, k))) :: t) w r := by
  intro H locs lsR hS hl hlo hso
  have o0 := List.forall_mem_cons.mp hso
  have o1 := List.forall_mem_cons.mp o0.2
  have hc := a_fs_lt hz
  obtain ⟨n, hk⟩ := a_ref o1.1 (by omega)
  obtain ⟨-, h2⟩ := a_ft_ok o _ hq
  have hty := ((a_fty_ok c0 hc).2 j h2).1
  rw [a_getD hz] at hty
  have hfs : a_f E (m_put w k j x) k j z = a_v E v := by
    rcases hv with ⟨rfl, rfl⟩ | ⟨rfl, rfl, -⟩ | ⟨rfl, rfl⟩
    · show Value.int (Int32.ofInt ((m_put w k j x).2.1 k j)) = _; rw [m_put_eq]; rfl
    · show Value.int (Int32.ofInt ((m_put w k j x).2.1 k j)) = _; rw [m_put_eq]; rfl
    · show Value.long (Int64.ofInt ((m_put w k j x).2.1 k j)) = _; rw [m_put_eq]; rfl
  have hwk : a_wok (m_put w k j x) := a_wok_put hS.2.2 (fun q s9 hq9 hs => by
    cases hk.symm.trans hq9
    cases (a_sort_f (n := n) hc hz).symm.trans hs
    rcases hv with ⟨rfl, rfl⟩ | ⟨rfl, rfl, h9⟩ | ⟨rfl, rfl⟩
    · show a_i32 ((m_put w k j x).2.1 k j); rw [m_put_eq]; exact o0.1
    · show 0 ≤ (m_put w k j x).2.1 k j ∧ (m_put w k j x).2.1 k j ≤ 1; rw [m_put_eq]; exact h9
    · show a_i64 ((m_put w k j x).2.1 k j); rw [m_put_eq]; exact o0.1)
  show W p l e R s m args below meth c H locs 0 0 _ (F0 m pc lsR (a_v E v :: .ref (a_ad E c0 k) :: t.map (a_v E)))
  rw [a_ad10 (by omega)]
  have hnf : (F_ c0 j).2.2.2 = false ∧ narrow ((tl c0).getD j .int) (a_v E v) = a_v E v ∧ fits ((tl c0).getD j .int) (a_v E v) = true := by
    rcases hv with ⟨rfl, rfl⟩ | ⟨rfl, rfl, h9⟩ | ⟨rfl, rfl⟩
    · simp only [a_fty, Bool.and_eq_true, decide_eq_true_eq, Bool.not_eq_true'] at hty
      exact ⟨hty.2, by rw [hty.1]; rfl, by rw [hty.1]; rfl⟩
    · simp only [a_fty, Bool.and_eq_true, decide_eq_true_eq, Bool.not_eq_true'] at hty
      exact ⟨hty.2, by rw [hty.1]; exact a_narw01 h9, by rw [hty.1]; exact a_fit01 h9⟩
    · simp only [a_fty, Bool.and_eq_true, decide_eq_true_eq, Bool.not_eq_true'] at hty
      exact ⟨hty.2, by rw [hty.1]; rfl, by rw [hty.1]; rfl⟩
  exact a_putf (w' := m_put w k j x) hx hb hT hts hown hK hq hz hS hk hd hnf.1 hnf.2.1 hnf.2.2 rfl (fun k' j' h => ⟨m_put_ne h, rfl⟩) hfs hwk hl hlo o1.2 kk
/-- a reference's write, to a field that may change -/
theorem s_putr {c0 j z row nest idx k q : Nat} (hx : p.tables.exec = Jvm.exec) (hb : c.code = cc) (hT : ∀ w ∈ tables_1, tp_ok w = true → w ∈ Ts) (hts : ∀ w ∈ Ts, w.before args s = true) (hown : s.vm.findClass (cn o) = some m.cls) (hK : va_K D classes (a_tys dA) s)
    (hq : (idx, c0, j, row, nest) ∈ ft o) (hz : (fs c0)[j]? = some z) (hd : decode cc pc = .ok (.putfield idx, 3)) (h1 : 3 ≤ z) (h2 : z < 100) (h3 : (z - 3) % 2 = 1)
    (kk : a_W p l e R s m args below meth c E dA D nL (pc + 3) ls t (m_putr w k j q) r) : a_W p l e R s m args below meth c E dA D nL pc ls (.inr (.inr (some ((z - 3) / 2, q))) :: .inr (.inr (some (c0, k))) :: t) w r := by
  intro H locs lsR hS hl hlo hso
  have o0 := List.forall_mem_cons.mp hso
  have o1 := List.forall_mem_cons.mp o0.2
  have hc := a_fs_lt hz
  obtain ⟨n, hk⟩ := a_ref o1.1 (by omega)
  obtain ⟨-, h9⟩ := a_ft_ok o _ hq
  have hty := ((a_fty_ok c0 hc).2 j h9).1
  rw [a_getD hz] at hty
  have hfs : a_f E (m_putr w k j q) k j z = a_v E (m_rv ((z - 3) / 2) q) := by
    rw [a_f_r h1, m_putr_eq]; rfl
  have hwk : a_wok (m_putr w k j q) := a_wok_putr hS.2.2 (fun q9 s9 hq9 hs => by
    cases hk.symm.trans hq9
    cases (a_sort_f (n := n) hc hz).symm.trans hs
    refine a_slot_ri h1 h2 ⟨fun h => by omega, fun a ha => ?_⟩
    rw [m_putr_eq] at ha
    cases ha
    exact a_ok_congr (w := w) rfl o0.1)
  show W p l e R s m args below meth c H locs 0 0 _ (F0 m pc lsR (a_v E (m_rv ((z - 3) / 2) q) :: .ref (a_ad E c0 k) :: t.map (a_v E)))
  rw [a_ad10 (show c0 ≠ 10 by omega)]
  have hnf : (F_ c0 j).2.2.2 = false ∧ narrow ((tl c0).getD j .int) (a_v E (m_rv ((z - 3) / 2) q)) = a_v E (m_rv ((z - 3) / 2) q) ∧ fits ((tl c0).getD j .int) (a_v E (m_rv ((z - 3) / 2) q)) = true := by
    unfold a_fty at hty
    split at hty
    · omega
    · omega
    · omega
    · simp only [Bool.and_eq_true, Bool.or_eq_true, decide_eq_true_eq, Bool.not_eq_true'] at hty
      refine ⟨by rcases hty.2 with h | h <;> first | omega | exact h, ?_⟩
      have ht := hty.1
      split at ht
      · rename_i h8; rw [h8]; exact ⟨rfl, rfl⟩
      · rename_i h8; rw [h8]; exact ⟨rfl, rfl⟩
      · cases ht
  exact a_putf (w' := m_putr w k j q) hx hb hT hts hown hK hq hz hS hk hd hnf.1 hnf.2.1 hnf.2.2 rfl (fun k' j' h => ⟨rfl, m_putr_ne h⟩) hfs hwk hl hlo o1.2 kk
theorem s_ld26 {k : Nat} {i : Int} (hx : p.tables.exec = Jvm.exec) (hb : c.code = cc) (hK : va_K D classes (a_tys dA) s) (hd : decode cc pc = .ok (.aaload, 1)) (h0 : 0 ≤ i) (h1 : i < m_len w k) (kk : a_W p l e R s m args below meth c E dA D nL (pc + 1) ls (m_rv 10 (lay 26 k i.toNat) :: t) w r) : a_W p l e R s m args below meth c E dA D nL pc ls (.inl i :: .inr (.inr (some (26, k))) :: t) w r := by
  intro H locs lsR hS hl hlo hso
  have o0 := List.forall_mem_cons.mp hso
  have o1 := List.forall_mem_cons.mp o0.2
  obtain ⟨n, hk⟩ := a_ref o1.1 (by decide)
  rw [a_len_at hk] at h1
  have sl := a_slot_r (by decide) (by decide) ((hS.2.2 k _ hk).2 i.toNat 23 (by show (if i.toNat < n then some _ else none) = _; rw [if_pos (by omega)]; rfl))
  have q := kk H locs lsR hS hl hlo (List.forall_mem_cons.mpr ⟨sl.2 _ (sl.1 rfl), o1.2⟩)
  refine va_aldq (C := "java/lang/String") hx hb hK hS.1 k 6 (a_ws_at hk) rfl (a_in o0.1 h0 h1) hd ?_
  rw [a_clamp o0.1, sl.1 rfl]
  exact q
theorem s_ld27 {k : Nat} {i : Int} (hx : p.tables.exec = Jvm.exec) (hb : c.code = cc) (hK : va_K D classes (a_tys dA) s) (hd : decode cc pc = .ok (.aaload, 1)) (h0 : 0 ≤ i) (h1 : i < m_len w k) (kk : a_W p l e R s m args below meth c E dA D nL (pc + 1) ls (m_rv 3 (lay 27 k i.toNat) :: t) w r) : a_W p l e R s m args below meth c E dA D nL pc ls (.inl i :: .inr (.inr (some (27, k))) :: t) w r := by
  intro H locs lsR hS hl hlo hso
  have o0 := List.forall_mem_cons.mp hso
  have o1 := List.forall_mem_cons.mp o0.2
  obtain ⟨n, hk⟩ := a_ref o1.1 (by decide)
  rw [a_len_at hk] at h1
  have sl := a_slot_r (by decide) (by decide) ((hS.2.2 k _ hk).2 i.toNat 9 (by show (if i.toNat < n then some _ else none) = _; rw [if_pos (by omega)]; rfl))
  have q := kk H locs lsR hS hl hlo (List.forall_mem_cons.mpr ⟨sl.2 _ (sl.1 rfl), o1.2⟩)
  refine va_aldq (C := "WatchedObjects$Type") hx hb hK hS.1 k 7 (a_ws_at hk) rfl (a_in o0.1 h0 h1) hd ?_
  rw [a_clamp o0.1, sl.1 rfl]
  exact q
theorem s_alen {a k : Nat} (hx : p.tables.exec = Jvm.exec) (hb : c.code = cc) (hK : va_K D classes (a_tys dA) s) (hd : decode cc pc = .ok (.arraylength, 1)) (ha : a = 20 ∨ a = 21 ∨ a = 22 ∨ a = 23 ∨ a = 24 ∨ a = 25 ∨ a = 26 ∨ a = 27) (kk : a_W p l e R s m args below meth c E dA D nL (pc + 1) ls (m_li (m_len w k) :: t) w r) : a_W p l e R s m args below meth c E dA D nL pc ls (.inr (.inr (some (a, k))) :: t) w r := by
  intro H locs lsR hS hl hlo hso
  have o1 := List.forall_mem_cons.mp hso
  obtain ⟨n, hk⟩ := a_ref o1.1 (by omega)
  have hn := (hS.2.2 k _ hk).1
  have q := kk H locs lsR hS hl hlo (List.forall_mem_cons.mpr ⟨by rw [a_len_at hk]; exact (show a_i32 (n : Int) from ⟨by omega, by omega⟩), o1.2⟩)
  have q : W p l e R s m args below meth c H locs 0 0 (a_Q below s E dA D r) (F0 m (pc + 1) lsR (.int (Int32.ofInt (m_len w k)) :: t.map (a_v E))) := q
  rw [a_len_at hk] at q
  rcases ha with rfl | rfl | rfl | rfl | rfl | rfl | rfl | rfl
  · exact va_alen hx hb hK hS.1 k 0 (a_ws_at hk) rfl (Int32.ofInt_eq_ofNat (n := n)).symm hd q
  · exact va_alen hx hb hK hS.1 k 1 (a_ws_at hk) rfl (Int32.ofInt_eq_ofNat (n := n)).symm hd q
  · exact va_alen hx hb hK hS.1 k 2 (a_ws_at hk) rfl (Int32.ofInt_eq_ofNat (n := n)).symm hd q
  · exact va_alen hx hb hK hS.1 k 3 (a_ws_at hk) rfl (Int32.ofInt_eq_ofNat (n := n)).symm hd q
  · exact va_alen hx hb hK hS.1 k 4 (a_ws_at hk) rfl (Int32.ofInt_eq_ofNat (n := n)).symm hd q
  · exact va_alen hx hb hK hS.1 k 5 (a_ws_at hk) rfl (Int32.ofInt_eq_ofNat (n := n)).symm hd q
  · exact va_alen hx hb hK hS.1 k 6 (a_ws_at hk) rfl (Int32.ofInt_eq_ofNat (n := n)).symm hd q
  · exact va_alen hx hb hK hS.1 k 7 (a_ws_at hk) rfl (Int32.ofInt_eq_ofNat (n := n)).symm hd q
/-- switches -/
theorem a_sw {x : Int} {k : Int → Option mR} {d : Option mR} : ∀ (os : List Int) (v : Int), m_sw x v os k d = some r → (∃ o, v ≤ x ∧ os[(x - v).toNat]? = some o ∧ k o = some r) ∨ ((x < v ∨ v + os.length ≤ x) ∧ d = some r)
  | [], v, h => Or.inr ⟨by simp only [List.length_nil]; omega, h⟩
  | o :: os, v, h => by
    unfold m_sw at h
    by_cases hv : x = v
    · rw [if_pos hv] at h
      subst hv
      exact Or.inl ⟨o, Int.le_refl _, by simp, h⟩
    · rw [if_neg hv] at h
      rcases a_sw os (v + 1) h with ⟨o', h1, h2, h3⟩ | ⟨h1, h2⟩
      · refine Or.inl ⟨o', by omega, ?_, h3⟩
        rw [show (x - v).toNat = (x - (v + 1)).toNat + 1 by omega]
        exact h2
      · refine Or.inr ⟨?_, h2⟩
        simp only [List.length_cons]
        omega
theorem s_tsw {x d lo hi : Int} {os : Array Int} {ln : Nat} {K : Int → Option mR} {dk : Option mR} (hx : p.tables.exec = Jvm.exec) (hb : c.code = cc) (hd : decode cc pc = .ok (.tableswitch d lo hi os, ln)) (hlen : hi = lo + os.size - 1) (h0 : 0 ≤ (pc : Int) + d) (h1 : ∀ o ∈ os.toList, 0 ≤ (pc : Int) + o)
    (h : m_sw x lo os.toList K dk = some r) (kt : ∀ o, K o = some r → a_W p l e R s m args below meth c E dA D nL ((pc : Int) + o).toNat ls t w r) (kd : dk = some r → a_W p l e R s m args below meth c E dA D nL ((pc : Int) + d).toNat ls t w r) : a_W p l e R s m args below meth c E dA D nL pc ls (.inl x :: t) w r := by
  intro H locs lsR hS hl hlo hso
  have o0 := List.forall_mem_cons.mp hso
  have ex := a_toI o0.1
  rcases a_sw os.toList lo h with ⟨o', h2, h3, h4⟩ | ⟨h2, h3⟩
  · have hm : o' ∈ os.toList := List.mem_of_getElem? h3
    have hlt : (x - lo).toNat < os.size := by
      have := (List.getElem?_eq_some_iff.mp h3).1
      rwa [Array.length_toList] at this
    exact lv_tableIn hx hb hd (tgt := ((pc : Int) + o').toNat) (by rw [ex]; omega) (by rw [ex]; omega) (off := o') (by rw [ex]; rw [← Array.getElem?_toList]; exact h3) (by have := h1 o' hm; omega) (kt o' h4 H locs lsR hS hl hlo o0.2)
  · rw [Array.length_toList] at h2
    exact lv_tableOut hx hb hd (tgt := ((pc : Int) + d).toNat) (by rw [ex]; omega) (by omega) (kd h3 H locs lsR hS hl hlo o0.2)
theorem a_lsw {x d : Int} {K : Int → Option mR} {dk : Option mR} : ∀ (ps : List (Int × Int)), m_lsw x ps K dk = some r → (∃ q ∈ ps, Op.lookupswitch.offset ps d x = q.2 ∧ K q.2 = some r) ∨ (Op.lookupswitch.offset ps d x = d ∧ dk = some r)
  | [], h => Or.inr ⟨rfl, h⟩
  | q :: ps, h => by
    unfold m_lsw at h
    by_cases hv : x = q.1
    · rw [if_pos hv] at h
      refine Or.inl ⟨q, List.mem_cons_self, ?_, h⟩
      simp [Op.lookupswitch.offset, hv]
    · rw [if_neg hv] at h
      have e : Op.lookupswitch.offset (q :: ps) d x = Op.lookupswitch.offset ps d x := by
        simp [Op.lookupswitch.offset, hv, Ne.symm hv]
      rw [e]
      rcases a_lsw ps h with ⟨q', h1, h2⟩ | h1
      · exact Or.inl ⟨q', List.mem_cons_of_mem _ h1, h2⟩
      · exact Or.inr h1
theorem s_lsw {x d : Int} {ps : Array (Int × Int)} {ln : Nat} {K : Int → Option mR} {dk : Option mR} (hx : p.tables.exec = Jvm.exec) (hb : c.code = cc) (hd : decode cc pc = .ok (.lookupswitch d ps, ln)) (hp : (ps.toList.zip (ps.toList.drop 1)).all (fun (a, next) => a.1 < next.1) = true) (h0 : 0 ≤ (pc : Int) + d) (h1 : ∀ o ∈ ps.toList, 0 ≤ (pc : Int) + o.2)
    (h : m_lsw x ps.toList K dk = some r) (kt : ∀ o, K o = some r → a_W p l e R s m args below meth c E dA D nL ((pc : Int) + o).toNat ls t w r) (kd : dk = some r → a_W p l e R s m args below meth c E dA D nL ((pc : Int) + d).toNat ls t w r) : a_W p l e R s m args below meth c E dA D nL pc ls (.inl x :: t) w r := by
  intro H locs lsR hS hl hlo hso
  have o0 := List.forall_mem_cons.mp hso
  have ex := a_toI o0.1
  rcases a_lsw (d := d) ps.toList h with ⟨q, h2, h3, h4⟩ | ⟨h2, h3⟩
  · exact lv_lookup hx hb hd hp (tgt := ((pc : Int) + q.2).toNat) (off := q.2) (by rw [ex]; exact h3) (by have := h1 q h2; omega) (kt q.2 h4 H locs lsR hS hl hlo o0.2)
  · exact lv_lookup hx hb hd hp (tgt := ((pc : Int) + d).toNat) (off := d) (by rw [ex]; exact h2) (by omega) (kd h3 H locs lsR hS hl hlo o0.2)
/-- ends -/
theorem a_endQ {v : Option mV} {vR : Option Value} {H : Heap} {locs : List Loc} (hS : a_St s E dA D w H locs) (hv : v.map (a_v E) = vR) (hok : ∀ u, v = some u → a_ok w u) : ∀ t : State, MQ below (fun _ _ o t => o = .returned vR ∧ t.heap = H) args s 0 0 (fun q => E.1 ≤ q) t → a_Q below s E dA D (.inl v, w) t := by
  intro t ⟨o, h1, h2, ⟨h3, h4⟩, L, ⟨_, h5, h6⟩, h7⟩
  subst h3
  refine ⟨_, h1, h2, ⟨by rw [hv], hok⟩, L, ⟨by rw [h4]; exact hS.1, by rw [h4]; exact ⟨hS.2.1.1, hS.2.1.2.1, h7⟩, hS.2.2⟩, h5, h6⟩
theorem s_iret {x : Int} (hx : p.tables.exec = Jvm.exec) (hb : c.code = cc) (hlk : meth.locks = false) (hr : meth.sig.returnType = some .int) (hd : decode cc pc = .ok (.ireturn, 1)) : a_W p l e R s m args below meth c E dA D nL pc ls [.inl x] w (.inl (some (.inl x)), w) := by
  intro H locs lsR hS hl hlo hso
  exact a_mono (W.iret (Qc := fun _ _ o t => o = .returned (some (.int (Int32.ofInt x))) ∧ t.heap = H) (free := fun q => E.1 ≤ q) hx hb hr (fun t ht _ => ⟨rfl, ht⟩) hS.2.1.2.2 hd hlk) (a_endQ hS rfl (by intro u hu; cases hu; exact hso _ List.mem_cons_self))
theorem s_zret {x : Int} (hx : p.tables.exec = Jvm.exec) (hb : c.code = cc) (hlk : meth.locks = false) (hr : meth.sig.returnType = some .boolean) (h01 : 0 ≤ x ∧ x ≤ 1) (hd : decode cc pc = .ok (.ireturn, 1)) : a_W p l e R s m args below meth c E dA D nL pc ls [.inl x] w (.inl (some (.inl x)), w) := by
  intro H locs lsR hS hl hlo hso
  exact a_mono (W.zret (Qc := fun _ _ o t => o = .returned (some (.int (Int32.ofInt x))) ∧ t.heap = H) (free := fun q => E.1 ≤ q) hx hb hr (a_narw01 h01) (fun t ht _ => ⟨rfl, ht⟩) hS.2.1.2.2 hd hlk) (a_endQ hS rfl (by intro u hu; cases hu; exact hso _ List.mem_cons_self))
theorem s_lret {x : Int} (hx : p.tables.exec = Jvm.exec) (hb : c.code = cc) (hlk : meth.locks = false) (hr : meth.sig.returnType = some .long) (hd : decode cc pc = .ok (.lreturn, 1)) : a_W p l e R s m args below meth c E dA D nL pc ls [.inr (.inl x)] w (.inl (some (.inr (.inl x))), w) := by
  intro H locs lsR hS hl hlo hso
  exact a_mono (W.lret (Qc := fun _ _ o t => o = .returned (some (.long (Int64.ofInt x))) ∧ t.heap = H) (free := fun q => E.1 ≤ q) hx hb hr (fun t ht _ => ⟨rfl, ht⟩) hS.2.1.2.2 hd hlk) (a_endQ hS rfl (by intro u hu; cases hu; exact hso _ List.mem_cons_self))
theorem s_vret (hx : p.tables.exec = Jvm.exec) (hb : c.code = cc) (hlk : meth.locks = false) (hr : meth.sig.returnType = none) (hd : decode cc pc = .ok (.return_, 1)) : a_W p l e R s m args below meth c E dA D nL pc ls [] w (.inl none, w) := by
  intro H locs lsR hS hl hlo hso
  exact a_mono (W.vret (Qc := fun _ _ o t => o = .returned none ∧ t.heap = H) (free := fun q => E.1 ≤ q) hx hb hr (fun t ht _ => ⟨rfl, ht⟩) hS.2.1.2.2 hd hlk) (a_endQ hS rfl (by intro u hu; cases hu))
theorem s_aret {x : Nat × Nat} {nm : String} (hx : p.tables.exec = Jvm.exec) (hb : c.code = cc) (hlk : meth.locks = false) (hr : meth.sig.returnType = some (.object nm)) (hd : decode cc pc = .ok (.areturn, 1)) : a_W p l e R s m args below meth c E dA D nL pc ls [.inr (.inr (some x))] w (.inl (some (.inr (.inr (some x)))), w) := by
  intro H locs lsR hS hl hlo hso
  exact a_mono (W.aret (Qc := fun _ _ o t => o = .returned (some (.ref (a_ad E x.1 x.2))) ∧ t.heap = H) (free := fun q => E.1 ≤ q) hx hb hr (Or.inl ⟨_, rfl⟩) (Or.inr ⟨_, rfl⟩) (fun t ht _ => ⟨rfl, ht⟩) hS.2.1.2.2 hd hlk) (a_endQ hS rfl (by intro u hu; cases hu; exact hso _ List.mem_cons_self))
/-- constants of the pool -/
theorem s_ldc {own : String} {ix : Nat} {v : Int} (hx : p.tables.exec = Jvm.exec) (hb : c.code = cc) (hown : s.vm.findClass own = some m.cls) (hc : (Cond.constant own ix (Int32.ofInt v)).before args s = true) (hv : a_i32 v) (hd : decode cc pc = .ok (.ldc ix, 2)) (kk : a_W p l e R s m args below meth c E dA D nL (pc + 2) ls (m_li v :: t) w r) : a_W p l e R s m args below meth c E dA D nL pc ls t w r := by
  intro H locs lsR hS hl hlo hso
  exact lv_ldc hx hb hown hc hd (kk H locs lsR hS hl hlo (List.forall_mem_cons.mpr ⟨hv, hso⟩))
theorem s_ldcw {own : String} {ix : Nat} {v : Int} (hx : p.tables.exec = Jvm.exec) (hb : c.code = cc) (hown : s.vm.findClass own = some m.cls) (hc : (Cond.constant own ix (Int32.ofInt v)).before args s = true) (hv : a_i32 v) (hd : decode cc pc = .ok (.ldc_w ix, 3)) (kk : a_W p l e R s m args below meth c E dA D nL (pc + 3) ls (m_li v :: t) w r) : a_W p l e R s m args below meth c E dA D nL pc ls t w r := by
  intro H locs lsR hS hl hlo hso
  exact lv_ldcw hx hb hown hc hd (kk H locs lsR hS hl hlo (List.forall_mem_cons.mpr ⟨hv, hso⟩))
theorem s_ldc2 {own : String} {ix : Nat} {v : Int} (hx : p.tables.exec = Jvm.exec) (hb : c.code = cc) (hown : s.vm.findClass own = some m.cls) (hc : (Cond.constantLong own ix (Int64.ofInt v)).before args s = true) (hv : a_i64 v) (hd : decode cc pc = .ok (.ldc2_w ix, 3)) (kk : a_W p l e R s m args below meth c E dA D nL (pc + 3) ls (m_ll v :: t) w r) : a_W p l e R s m args below meth c E dA D nL pc ls t w r := by
  intro H locs lsR hS hl hlo hso
  exact lv_ldc2 hx hb hown hc hd (kk H locs lsR hS hl hlo (List.forall_mem_cons.mpr ⟨hv, hso⟩))
end AM
