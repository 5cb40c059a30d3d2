/-! ===== fields, switches, ends, constants ===== -/
section AF
variable {p : Program} {l : Launch} {e : Env} {R : Room} {s : State} {m : MethodId} {args : Array Value} {below : List Frame} {meth : Method} {c : Code}
variable {E : Nat × (Nat → Nat)} {dA : Nat → ClassId} {D : va_G} {nL pc : Nat} {ls : mL} {st t : List mV} {w : mW} {r : mR} {cc : ByteArray} {Ts : List Cond} {o : Nat}
/-- a field's read, whatever its sort -/
theorem a_getf {c0 j z row nest idx k n : Nat} {H : Heap} {locs : List Loc} {lsR : Array Slot} {Q : State → Prop} {rest : List Value} (hx : p.tables.exec = Jvm.exec) (hb : c.code = cc) (hT : ∀ w ∈ tables_1, tp_ok w = true → w ∈ Ts) (hts : ∀ w ∈ Ts, w.before args s = true) (hown : s.vm.findClass (cn o) = some m.cls) (hK : va_K D classes (a_tys dA) s)
    (hq : (idx, c0, j, row, nest) ∈ ft o) (hz : (fs c0)[j]? = some z) (hP : va_P D classes (a_ws E dA w) H) (hk : w.1[k]? = some (c0, n)) (hd : decode cc pc = .ok (.getfield idx, 3))
    (kk : W p l e R s m args below meth c H locs 0 0 Q (F0 m (pc + 3) lsR (a_f E w k j z :: rest))) : W p l e R s m args below meth c H locs 0 0 Q (F0 m pc lsR (.ref (E.1 + k) :: rest)) := by
  obtain ⟨h1, h2⟩ := a_ft_ok o _ hq
  have hc := a_fl_lt h2
  have hm : ft_c o (idx, c0, j, row, nest) ∈ Ts := hT _ (List.mem_of_getElem? h1) (a_ft_tp o _)
  have he : (a_ws E dA w)[k]? = some (E.1 + k, .inr (c0, a_fs E w k c0)) := by
    rw [a_ws_at hk]; unfold a_en; rw [if_pos (show (c0, n).1 < 10 from hc)]
  have hlk := hts _ hm
  have hd1 : (F_ c0 j).1 = cn c0 := ((a_fty_ok c0 hc).2 j h2).2
  by_cases hn : nest = 0
  · subst hn
    exact va_get hx hb hts (fun w hw => hT w (a_lyt c0 hc w hw) (a_uws_tp hw)) hown hK hP k he (a_cl c0 hc) j h2 hlk (fun _ h9 => h9) (a_fs_at hz) hd kk
  · have hlk2 : (Cond.fieldLinkNest (cn o) idx (F_ c0 j).1 (F_ c0 j).2.1 (F_ c0 j).2.2.1 "WatchedObjects").before args s = true := by
      have : ft_c o (idx, c0, j, row, nest) = .fieldLinkNest (cn o) idx (F_ c0 j).1 (F_ c0 j).2.1 (F_ c0 j).2.2.1 "WatchedObjects" := by
        unfold ft_c
        cases nest with
        | zero => exact absurd rfl hn
        | succ _ => rfl
      rw [← this]; exact hlk
    exact va_getN hx hb hts (fun w hw => hT w (a_lyt c0 hc w hw) (a_uws_tp hw)) hown hK hP k he (a_cl c0 hc) j h2 hlk2 (fun _ h9 => h9) (a_fs_at hz) hd kk
theorem a_sort_f {c0 n j z : Nat} (hc : c0 < 10) (hz : (fs c0)[j]? = some z) : a_sort (c0, n) j = some z := by
  unfold a_sort; rw [if_pos (show (c0, n).1 < 10 from hc)]; exact hz
theorem a_fs_lt {c0 j z : Nat} (hz : (fs c0)[j]? = some z) : c0 < 10 := by
  unfold fs at hz
  split at hz <;> first | omega | (exact absurd hz (by simp))
theorem s_getf {c0 j z row nest idx k : Nat} (hx : p.tables.exec = Jvm.exec) (hb : c.code = cc) (hT : ∀ w ∈ tables_1, tp_ok w = true → w ∈ Ts) (hts : ∀ w ∈ Ts, w.before args s = true) (hown : s.vm.findClass (cn o) = some m.cls) (hK : va_K D classes (a_tys dA) s)
    (hq : (idx, c0, j, row, nest) ∈ ft o) (hz : (fs c0)[j]? = some z) (hd : decode cc pc = .ok (.getfield idx, 3)) {v : mV}
    (hv : (∀ n, w.1[k]? = some (c0, n) → a_slot w c0 k j z → a_f E w k j z = a_v E v ∧ a_ok w v))
    (kk : a_W p l e R s m args below meth c E dA D nL (pc + 3) ls (v :: t) w r) : a_W p l e R s m args below meth c E dA D nL pc ls (.inr (.inr (some (c0, k))) :: t) w r := by
  intro H locs lsR hS hl hlo hso
  have o0 := List.forall_mem_cons.mp hso
  have hc := a_fs_lt hz
  obtain ⟨n, hk⟩ := a_ref o0.1 (by omega)
  have sl := (hS.2.2 k _ hk).2 j z (a_sort_f hc hz)
  obtain ⟨h1, h2⟩ := hv n hk sl
  have q := kk H locs lsR hS hl hlo (List.forall_mem_cons.mpr ⟨h2, o0.2⟩)
  have ha : a_ad E c0 k = E.1 + k := by
    unfold a_ad
    cases hb9 : Nat.beq c0 10 with
    | false => rfl
    | true => have := Nat.eq_of_beq_eq_true hb9; omega
  show W p l e R s m args below meth c H locs 0 0 _ (F0 m pc lsR (.ref (a_ad E c0 k) :: t.map (a_v E)))
  rw [ha]
  refine a_getf hx hb hT hts hown hK hq hz hS.1 hk hd ?_
  rw [h1]
  exact q
theorem a_gi {c0 j z k n : Nat} (hz : z < 2) (hs : a_slot w c0 k j z) : a_f E w k j z = a_v E (m_li (m_get w k j)) ∧ a_ok w (m_li (m_get w k j)) := by
  rcases (show z = 0 ∨ z = 1 by omega) with rfl | rfl
  · exact ⟨rfl, hs⟩
  · have hs : 0 ≤ w.2.1 k j ∧ w.2.1 k j ≤ 1 := hs
    exact ⟨rfl, show a_i32 (w.2.1 k j) from ⟨by omega, by omega⟩⟩
theorem a_gl {c0 j k : Nat} (hs : a_slot w c0 k j 2) : a_f E w k j 2 = a_v E (m_ll (m_get w k j)) ∧ a_ok w (m_ll (m_get w k j)) := ⟨rfl, hs⟩
theorem a_slot_r {c0 k j z : Nat} (h1 : 3 ≤ z) (h2 : z < 100) (hs : a_slot w c0 k j z) : ((z - 3) % 2 = 0 → w.2.2 k j = some (lay c0 k j)) ∧ ∀ a, w.2.2 k j = some a → a_ok w (m_rv ((z - 3) / 2) a) := by
  unfold a_slot at hs
  split at hs <;> first | omega | exact hs
theorem a_slot_ri {c0 k j z : Nat} (h1 : 3 ≤ z) (h2 : z < 100) (hs : ((z - 3) % 2 = 0 → w.2.2 k j = some (lay c0 k j)) ∧ ∀ a, w.2.2 k j = some a → a_ok w (m_rv ((z - 3) / 2) a)) : a_slot w c0 k j z := by
  unfold a_slot
  split <;> first | omega | exact hs
theorem a_f_r {k j z : Nat} (h1 : 3 ≤ z) : a_f E w k j z = va_rf ((w.2.2 k j).map (a_ad E ((z - 3) / 2))) := by
  unfold a_f
  split <;> first | omega | rfl
theorem a_gf {c0 j z k : Nat} (h1 : 3 ≤ z) (h2 : z < 100) (h3 : (z - 3) % 2 = 0) (hs : a_slot w c0 k j z) : a_f E w k j z = a_v E (m_rv ((z - 3) / 2) (lay c0 k j)) ∧ a_ok w (m_rv ((z - 3) / 2) (lay c0 k j)) := by
  have hs := a_slot_r h1 h2 hs
  rw [a_f_r h1, hs.1 h3]
  exact ⟨rfl, hs.2 _ (hs.1 h3)⟩
theorem a_gm {c0 j z k q : Nat} (h1 : 3 ≤ z) (h2 : z < 100) (h3 : m_ref w k j = some q) (hs : a_slot w c0 k j z) : a_f E w k j z = a_v E (m_rv ((z - 3) / 2) q) ∧ a_ok w (m_rv ((z - 3) / 2) q) := by
  have hs := a_slot_r h1 h2 hs
  have h3 : w.2.2 k j = some q := h3
  rw [a_f_r h1, h3]
  exact ⟨rfl, hs.2 _ h3⟩
/-- a field's write -/
theorem a_putf {c0 j z row nest idx k n : Nat} {H : Heap} {locs : List Loc} {lsR : Array Slot} {rest : List mV} {v : mV} {w' : mW} (hx : p.tables.exec = Jvm.exec) (hb : c.code = cc) (hT : ∀ w ∈ tables_1, tp_ok w = true → w ∈ Ts) (hts : ∀ w ∈ Ts, w.before args s = true) (hown : s.vm.findClass (cn o) = some m.cls) (hK : va_K D classes (a_tys dA) s)
    (hq : (idx, c0, j, row, nest) ∈ ft o) (hz : (fs c0)[j]? = some z) (hS : a_St s E dA D w H locs) (hk : w.1[k]? = some (c0, n)) (hd : decode cc pc = .ok (.putfield idx, 3))
    (hfin : (F_ c0 j).2.2.2 = false) (hn : narrow ((tl c0).getD j .int) (a_v E v) = a_v E v) (hfit : fits ((tl c0).getD j .int) (a_v E v) = true)
    (hw1 : w'.1 = w.1) (hwo : ∀ k' j', ¬ (k' = k ∧ j' = j) → w'.2.1 k' j' = w.2.1 k' j' ∧ w'.2.2 k' j' = w.2.2 k' j') (hwn : a_f E w' k j z = a_v E v) (hwk : a_wok w') (hl : lv_has lsR nL (ls.map fun q => (q.1, a_v E q.2))) (hlo : ∀ q ∈ ls, a_ok w q.2) (hso : ∀ v ∈ rest, a_ok w v)
    (kk : a_W p l e R s m args below meth c E dA D nL (pc + 3) ls rest w' r) : W p l e R s m args below meth c H locs 0 0 (a_Q below s E dA D r) (F0 m pc lsR (a_v E v :: .ref (E.1 + k) :: rest.map (a_v E))) := by
  obtain ⟨h1, h2⟩ := a_ft_ok o _ hq
  have hc := a_fl_lt h2
  have hm : ft_c o (idx, c0, j, row, nest) ∈ Ts := hT _ (List.mem_of_getElem? h1) (a_ft_tp o _)
  have he : (a_ws E dA w)[k]? = some (E.1 + k, .inr (c0, a_fs E w k c0)) := by
    rw [a_ws_at hk]; unfold a_en; rw [if_pos (show (c0, n).1 < 10 from hc)]
  have hen : a_en E dA w' k (c0, n) = .inr (c0, (a_fs E w k c0).set j (a_v E v)) := by
    unfold a_en
    rw [if_pos (show (c0, n).1 < 10 from hc), ← hwn, a_fs_set hz (fun j' s' hne _ => a_f_congr (hwo k j' (fun e => hne e.2)).1 (hwo k j' (fun e => hne e.2)).2)]
  have hlk := hts _ hm
  have hlen : j < (a_fs E w k c0).length := by rw [a_fs_len, (a_fty_ok c0 hc).1]; exact h2
  have go : ∀ (H1 : Heap) (locs1 : List Loc), va_P D classes ((a_ws E dA w).set k (E.1 + k, .inr (c0, (a_fs E w k c0).set j (a_v E v)))) H1 → va_D (fun q => E.1 ≤ q) ((a_ws E dA w).set k (E.1 + k, .inr (c0, (a_fs E w k c0).set j (a_v E v)))) → va_S (fun q => E.1 ≤ q) s.heap H1 locs1 → W p l e R s m args below meth c H1 locs1 0 0 (a_Q below s E dA D r) (F0 m (pc + 3) lsR (rest.map (a_v E))) := by
    intro H1 locs1 hP _ hS1
    refine kk H1 locs1 lsR ⟨?_, hS1, hwk⟩ hl (fun q hq => a_ok_congr hw1 (hlo q hq)) (fun q hq => a_ok_congr hw1 (hso q hq))
    rw [← a_ws_set (E := E) (dA := dA) (w' := w') hk hw1 (fun k' q' hne _ => a_en_congr q' (fun j' => (hwo k' j' (fun e => hne e.1)).1) (fun j' => (hwo k' j' (fun e => hne e.1)).2)), hen]
    exact hP
  by_cases hnn : nest = 0
  · subst hnn
    exact va_put hx hb hts (fun w hw => hT w (a_lyt c0 hc w hw) (a_uws_tp hw)) (fun k => (tl c0).getD k .int) (a_tl c0 hc) (a_fn c0 hc) hown hK hS.1 (a_ws_D E dA w) hS.2.1 k he (a_cl c0 hc) j h2 hlk (fun _ h9 => h9) hfin (a_tl c0 hc j h2) hn hfit hlen hd go
  · have hlk2 : (Cond.fieldLinkNest (cn o) idx (F_ c0 j).1 (F_ c0 j).2.1 (F_ c0 j).2.2.1 "WatchedObjects").before args s = true := by
      have : ft_c o (idx, c0, j, row, nest) = .fieldLinkNest (cn o) idx (F_ c0 j).1 (F_ c0 j).2.1 (F_ c0 j).2.2.1 "WatchedObjects" := by
        unfold ft_c
        cases nest with
        | zero => exact absurd rfl hnn
        | succ _ => rfl
      rw [← this]; exact hlk
    exact va_putN hx hb hts (fun w hw => hT w (a_lyt c0 hc w hw) (a_uws_tp hw)) (fun k => (tl c0).getD k .int) (a_tl c0 hc) (a_fn c0 hc) hown hK hS.1 (a_ws_D E dA w) hS.2.1 k he (a_cl c0 hc) j h2 hlk2 (fun _ h9 => h9) hfin (a_tl c0 hc j h2) hn hfit hlen hd go
end AF
