/-! ===== A METHOD's CHECK against the tables: number, row of its code, class, sort of its answer, entry of the class that it catches, its blocks ===== -/
abbrev mE : Type := Nat × Nat × Nat × Nat × Nat × mM
def rtchk (rt : Nat) (ty : Option FieldType) : Bool := match rt, ty with
  | 0, none => true
  | 1, some .int => true
  | 2, some .boolean => true
  | 3, some .long => true
  | 4, some (.object _) => true
  | _, _ => false
theorem rtchk_ok {rt : Nat} {ty : Option FieldType} (h : rtchk rt ty = true) : a_rt rt ty := by
  unfold rtchk at h
  split at h
  · rfl
  · rfl
  · rfl
  · rfl
  · exact ⟨_, rfl⟩
  · cases h
def ktO (o : Nat) : List (Nat × Nat × Nat × Nat) := match o with
  | 0 => kt_0
  | 1 => kt_1
  | 2 => kt_2
  | 3 => kt_3
  | 4 => kt_4
  | 5 => kt_5
  | 7 => kt_7
  | 9 => kt_9
  | 12 => kt_12
  | _ => []
def mlO (o : Nat) : List (Nat × Nat × Nat × Nat × Nat) := match o with
  | 0 => ml_0
  | 1 => ml_1
  | 2 => ml_2
  | 3 => ml_3
  | 4 => ml_4
  | 5 => ml_5
  | 7 => ml_7
  | 9 => ml_9
  | 12 => ml_12
  | _ => []
theorem mlO_ok (o : Nat) : ∀ q ∈ mlO o, a_mlok lw_Ts nm mx o q := by
  unfold mlO
  split
  · exact ml_ok_0
  · exact ml_ok_1
  · exact ml_ok_2
  · exact ml_ok_3
  · exact ml_ok_4
  · exact ml_ok_5
  · exact ml_ok_7
  · exact ml_ok_9
  · exact ml_ok_12
  · intro q hq; cases hq
theorem ktO_ok (o : Nat) : ∀ q ∈ ktO o, a_ktok lw_Ts o q := by
  unfold ktO
  split
  · exact kt_ok_0
  · exact kt_ok_1
  · exact kt_ok_2
  · exact kt_ok_3
  · exact kt_ok_4
  · exact kt_ok_5
  · exact kt_ok_7
  · exact kt_ok_9
  · exact kt_ok_12
  · intro q hq; cases hq
/-- the rows of tables_1 that say what is caught: by class 0 and by class 5 -/
def ct_ok (o ct : Nat) : Bool := (Nat.beq o 0 && Nat.beq ct 389) || (Nat.beq o 5 && Nat.beq ct 9)
theorem ct_ok_in {o ct : Nat} (h : ct_ok o ct = true) : ct ≠ 0 ∧ Cond.classLink (cn o) ct "java/lang/IllegalStateException" ∈ lw_Ts ∧ Cond.castable "java/lang/IllegalStateException" "java/lang/IllegalStateException" ∈ lw_Ts := by
  unfold ct_ok at h
  simp only [Bool.and_eq_true, Bool.or_eq_true] at h
  have hc : Cond.castable "java/lang/IllegalStateException" "java/lang/IllegalStateException" ∈ lw_Ts := tb_in (i := 256) rfl rfl
  rcases h with ⟨h1, h2⟩ | ⟨h1, h2⟩
  · have h1 := Nat.eq_of_beq_eq_true h1
    have h2 := Nat.eq_of_beq_eq_true h2
    subst h1; subst h2
    exact ⟨by decide, tb_in (i := 254) rfl rfl, hc⟩
  · have h1 := Nat.eq_of_beq_eq_true h1
    have h2 := Nat.eq_of_beq_eq_true h2
    subst h1; subst h2
    exact ⟨by decide, tb_in (i := 326) rfl rfl, hc⟩
/-- the bytes of a row -/
def cb (z : Nat) : ByteArray := match tb z with
  | some (.code _ b _ _) => b
  | some (.codeWith _ b _ _ _) => b
  | _ => ByteArray.empty
def bkchk (q : mE) : Bool := q.2.2.2.2.2.1 && (match tb q.2.1 with
  | some (.code y _ k ret) => decide (y = nm q.1) && Nat.beq k (mx q.1) && rtchk q.2.2.2.1 ret && decide (q.2.2.2.2.2.2.2 = []) && plainName y.cls && decide (y.cls = cn q.2.2.1)
  | some (.codeWith y _ k ret hs) => decide (y = nm q.1) && Nat.beq k (mx q.1) && rtchk q.2.2.2.1 ret && (decide (hs = q.2.2.2.2.2.2.2.map (fun h => (h.1, h.2.1, h.2.2, q.2.2.2.2.1))) && ct_ok q.2.2.1 q.2.2.2.2.1) && plainName y.cls && decide (y.cls = cn q.2.2.1)
  | _ => false)
/-- some of its blocks -/
def bkB (q : mE) (l : List (Nat × mB)) : Bool := l.all (fun z => a_chk (cb q.2.1) q.2.2.1 q.2.2.2.1 (mx q.1) (ktO q.2.2.1) (mlO q.2.2.1) z.2.2.2 z.1)
theorem bk_split {q : mE} {l : List (Nat × mB)} (n : Nat) (h1 : bkB q (l.take n) = true) (h2 : bkB q (l.drop n) = true) : bkB q l = true := by
  unfold bkB at *
  rw [← List.take_append_drop n l, List.all_append, h1, h2]; rfl
/-- what a method's entry means: its run, over calls that meet their contracts, is its contract -/
def bk_P (q : mE) : Prop := ∀ (l : Launch) (E : Nat × (Nat → Nat)) (dA : Nat → ClassId) (D : va_G) (d : Nat) (cl : Nat → List mV → mW → Option mR),
  (∀ y as w r, cl y as w = some r → a_C l E dA D lw_Ts d (nm y) as w r ∧ r.2.1 = w.1) → ∀ as w r, m_wd as ≤ mx q.1 → m_K lay q.2.2.2.2.2 cl 0 (m_ent 0 as) [] w = some r → a_C l E dA D lw_Ts (d + 1) (nm q.1) as w r ∧ r.2.1 = w.1
theorem bkchk_ok {q : mE} (h : bkchk q = true) (hB : bkB q q.2.2.2.2.2.2.1 = true) : bk_P q := by
  obtain ⟨n, ix, o, rt, ct, M⟩ := q
  intro l E dA D d cl hcl as w r hwd hr
  unfold bkchk at h
  unfold bkB cb at hB
  rw [Bool.and_eq_true] at h
  obtain ⟨hmd, h⟩ := h
  dsimp only at h hmd hwd hr hB
  split at h
  · rename_i y b k ret he
    simp only [Bool.and_eq_true, decide_eq_true_eq] at h
    obtain ⟨⟨⟨⟨⟨h1, h2⟩, h3⟩, h4⟩, h5⟩, h6⟩ := h
    rw [he] at hB
    have h2 := Nat.eq_of_beq_eq_true h2
    subst h1
    subst h2
    exact a_meth (ct := ct) lw_T lw_Tp ⟨h5, h6, ret, rtchk_ok h3, Or.inl ⟨tb_in he rfl, h4⟩⟩ hmd hB (mlO_ok o) (ktO_ok o) hcl hwd hr
  · rename_i y b k ret hs he
    simp only [Bool.and_eq_true, decide_eq_true_eq] at h
    obtain ⟨⟨⟨⟨⟨h1, h2⟩, h3⟩, h4, h8⟩, h5⟩, h6⟩ := h
    rw [he] at hB
    have h2 := Nat.eq_of_beq_eq_true h2
    subst h1
    subst h2
    obtain ⟨c1, c2, c3⟩ := ct_ok_in h8
    exact a_meth (ct := ct) lw_T lw_Tp ⟨h5, h6, ret, rtchk_ok h3, Or.inr ⟨by rw [← h4]; exact tb_in he rfl, c1, c2, c3⟩⟩ hmd hB (mlO_ok o) (ktO_ok o) hcl hwd hr
  · cases h
