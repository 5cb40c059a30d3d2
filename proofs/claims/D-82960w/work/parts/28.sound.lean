/-! ===== CALLS BY THEIR DEPTH; THE SOUNDNESS OF THE WHOLE MACHINE ===== -/
def m_fdL : List mE → Nat → Option mM
  | [], _ => none
  | q :: r, y => bif Nat.beq q.1 y then some q.2.2.2.2.2 else m_fdL r y
theorem m_fdL_in : ∀ {l : List mE} {y : Nat} {M : mM}, m_fdL l y = some M → ∃ q ∈ l, q.1 = y ∧ q.2.2.2.2.2 = M
  | [], _, _, h => by cases h
  | q :: r, y, M, h => by
    unfold m_fdL at h
    cases hq : Nat.beq q.1 y with
    | true => rw [hq] at h; cases h; exact ⟨q, List.mem_cons_self, Nat.eq_of_beq_eq_true hq, rfl⟩
    | false =>
      rw [hq] at h
      obtain ⟨q', h1, h2⟩ := m_fdL_in h
      exact ⟨q', List.mem_cons_of_mem _ h1, h2⟩
/-- a method's blocks -/
noncomputable def m_fd (y : Nat) : Option mM := m_fdL (ME_1 ++ (ME_2 ++ (ME_3 ++ (ME_4 ++ (ME_5 ++ (ME_6 ++ (ME_7 ++ (ME_8)))))))) y
/-- the JDK's two -/
def m_jdk (d : Nat) (y : Nat) (as : List mV) (w : mW) : Option mR := match y, as with
  | 1000, [.inr (.inr (some (10, k)))] => if 1 ≤ d ∧ k < 29 then some (.inl (some (.inl (strLen.getD k 0 : Int))), w) else none
  | 1001, [.inr (.inr (some (10, k))), .inl j] => if 3 ≤ d ∧ k < 29 ∧ 0 ≤ j ∧ j < (strLen.getD k 0 : Int) then some (.inl (some (.inl (strCh k j.toNat).toInt)), w) else none
  | _, _ => none
noncomputable def m_call : Nat → Nat → List mV → mW → Option mR
  | 0, _, _, _ => none
  | d + 1, y, as, w => match m_fd y with
    | some M => bif Nat.ble (m_wd as) (mx y) then m_K lay M (m_call d) 0 (m_ent 0 as) [] w else none
    | none => m_jdk (d + 1) y as w
theorem m_fd_ok {y : Nat} {M : mM} (h : m_fd y = some M) : ∃ q, bk_P q ∧ q.1 = y ∧ q.2.2.2.2.2 = M := by
  obtain ⟨q, h1, h2⟩ := m_fdL_in h
  refine ⟨q, ?_, h2⟩
  rcases List.mem_append.mp h1 with h1 | h1
  · exact ME_ok_1 q h1
  rcases List.mem_append.mp h1 with h1 | h1
  · exact ME_ok_2 q h1
  rcases List.mem_append.mp h1 with h1 | h1
  · exact ME_ok_3 q h1
  rcases List.mem_append.mp h1 with h1 | h1
  · exact ME_ok_4 q h1
  rcases List.mem_append.mp h1 with h1 | h1
  · exact ME_ok_5 q h1
  rcases List.mem_append.mp h1 with h1 | h1
  · exact ME_ok_6 q h1
  rcases List.mem_append.mp h1 with h1 | h1
  · exact ME_ok_7 q h1
  exact ME_ok_8 q h1
theorem m_jdk_ok {l : Launch} {E : Nat × (Nat → Nat)} {dA : Nat → ClassId} {D : va_G} {d y : Nat} {as : List mV} {w : mW} {r : mR} (h : m_jdk d y as w = some r) : a_C l E dA D lw_Ts d (nm y) as w r ∧ r.2.1 = w.1 := by
  unfold m_jdk at h
  split at h
  · rename_i k
    split at h
    · rename_i hc
      cases h
      obtain ⟨d, rfl⟩ : ∃ d', d = d' + 1 := ⟨d - 1, by omega⟩
      have h100 := (strLen_ok k hc.2).1
      refine ⟨j_to (j_length (d := d) hc.2) rfl ?_ ?_, rfl⟩
      · show some (Value.int (Int32.ofInt ((strLen.getD k 0 : Nat) : Int))) = _
        rfl
      · intro u hu; cases hu
        exact ⟨by omega, by omega⟩
    · cases h
  · rename_i k j
    split at h
    · rename_i hc
      cases h
      obtain ⟨d, rfl⟩ : ∃ d', d = d' + 3 := ⟨d - 3, by omega⟩
      obtain ⟨j, rfl⟩ : ∃ j' : Nat, j = (j' : Int) := ⟨j.toNat, by omega⟩
      have hj : j < strLen.getD k 0 := by omega
      obtain ⟨-, -, c3, c4⟩ := strCh_ok k hc.2.1 j hj
      refine ⟨j_to (j_charAt (d := d) hc.2.1 hj) rfl ?_ ?_, rfl⟩
      · show some (Value.int (Int32.ofInt (strCh k j).toInt)) = _
        rw [Int32.ofInt_toInt]
      · intro u hu; cases hu
        exact ⟨by show -2147483648 ≤ (strCh k j).toInt; omega, by show (strCh k j).toInt < 2147483648; omega⟩
    · cases h
  · cases h
/-- A CALL THAT THE MACHINE RUNS IS THE JVM's -/
theorem a_sound {l : Launch} {E : Nat × (Nat → Nat)} {dA : Nat → ClassId} {D : va_G} : ∀ (d y : Nat) (as : List mV) (w : mW) (r : mR), m_call d y as w = some r → a_C l E dA D lw_Ts d (nm y) as w r ∧ r.2.1 = w.1
  | 0, _, _, _, _, h => by cases h
  | d + 1, y, as, w, r, h => by
    unfold m_call at h
    split at h
    · rename_i M hM
      obtain ⟨q, h1, h2, h3⟩ := m_fd_ok hM
      subst h2; subst h3
      cases hw : Nat.ble (m_wd as) (mx q.1) with
      | false => rw [hw] at h; cases h
      | true =>
        rw [hw] at h
        exact h1 l E dA D d (m_call d) (a_sound d) as w r (Nat.le_of_ble_eq_true hw) h
    · exact m_jdk_ok h
theorem m_call_eq {d y : Nat} {M : mM} {as : List mV} {w : mW} (h : m_fd y = some M) (hw : Nat.ble (m_wd as) (mx y) = true) : m_call (d + 1) y as w = m_K lay M (m_call d) 0 (m_ent 0 as) [] w := by
  rw [m_call, h]
  show (bif Nat.ble (m_wd as) (mx y) then _ else _) = _
  rw [hw]; rfl
