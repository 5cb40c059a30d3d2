/-- where the references that are set once lead: by the kind of the cell, its number, the slot -/
def lay (t k j : Nat) : Nat := match t with
  | 0 => List.getD [1, 215, 429, 430, 431, 0, 0, 0, 0, 432, 0, 0, 433, 434, 435, 436, 437, 0, 438, 439, 440, 441, 0, 0, 442, 0, 443, 0, 0, 444, 445, 0, 0, 0, 0, 0, 0, 0, 0, 446, 447, 448, 449, 450, 451, 452, 453, 0, 0, 0, 0, 0, 0, 0, 454, 455, 456, 457, 458, 459, 460, 0, 0, 461, 462, 463, 0, 464, 465, 466, 467, 0, 0, 0, 468, 469, 470, 0, 480, 481, 482, 0, 0, 483, 0, 484, 0, 0, 485, 486, 0, 0, 0, 0, 487, 488, 489, 490, 491, 492, 0, 493, 494, 495, 496, 497, 498, 499, 500, 501, 502] j 0
  | 1 => k + List.getD [1, 5, 6] j 0
  | 2 => k + List.getD [1, 2, 0, 3] j 0
  | 3 => k + List.getD [0, 0, 0, 0, 0, 0, 0, 1, 2, 3, 4, 5, 6, 7, 8, 9, 10, 11, 12, 13, 14, 15, 16] j 0
  | 4 => k + List.getD [1, 2, 3] j 0
  | 5 => List.getD [469, 476, 471, 0, 0, 0, 0, 0, 0, 0, 0, 0, 0, 0, 472, 473, 474, 0, 0, 0, 0, 0, 0, 0, 475] j 0
  | 7 => List.getD [469, 477, 478, 479] j 0
  | 9 => List.getD [504, 0, 505, 0, 506, 0, 0, 0, 0, 0, 0, 0, 0, 0, 0, 507, 508, 0, 0, 0, 0, 0, 0, 0, 0, 0, 0, 509, 510, 511, 512, 0, 513, 514, 515, 516, 517, 518, 519, 520, 521, 522, 523, 524, 525, 526, 527, 528, 529, 530, 0, 0, 0, 531, 532, 0, 533, 0, 534, 535, 536, 537, 0, 0, 0, 0, 0, 0, 0, 538, 539, 540, 541, 0, 0, 0, 542, 543, 544, 545, 546, 547, 0, 548, 549, 550, 551, 552, 553, 554, 555, 556, 557, 558, 0, 0, 0, 0, 0, 0, 0, 0, 559, 560, 561, 562, 563, 564, 565, 566, 0, 0, 0, 0, 0, 0, 0, 0, 567, 568, 569, 570, 571, 572, 573, 0, 0, 0, 574, 0, 575, 576, 577, 578, 579, 580, 0, 581, 582, 583, 0, 0, 584, 585, 0, 586, 0, 587, 588, 0, 0, 0, 589, 590, 591, 0, 0, 592, 0, 593, 0, 0, 0, 594, 595, 596, 597, 0, 0, 0, 598, 599, 600, 601, 602, 603, 604, 605, 606, 607, 608, 609, 610, 611, 612, 613, 614, 615, 616, 617, 618, 619, 620] j 0
  | 26 => j + 1
  | 27 => k + 5 + 17 * j
  | _ => 0
/-! ===== HOW THE JVM's HEAP HOLDS A WORLD ===== -/
/-- where a reference leads: a String constant by its number, a cell by the base -/
def a_ad (E : Nat × (Nat → Nat)) (t k : Nat) : Nat := bif Nat.beq t 10 then E.2 k else E.1 + k
def a_v (E : Nat × (Nat → Nat)) : mV → Value
  | .inl x => .int (Int32.ofInt x)
  | .inr (.inl x) => .long (Int64.ofInt x)
  | .inr (.inr none) => .null
  | .inr (.inr (some q)) => .ref (a_ad E q.1 q.2)
/-- a value of the right size; a reference to a cell of its kind -/
def a_ok (w : mW) : mV → Prop
  | .inl x => a_i32 x
  | .inr (.inl x) => a_i64 x
  | .inr (.inr none) => True
  | .inr (.inr (some q)) => (q.1 = 10 ∧ q.2 < 29) ∨ (q.1 ≠ 10 ∧ ∃ n, w.1[q.2]? = some (q.1, n))
/-- the sort of a slot: of fields as in the tables; 100 a byte, 101 a short, 102 a char -/
def a_es (c : Nat) : Nat := match c with
  | 20 => 100
  | 21 => 1
  | 22 => 101
  | 23 => 102
  | 24 => 0
  | 25 => 2
  | 26 => 23
  | 27 => 9
  | _ => 0
def a_sort (q : Nat × Nat) (j : Nat) : Option Nat := if q.1 < 10 then (fs q.1)[j]? else if j < q.2 then some (a_es q.1) else none
def a_slot (w : mW) (c k j s : Nat) : Prop := match s with
  | 0 => a_i32 (w.2.1 k j)
  | 1 => 0 ≤ w.2.1 k j ∧ w.2.1 k j ≤ 1
  | 2 => a_i64 (w.2.1 k j)
  | 100 => -128 ≤ w.2.1 k j ∧ w.2.1 k j < 128
  | 101 => -32768 ≤ w.2.1 k j ∧ w.2.1 k j < 32768
  | 102 => 0 ≤ w.2.1 k j ∧ w.2.1 k j < 65536
  | z => ((z - 3) % 2 = 0 → w.2.2 k j = some (lay c k j)) ∧ ∀ a, w.2.2 k j = some a → a_ok w (m_rv ((z - 3) / 2) a)
/-- a world whose slots hold what they may -/
def a_wok (w : mW) : Prop := ∀ (k : Nat) (q : Nat × Nat), w.1[k]? = some q → q.2 < 2147483648 ∧ ∀ j s, a_sort q j = some s → a_slot w q.1 k j s
def a_f (E : Nat × (Nat → Nat)) (w : mW) (k j s : Nat) : Value := match s with
  | 0 => .int (Int32.ofInt (w.2.1 k j))
  | 1 => .int (Int32.ofInt (w.2.1 k j))
  | 2 => .long (Int64.ofInt (w.2.1 k j))
  | z => va_rf ((w.2.2 k j).map (a_ad E ((z - 3) / 2)))
def a_fs (E : Nat × (Nat → Nat)) (w : mW) (k c : Nat) : List Value := (fs c).mapIdx (fun j s => a_f E w k j s)
def a_en (E : Nat × (Nat → Nat)) (dA : Nat → ClassId) (w : mW) (k : Nat) (q : Nat × Nat) : va_E :=
  if q.1 < 10 then .inr (q.1, a_fs E w k q.1)
  else if q.1 = 25 then .inl (dA 25, q.2, .inr (.inl fun j => Int64.ofInt (w.2.1 k j)))
  else if q.1 = 26 then .inl (dA 26, q.2, .inr (.inr (.inr (.inr fun j => (w.2.2 k j).map (a_ad E 10)))))
  else if q.1 = 27 then .inl (dA 27, q.2, .inr (.inr (.inr (.inr fun j => (w.2.2 k j).map (a_ad E 3)))))
  else .inl (dA q.1, q.2, .inl fun j => Int32.ofInt (w.2.1 k j))
def a_ws (E : Nat × (Nat → Nat)) (dA : Nat → ClassId) (w : mW) : va_W := w.1.mapIdx (fun k q => (E.1 + k, a_en E dA w k q))
def a_tys (dA : Nat → ClassId) : List (ClassId × FieldType) := [(dA 20, .byte), (dA 21, .boolean), (dA 22, .short), (dA 23, .char), (dA 24, .int), (dA 25, .long), (dA 26, .object "java/lang/String"), (dA 27, .object "WatchedObjects$Type")]
theorem a_ws_at {E : Nat × (Nat → Nat)} {dA : Nat → ClassId} {w : mW} {k : Nat} {q : Nat × Nat} (h : w.1[k]? = some q) : (a_ws E dA w)[k]? = some (E.1 + k, a_en E dA w k q) := by
  unfold a_ws; rw [List.getElem?_mapIdx, h]; rfl
theorem a_ws_inv {E : Nat × (Nat → Nat)} {dA : Nat → ClassId} {w : mW} {k : Nat} {e : Nat × va_E} (h : (a_ws E dA w)[k]? = some e) : ∃ q, w.1[k]? = some q ∧ e = (E.1 + k, a_en E dA w k q) := by
  unfold a_ws at h
  rw [List.getElem?_mapIdx] at h
  cases hq : w.1[k]? with
  | none => rw [hq] at h; cases h
  | some q => rw [hq] at h; exact ⟨q, rfl, (Option.some.inj h).symm⟩
theorem a_ws_D (E : Nat × (Nat → Nat)) (dA : Nat → ClassId) (w : mW) : va_D (fun q => E.1 ≤ q) (a_ws E dA w) := by
  refine ⟨fun i j p q hi hj he => ?_, fun k q hk => ?_⟩
  · obtain ⟨_, _, rfl⟩ := a_ws_inv hi
    obtain ⟨_, _, rfl⟩ := a_ws_inv hj
    have : E.1 + i = E.1 + j := he
    omega
  · obtain ⟨_, _, rfl⟩ := a_ws_inv hk
    exact Nat.le_add_right _ _
/-- a world that differs in one cell's entry -/
theorem a_ws_set {E : Nat × (Nat → Nat)} {dA : Nat → ClassId} {w w' : mW} {k : Nat} {q : Nat × Nat} (h : w.1[k]? = some q) (hw : w'.1 = w.1) (ho : ∀ k' q', k' ≠ k → w.1[k']? = some q' → a_en E dA w' k' q' = a_en E dA w k' q') :
    (a_ws E dA w).set k (E.1 + k, a_en E dA w' k q) = a_ws E dA w' := by
  apply List.ext_getElem?
  intro i
  rw [List.getElem?_set]
  by_cases hi : k = i
  · subst hi
    have hl : k < (a_ws E dA w).length := (List.getElem?_eq_some_iff.mp (a_ws_at h)).1
    rw [if_pos rfl, if_pos hl, a_ws_at (w := w') (by rw [hw]; exact h)]
  · rw [if_neg hi]
    cases hq : w.1[i]? with
    | none =>
      have h1 : (a_ws E dA w)[i]? = none := by unfold a_ws; rw [List.getElem?_mapIdx, hq]; rfl
      have h2 : (a_ws E dA w')[i]? = none := by unfold a_ws; rw [List.getElem?_mapIdx, hw, hq]; rfl
      rw [h1, h2]
    | some q' => rw [a_ws_at hq, a_ws_at (w := w') (by rw [hw]; exact hq), ho i q' (fun e => hi e.symm) hq]
theorem a_fs_at {E : Nat × (Nat → Nat)} {w : mW} {k c j s : Nat} (h : (fs c)[j]? = some s) : (a_fs E w k c)[j]? = some (a_f E w k j s) := by
  unfold a_fs; rw [List.getElem?_mapIdx, h]; rfl
theorem a_fs_len (E : Nat × (Nat → Nat)) (w : mW) (k c : Nat) : (a_fs E w k c).length = (fs c).length := by unfold a_fs; exact List.length_mapIdx
theorem a_fs_set {E : Nat × (Nat → Nat)} {w w' : mW} {k c j s : Nat} (h : (fs c)[j]? = some s) (ho : ∀ j' s', j' ≠ j → (fs c)[j']? = some s' → a_f E w' k j' s' = a_f E w k j' s') : (a_fs E w k c).set j (a_f E w' k j s) = a_fs E w' k c := by
  apply List.ext_getElem?
  intro i
  rw [List.getElem?_set]
  by_cases hi : j = i
  · subst hi
    have hl : j < (a_fs E w k c).length := (List.getElem?_eq_some_iff.mp (a_fs_at h)).1
    rw [if_pos rfl, if_pos hl, a_fs_at h]
  · rw [if_neg hi]
    cases hq : (fs c)[i]? with
    | none =>
      have h1 : (a_fs E w k c)[i]? = none := by unfold a_fs; rw [List.getElem?_mapIdx, hq]; rfl
      have h2 : (a_fs E w' k c)[i]? = none := by unfold a_fs; rw [List.getElem?_mapIdx, hq]; rfl
      rw [h1, h2]
    | some s' => rw [a_fs_at hq, a_fs_at hq, ho i s' (fun e => hi e.symm) hq]
theorem m_put_ne {w : mW} {k j : Nat} {v : Int} {a b : Nat} (h : ¬ (a = k ∧ b = j)) : (m_put w k j v).2.1 a b = w.2.1 a b := if_neg h
theorem m_put_eq {w : mW} {k j : Nat} {v : Int} : (m_put w k j v).2.1 k j = v := if_pos ⟨rfl, rfl⟩
theorem m_putr_ne {w : mW} {k j v a b : Nat} (h : ¬ (a = k ∧ b = j)) : (m_putr w k j v).2.2 a b = w.2.2 a b := if_neg h
theorem m_putr_eq {w : mW} {k j v : Nat} : (m_putr w k j v).2.2 k j = some v := if_pos ⟨rfl, rfl⟩
theorem a_en_congr {E : Nat × (Nat → Nat)} {dA : Nat → ClassId} {w w' : mW} {k : Nat} (q : Nat × Nat) (h1 : ∀ j, w'.2.1 k j = w.2.1 k j) (h2 : ∀ j, w'.2.2 k j = w.2.2 k j) : a_en E dA w' k q = a_en E dA w k q := by
  unfold a_en a_fs a_f
  simp only [h1, h2]
theorem a_f_congr {E : Nat × (Nat → Nat)} {w w' : mW} {k j s : Nat} (h1 : w'.2.1 k j = w.2.1 k j) (h2 : w'.2.2 k j = w.2.2 k j) : a_f E w' k j s = a_f E w k j s := by
  unfold a_f
  rw [h1, h2]
theorem a_en_put {E : Nat × (Nat → Nat)} {dA : Nat → ClassId} {w : mW} {k j : Nat} {v : Int} {k' : Nat} (q' : Nat × Nat) (h : k' ≠ k) : a_en E dA (m_put w k j v) k' q' = a_en E dA w k' q' :=
  a_en_congr q' (fun _ => m_put_ne (fun e => h e.1)) (fun _ => rfl)
theorem a_en_putr {E : Nat × (Nat → Nat)} {dA : Nat → ClassId} {w : mW} {k j v : Nat} {k' : Nat} (q' : Nat × Nat) (h : k' ≠ k) : a_en E dA (m_putr w k j v) k' q' = a_en E dA w k' q' :=
  a_en_congr q' (fun _ => rfl) (fun _ => m_putr_ne (fun e => h e.1))
theorem a_ok_congr {w w' : mW} (h : w'.1 = w.1) {v : mV} (hv : a_ok w v) : a_ok w' v := by
  unfold a_ok at *
  rw [h]
  exact hv
theorem a_slot_congr {w w' : mW} {c k j s : Nat} (hw : w'.1 = w.1) (h1 : w'.2.1 k j = w.2.1 k j) (h2 : w'.2.2 k j = w.2.2 k j) (h : a_slot w c k j s) : a_slot w' c k j s := by
  unfold a_slot at *
  split at h <;> simp only [h1, h2] at * <;> first | exact h | exact ⟨h.1, fun a ha => a_ok_congr hw (h.2 a ha)⟩
/-- a world stays right under one number's change -/
theorem a_wok_put {w : mW} {k j : Nat} {v : Int} (h : a_wok w) (hv : ∀ q s, w.1[k]? = some q → a_sort q j = some s → a_slot (m_put w k j v) q.1 k j s) : a_wok (m_put w k j v) := by
  intro k' q hq
  refine ⟨(h k' q hq).1, fun j' s hs => ?_⟩
  by_cases e : k' = k ∧ j' = j
  · obtain ⟨rfl, rfl⟩ := e
    exact hv q s hq hs
  · exact a_slot_congr (w := w) rfl (m_put_ne e) rfl ((h k' q hq).2 j' s hs)
theorem a_wok_putr {w : mW} {k j v : Nat} (h : a_wok w) (hv : ∀ q s, w.1[k]? = some q → a_sort q j = some s → a_slot (m_putr w k j v) q.1 k j s) : a_wok (m_putr w k j v) := by
  intro k' q hq
  refine ⟨(h k' q hq).1, fun j' s hs => ?_⟩
  by_cases e : k' = k ∧ j' = j
  · obtain ⟨rfl, rfl⟩ := e
    exact hv q s hq hs
  · exact a_slot_congr (w := w) rfl rfl (m_putr_ne e) ((h k' q hq).2 j' s hs)
