/-! ===== the words that every contract asks ===== -/
def lw_Ts : List Cond := k2_sels lw_privs ++ tables_1.filter tp_ok
theorem lw_T : ∀ w ∈ tables_1, tp_ok w = true → w ∈ lw_Ts := fun w h1 h2 => List.mem_append_right _ (List.mem_filter.mpr ⟨h1, h2⟩)
theorem lw_Tp : ∀ w ∈ lw_Ts, tp_ok w = true := by
  intro w hw
  rcases List.mem_append.mp hw with h | h
  · obtain ⟨q, -, rfl⟩ := List.mem_map.mp h
    rfl
  · exact (List.mem_filter.mp h).2
theorem lw_in {w : Cond} {i : Nat} (h : tables_1[i]? = some w) (ht : tp_ok w = true) : w ∈ lw_Ts := lw_T w (List.mem_of_getElem? h) ht
/-- the tables by their sublists of 240 -/
def tbk (k : Nat) : List Cond := match k with
  | 0 => tables_1_1
  | 1 => tables_1_2
  | 2 => tables_1_3
  | 3 => tables_1_4
  | 4 => tables_1_5
  | 5 => tables_1_6
  | 6 => tables_1_7
  | 7 => tables_1_8
  | 8 => tables_1_9
  | 9 => tables_1_10
  | 10 => tables_1_11
  | 11 => tables_1_12
  | 12 => tables_1_13
  | 13 => tables_1_14
  | _ => []
def tb (z : Nat) : Option Cond := (tbk (z / 240))[z % 240]?
theorem tbk_sub (k : Nat) : ∀ w ∈ tbk k, w ∈ tables_1 := by
  unfold tbk
  split
  · intro w h; exact List.mem_append_left _ h
  · intro w h; exact List.mem_append_right _ (List.mem_append_left _ h)
  · intro w h; exact List.mem_append_right _ (List.mem_append_right _ (List.mem_append_left _ h))
  · intro w h; exact List.mem_append_right _ (List.mem_append_right _ (List.mem_append_right _ (List.mem_append_left _ h)))
  · intro w h; exact List.mem_append_right _ (List.mem_append_right _ (List.mem_append_right _ (List.mem_append_right _ (List.mem_append_left _ h))))
  · intro w h; exact List.mem_append_right _ (List.mem_append_right _ (List.mem_append_right _ (List.mem_append_right _ (List.mem_append_right _ (List.mem_append_left _ h)))))
  · intro w h; exact List.mem_append_right _ (List.mem_append_right _ (List.mem_append_right _ (List.mem_append_right _ (List.mem_append_right _ (List.mem_append_right _ (List.mem_append_left _ h))))))
  · intro w h; exact List.mem_append_right _ (List.mem_append_right _ (List.mem_append_right _ (List.mem_append_right _ (List.mem_append_right _ (List.mem_append_right _ (List.mem_append_right _ (List.mem_append_left _ h)))))))
  · intro w h; exact List.mem_append_right _ (List.mem_append_right _ (List.mem_append_right _ (List.mem_append_right _ (List.mem_append_right _ (List.mem_append_right _ (List.mem_append_right _ (List.mem_append_right _ (List.mem_append_left _ h))))))))
  · intro w h; exact List.mem_append_right _ (List.mem_append_right _ (List.mem_append_right _ (List.mem_append_right _ (List.mem_append_right _ (List.mem_append_right _ (List.mem_append_right _ (List.mem_append_right _ (List.mem_append_right _ (List.mem_append_left _ h)))))))))
  · intro w h; exact List.mem_append_right _ (List.mem_append_right _ (List.mem_append_right _ (List.mem_append_right _ (List.mem_append_right _ (List.mem_append_right _ (List.mem_append_right _ (List.mem_append_right _ (List.mem_append_right _ (List.mem_append_right _ (List.mem_append_left _ h))))))))))
  · intro w h; exact List.mem_append_right _ (List.mem_append_right _ (List.mem_append_right _ (List.mem_append_right _ (List.mem_append_right _ (List.mem_append_right _ (List.mem_append_right _ (List.mem_append_right _ (List.mem_append_right _ (List.mem_append_right _ (List.mem_append_right _ (List.mem_append_left _ h)))))))))))
  · intro w h; exact List.mem_append_right _ (List.mem_append_right _ (List.mem_append_right _ (List.mem_append_right _ (List.mem_append_right _ (List.mem_append_right _ (List.mem_append_right _ (List.mem_append_right _ (List.mem_append_right _ (List.mem_append_right _ (List.mem_append_right _ (List.mem_append_right _ (List.mem_append_left _ h))))))))))))
  · intro w h; exact List.mem_append_right _ (List.mem_append_right _ (List.mem_append_right _ (List.mem_append_right _ (List.mem_append_right _ (List.mem_append_right _ (List.mem_append_right _ (List.mem_append_right _ (List.mem_append_right _ (List.mem_append_right _ (List.mem_append_right _ (List.mem_append_right _ (List.mem_append_right _ (h)))))))))))))
  · intro w h; cases h
theorem tb_in {w : Cond} {i : Nat} (h : tb i = some w) (ht : tp_ok w = true) : w ∈ lw_Ts := lw_T w (tbk_sub _ w (List.mem_of_getElem? h)) ht
