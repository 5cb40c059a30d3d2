/-! ===== THE MACHINE's RUN OF A BLOCK IS THE JVM's ===== -/
section MN
variable {p : Program} {l : Launch} {e : Env} {R : Room} {s : State} {m : MethodId} {args : Array Value} {below : List Frame} {meth : Method} {c : Code}
variable {E : Nat × (Nat → Nat)} {dA : Nat → ClassId} {D : va_G} {nL : Nat} {bs : ByteArray} {Ts : List Cond} {o rt ct d : Nat} {kt : List (Nat × Nat × Nat × Nat)} {ml : List (Nat × Nat × Nat × Nat × Nat)} {nm : Nat → MethodName} {mx : Nat → Nat}
variable {B : Nat → Option mB} {Hd : List (Nat × Nat × Nat)} {cl : Nat → List mV → mW → Option mR} {J : Nat → mL → List mV → mW → Option mR}
/-- return types by their sorts -/
def a_rt (rt : Nat) (ty : Option FieldType) : Prop := match rt with
  | 0 => ty = none
  | 1 => ty = some .int
  | 2 => ty = some .boolean
  | 3 => ty = some .long
  | _ => ∃ n, ty = some (.object n)
set_option maxHeartbeats 4000000 in
theorem a_main (hx : p.tables.exec = Jvm.exec) (hb : c.code = bs) (hml : c.maxLocals = nL) (hR : R = a_rm (d + 1)) (hlk : meth.locks = false) (hret : a_rt rt meth.sig.returnType) (hT : ∀ w ∈ tables_1, tp_ok w = true → w ∈ Ts) (hTs : ∀ w ∈ Ts, tp_ok w = true) (hts : ∀ w ∈ Ts, w.before args s = true) (hown : s.vm.findClass (cn o) = some m.cls) (hK : va_K D classes (a_tys dA) s) (hJ0 : a_J E s s.heap)
    (hlink : Hd ≠ [] → ct ≠ 0 ∧ (Cond.classLink (cn o) ct "java/lang/IllegalStateException").before args s = true ∧ (Cond.castable "java/lang/IllegalStateException" "java/lang/IllegalStateException").before args s = true)
    (hex : c.exceptionTable.toList.map (fun h => (h.startPc, h.endPc, h.handlerPc, h.catchType)) = Hd.map (fun q => (q.1, q.2.1, q.2.2, ct)))
    (hml2 : ∀ q ∈ ml, a_mlok Ts nm mx o q) (hkt : ∀ q ∈ kt, a_ktok Ts o q)
    (hcl : ∀ y as w r, cl y as w = some r → a_C l E dA D Ts d (nm y) as w r ∧ r.2.1 = w.1)
    (hJ : ∀ pc ls st w r, J pc ls st w = some r → a_W p l e R s m args below meth c E dA D nL pc ls st w r)
    (hB : ∀ pc b, B pc = some b → a_chk bs o rt nL kt ml b.2.2 pc = true) :
    ∀ (n : Nat) (cd : List mI) (pc : Nat) (ls : mL) (st : List mV) (w : mW) (r : mR), a_chk bs o rt nL kt ml cd pc = true → m_ev true lay B Hd cl J n cd ls st w = some r → a_W p l e R s m args below meth c E dA D nL pc ls st w r := by
  intro n
  induction n with
  | zero => intro cd pc ls st w r hc h; simp only [m_ev] at h; cases h
  | succ n ih =>
    intro cd pc0 ls st w r hc h
    have hgo : ∀ (tgt : Nat) (ls : mL) (st : List mV) (w : mW) (r : mR), m_go B J (m_ev true lay B Hd cl J n) tgt ls st w = some r → a_W p l e R s m args below meth c E dA D nL tgt ls st w r := by
      intro tgt ls st w r h
      unfold m_go at h
      cases hq : B tgt with
      | none => rw [hq] at h; cases h
      | some b =>
        obtain ⟨cut, live, cd⟩ := b
        rw [hq] at h
        cases cut with
        | true => exact a_weak a_pick (hJ _ _ _ _ _ h)
        | false => exact ih _ _ _ _ _ _ (hB tgt _ hq) h
    rcases cd with _ | ⟨⟨pc, i, len, a⟩, rest⟩
    · simp only [m_ev] at h; cases h
    · by_cases hnop : i = .nop
      · subst hnop
        simp only [m_ev] at h
        have : pc = pc0 := by
          unfold a_chk at hc
          rw [Bool.and_eq_true] at hc
          exact Nat.eq_of_beq_eq_true hc.1
        subst this
        exact hgo _ _ _ _ _ h
      obtain ⟨rfl, hd, hci, hrest⟩ := a_chk_c hc hnop
      have hthr : ∀ (x : Nat) (w : mW) (r : mR), m_thr B Hd J (m_ev true lay B Hd cl J n) pc ls x w = some r → a_T p l e R s m args below meth c E dA D nL pc ls x w r := fun x w r h => s_thr hlk hK hown hlink hex (fun tgt h => hgo _ _ _ _ _ h) h
      have nx : ∀ {k : Nat}, a_sw1 i = false → a_len i = k → ∀ (ls : mL) (st : List mV) (w : mW) (r : mR), m_ev true lay B Hd cl J n rest ls st w = some r → a_W p l e R s m args below meth c E dA D nL (pc + k) ls st w r := by
        intro k h1 h2 ls st w r h
        rcases hrest with h9 | ⟨h9, h8⟩
        · rw [h1] at h9; cases h9
        · rw [h9, h2] at h8; exact ih _ _ _ _ _ _ h8 h
      have hdl : ∀ {k : Nat}, a_sw1 i = false → a_len i = k → decode bs pc = .ok (i, k) := by
        intro k h1 h2
        rcases hrest with h9 | ⟨h9, -⟩
        · rw [h1] at h9; cases h9
        · rw [← h2, ← h9]; exact hd
      cases i with
      | iadd =>
        simp only [m_ev] at h
        obtain ⟨x, y, t, rfl, h⟩ := m_p2_s h
        exact s_iadd hx hb (hdl rfl rfl) (nx rfl rfl _ _ _ _ h)
      | isub =>
        simp only [m_ev] at h
        obtain ⟨x, y, t, rfl, h⟩ := m_p2_s h
        exact s_isub hx hb (hdl rfl rfl) (nx rfl rfl _ _ _ _ h)
      | imul =>
        simp only [m_ev] at h
        obtain ⟨x, y, t, rfl, h⟩ := m_p2_s h
        exact s_imul hx hb (hdl rfl rfl) (nx rfl rfl _ _ _ _ h)
      | iand =>
        simp only [m_ev] at h
        obtain ⟨x, y, t, rfl, h⟩ := m_p2_s h
        exact s_iand hx hb (hdl rfl rfl) (nx rfl rfl _ _ _ _ h)
      | ior =>
        simp only [m_ev] at h
        obtain ⟨x, y, t, rfl, h⟩ := m_p2_s h
        exact s_ior hx hb (hdl rfl rfl) (nx rfl rfl _ _ _ _ h)
      | ishl =>
        simp only [m_ev] at h
        obtain ⟨x, y, t, rfl, h⟩ := m_p2_s h
        exact s_ishl hx hb (hdl rfl rfl) (nx rfl rfl _ _ _ _ h)
      | ishr =>
        simp only [m_ev] at h
        obtain ⟨x, y, t, rfl, h⟩ := m_p2_s h
        exact s_ishr hx hb (hdl rfl rfl) (nx rfl rfl _ _ _ _ h)
      | idiv =>
        simp only [m_ev] at h
        obtain ⟨x, y, t, rfl, h⟩ := m_p2_s h
        obtain ⟨h0, h⟩ := m_g_s h
        exact s_idiv hx hb (hdl rfl rfl) h0 (nx rfl rfl _ _ _ _ h)
      | irem =>
        simp only [m_ev] at h
        obtain ⟨x, y, t, rfl, h⟩ := m_p2_s h
        obtain ⟨h0, h⟩ := m_g_s h
        exact s_irem hx hb (hdl rfl rfl) h0 (nx rfl rfl _ _ _ _ h)
      | ladd =>
        simp only [m_ev] at h
        obtain ⟨x, y, t, rfl, h⟩ := m_pll_s h
        exact s_ladd hx hb (hdl rfl rfl) (nx rfl rfl _ _ _ _ h)
      | lsub =>
        simp only [m_ev] at h
        obtain ⟨x, y, t, rfl, h⟩ := m_pll_s h
        exact s_lsub hx hb (hdl rfl rfl) (nx rfl rfl _ _ _ _ h)
      | lmul =>
        simp only [m_ev] at h
        obtain ⟨x, y, t, rfl, h⟩ := m_pll_s h
        exact s_lmul hx hb (hdl rfl rfl) (nx rfl rfl _ _ _ _ h)
      | land =>
        simp only [m_ev] at h
        obtain ⟨x, y, t, rfl, h⟩ := m_pll_s h
        exact s_land hx hb (hdl rfl rfl) (nx rfl rfl _ _ _ _ h)
      | lor =>
        simp only [m_ev] at h
        obtain ⟨x, y, t, rfl, h⟩ := m_pll_s h
        exact s_lor hx hb (hdl rfl rfl) (nx rfl rfl _ _ _ _ h)
      | lxor =>
        simp only [m_ev] at h
        obtain ⟨x, y, t, rfl, h⟩ := m_pll_s h
        exact s_lxor hx hb (hdl rfl rfl) (nx rfl rfl _ _ _ _ h)
      | lcmp =>
        simp only [m_ev] at h
        obtain ⟨x, y, t, rfl, h⟩ := m_pll_s h
        exact s_lcmp hx hb (hdl rfl rfl) (nx rfl rfl _ _ _ _ h)
      | ldiv =>
        simp only [m_ev] at h
        obtain ⟨x, y, t, rfl, h⟩ := m_pll_s h
        obtain ⟨h0, h⟩ := m_g_s h
        exact s_ldiv hx hb (hdl rfl rfl) h0 (nx rfl rfl _ _ _ _ h)
      | lrem =>
        simp only [m_ev] at h
        obtain ⟨x, y, t, rfl, h⟩ := m_pll_s h
        obtain ⟨h0, h⟩ := m_g_s h
        exact s_lrem hx hb (hdl rfl rfl) h0 (nx rfl rfl _ _ _ _ h)
      | lshl =>
        simp only [m_ev] at h
        obtain ⟨x, y, t, rfl, h⟩ := m_pli_s h
        exact s_lshl hx hb (hdl rfl rfl) (nx rfl rfl _ _ _ _ h)
      | lshr =>
        simp only [m_ev] at h
        obtain ⟨x, y, t, rfl, h⟩ := m_pli_s h
        exact s_lshr hx hb (hdl rfl rfl) (nx rfl rfl _ _ _ _ h)
      | ineg =>
        simp only [m_ev] at h
        obtain ⟨x, t, rfl, h⟩ := m_p1_s h
        exact s_ineg hx hb (hdl rfl rfl) (nx rfl rfl _ _ _ _ h)
      | i2l =>
        simp only [m_ev] at h
        obtain ⟨x, t, rfl, h⟩ := m_p1_s h
        exact s_i2l hx hb (hdl rfl rfl) (nx rfl rfl _ _ _ _ h)
      | i2b =>
        simp only [m_ev] at h
        obtain ⟨x, t, rfl, h⟩ := m_p1_s h
        exact s_i2b hx hb (hdl rfl rfl) (nx rfl rfl _ _ _ _ h)
      | i2s =>
        simp only [m_ev] at h
        obtain ⟨x, t, rfl, h⟩ := m_p1_s h
        exact s_i2s hx hb (hdl rfl rfl) (nx rfl rfl _ _ _ _ h)
      | i2c =>
        simp only [m_ev] at h
        obtain ⟨x, t, rfl, h⟩ := m_p1_s h
        exact s_i2c hx hb (hdl rfl rfl) (nx rfl rfl _ _ _ _ h)
      | lneg =>
        simp only [m_ev] at h
        obtain ⟨x, t, rfl, h⟩ := m_pl_s h
        exact s_lneg hx hb (hdl rfl rfl) (nx rfl rfl _ _ _ _ h)
      | l2i =>
        simp only [m_ev] at h
        obtain ⟨x, t, rfl, h⟩ := m_pl_s h
        exact s_l2i hx hb (hdl rfl rfl) (nx rfl rfl _ _ _ _ h)
      | iconst v =>
        simp only [m_ev] at h
        simp only [a_ci, decide_eq_true_eq] at hci
        exact s_iconst hx hb (hdl rfl rfl) hci (nx rfl rfl _ _ _ _ h)
      | bipush v =>
        simp only [m_ev] at h
        simp only [a_ci, decide_eq_true_eq] at hci
        exact s_bipush hx hb (hdl rfl rfl) hci (nx rfl rfl _ _ _ _ h)
      | sipush v =>
        simp only [m_ev] at h
        simp only [a_ci, decide_eq_true_eq] at hci
        exact s_sipush hx hb (hdl rfl rfl) hci (nx rfl rfl _ _ _ _ h)
      | lconst v =>
        simp only [m_ev] at h
        exact s_lconst hx hb (hdl rfl rfl) (nx rfl rfl _ _ _ _ h)
      | aconst_null =>
        simp only [m_ev] at h
        exact s_null hx hb (hdl rfl rfl) (nx rfl rfl _ _ _ _ h)
      | iload k =>
        simp only [m_ev] at h
        split at h
        · rename_i x hk
          exact s_iload hx hb (hdl rfl rfl) hk (nx rfl rfl _ _ _ _ h)
        · cases h
      | iload_n k =>
        simp only [m_ev] at h
        split at h
        · rename_i x hk
          exact s_iload_n hx hb (hdl rfl rfl) hk (nx rfl rfl _ _ _ _ h)
        · cases h
      | lload k =>
        simp only [m_ev] at h
        split at h
        · rename_i x hk
          exact s_lload hx hb (hdl rfl rfl) hk (nx rfl rfl _ _ _ _ h)
        · cases h
      | lload_n k =>
        simp only [m_ev] at h
        split at h
        · rename_i x hk
          exact s_lload_n hx hb (hdl rfl rfl) hk (nx rfl rfl _ _ _ _ h)
        · cases h
      | aload k =>
        simp only [m_ev] at h
        split at h
        · rename_i x hk
          exact s_aload hx hb (hdl rfl rfl) hk (nx rfl rfl _ _ _ _ h)
        · cases h
      | aload_n k =>
        simp only [m_ev] at h
        split at h
        · rename_i x hk
          exact s_aload_n hx hb (hdl rfl rfl) hk (nx rfl rfl _ _ _ _ h)
        · cases h
      | istore k =>
        simp only [m_ev] at h
        simp only [a_ci, decide_eq_true_eq] at hci
        obtain ⟨x, t, rfl, h⟩ := m_p1_s h
        exact s_istore hx hb (hdl rfl rfl) hci (nx rfl rfl _ _ _ _ h)
      | istore_n k =>
        simp only [m_ev] at h
        simp only [a_ci, decide_eq_true_eq] at hci
        obtain ⟨x, t, rfl, h⟩ := m_p1_s h
        exact s_istore_n hx hb (hdl rfl rfl) hci (nx rfl rfl _ _ _ _ h)
      | lstore k =>
        simp only [m_ev] at h
        simp only [a_ci, decide_eq_true_eq] at hci
        obtain ⟨x, t, rfl, h⟩ := m_pl_s h
        exact s_lstore hx hb (hdl rfl rfl) hci (nx rfl rfl _ _ _ _ h)
      | lstore_n k =>
        simp only [m_ev] at h
        simp only [a_ci, decide_eq_true_eq] at hci
        obtain ⟨x, t, rfl, h⟩ := m_pl_s h
        exact s_lstore_n hx hb (hdl rfl rfl) hci (nx rfl rfl _ _ _ _ h)
      | astore k =>
        simp only [m_ev] at h
        simp only [a_ci, decide_eq_true_eq] at hci
        split at h
        · exact s_astore hx hb (hdl rfl rfl) hci (nx rfl rfl _ _ _ _ h)
        · cases h
      | astore_n k =>
        simp only [m_ev] at h
        simp only [a_ci, decide_eq_true_eq] at hci
        split at h
        · exact s_astore_n hx hb (hdl rfl rfl) hci (nx rfl rfl _ _ _ _ h)
        · cases h
      | iinc k v =>
        simp only [m_ev] at h
        simp only [a_ci, decide_eq_true_eq] at hci
        split at h
        · rename_i x hk
          exact s_iinc hx hb (hdl rfl rfl) hci hk (nx rfl rfl _ _ _ _ h)
        · cases h
      | dup =>
        simp only [m_ev] at h
        split at h
        · exact s_dup_i hx hb (hdl rfl rfl) (nx rfl rfl _ _ _ _ h)
        · exact s_dup_r hx hb (hdl rfl rfl) (nx rfl rfl _ _ _ _ h)
        · cases h
      | dup2 =>
        simp only [m_ev] at h
        split at h
        · exact s_dup2 hx hb (hdl rfl rfl) (nx rfl rfl _ _ _ _ h)
        · cases h
      | pop =>
        simp only [m_ev] at h
        split at h
        · exact s_pop_i hx hb (hdl rfl rfl) (nx rfl rfl _ _ _ _ h)
        · exact s_pop_r hx hb (hdl rfl rfl) (nx rfl rfl _ _ _ _ h)
        · cases h
      | goto off =>
        simp only [m_ev] at h
        simp only [a_ci, decide_eq_true_eq] at hci
        exact s_goto hx hb (hdl rfl rfl) hci (hgo _ _ _ _ _ h)
      | ifnonnull off =>
        simp only [m_ev] at h
        simp only [a_ci, decide_eq_true_eq] at hci
        split at h
        · exact s_ifnonnull_n hx hb (hdl rfl rfl) (nx rfl rfl _ _ _ _ h)
        · exact s_ifnonnull hx hb (hdl rfl rfl) hci (hgo _ _ _ _ _ h)
        · cases h
      | ifCond cc off =>
        simp only [m_ev] at h
        simp only [a_ci, decide_eq_true_eq] at hci
        obtain ⟨x, t, rfl, h9⟩ := m_p1_s h
        clear h
        cases cc with
        | eq =>
          simp only [m_cond] at h9
          exact s_if_eq hx hb (hdl rfl rfl) hci (fun hp => by rw [if_pos hp] at h9; exact hgo _ _ _ _ _ h9) (fun hp => by rw [if_neg hp] at h9; exact (nx rfl rfl _ _ _ _ h9))
        | ne =>
          simp only [m_cond] at h9
          exact s_if_ne hx hb (hdl rfl rfl) hci (fun hp => by rw [if_neg hp] at h9; exact hgo _ _ _ _ _ h9) (fun hp => by rw [if_pos hp] at h9; exact (nx rfl rfl _ _ _ _ h9))
        | lt =>
          simp only [m_cond] at h9
          exact s_if_lt hx hb (hdl rfl rfl) hci (fun hp => by rw [if_pos hp] at h9; exact hgo _ _ _ _ _ h9) (fun hp => by rw [if_neg hp] at h9; exact (nx rfl rfl _ _ _ _ h9))
        | ge =>
          simp only [m_cond] at h9
          exact s_if_ge hx hb (hdl rfl rfl) hci (fun hp => by rw [if_neg hp] at h9; exact hgo _ _ _ _ _ h9) (fun hp => by rw [if_pos hp] at h9; exact (nx rfl rfl _ _ _ _ h9))
        | gt =>
          simp only [m_cond] at h9
          exact s_if_gt hx hb (hdl rfl rfl) hci (fun hp => by rw [if_pos hp] at h9; exact hgo _ _ _ _ _ h9) (fun hp => by rw [if_neg hp] at h9; exact (nx rfl rfl _ _ _ _ h9))
        | le =>
          simp only [m_cond] at h9
          exact s_if_le hx hb (hdl rfl rfl) hci (fun hp => by rw [if_neg hp] at h9; exact hgo _ _ _ _ _ h9) (fun hp => by rw [if_pos hp] at h9; exact (nx rfl rfl _ _ _ _ h9))
      | if_icmp cc off =>
        simp only [m_ev] at h
        simp only [a_ci, decide_eq_true_eq] at hci
        obtain ⟨x, y, t, rfl, h9⟩ := m_p2_s h
        clear h
        cases cc with
        | eq =>
          simp only [m_cond] at h9
          exact s_icmp_eq hx hb (hdl rfl rfl) hci (fun hp => by rw [if_pos hp] at h9; exact hgo _ _ _ _ _ h9) (fun hp => by rw [if_neg hp] at h9; exact (nx rfl rfl _ _ _ _ h9))
        | ne =>
          simp only [m_cond] at h9
          exact s_icmp_ne hx hb (hdl rfl rfl) hci (fun hp => by rw [if_neg hp] at h9; exact hgo _ _ _ _ _ h9) (fun hp => by rw [if_pos hp] at h9; exact (nx rfl rfl _ _ _ _ h9))
        | lt =>
          simp only [m_cond] at h9
          exact s_icmp_lt hx hb (hdl rfl rfl) hci (fun hp => by rw [if_pos hp] at h9; exact hgo _ _ _ _ _ h9) (fun hp => by rw [if_neg hp] at h9; exact (nx rfl rfl _ _ _ _ h9))
        | ge =>
          simp only [m_cond] at h9
          exact s_icmp_ge hx hb (hdl rfl rfl) hci (fun hp => by rw [if_neg hp] at h9; exact hgo _ _ _ _ _ h9) (fun hp => by rw [if_pos hp] at h9; exact (nx rfl rfl _ _ _ _ h9))
        | gt =>
          simp only [m_cond] at h9
          exact s_icmp_gt hx hb (hdl rfl rfl) hci (fun hp => by rw [if_pos hp] at h9; exact hgo _ _ _ _ _ h9) (fun hp => by rw [if_neg hp] at h9; exact (nx rfl rfl _ _ _ _ h9))
        | le =>
          simp only [m_cond] at h9
          exact s_icmp_le hx hb (hdl rfl rfl) hci (fun hp => by rw [if_neg hp] at h9; exact hgo _ _ _ _ _ h9) (fun hp => by rw [if_pos hp] at h9; exact (nx rfl rfl _ _ _ _ h9))
      | tableswitch dd lo hi os =>
        simp only [m_ev] at h
        simp only [a_ci, Bool.and_eq_true, decide_eq_true_eq, List.all_eq_true] at hci
        obtain ⟨x, t, rfl, h⟩ := m_p1_s h
        exact s_tsw hx hb hd hci.1.1 hci.1.2 hci.2 h (fun o h => hgo _ _ _ _ _ h) (fun h => hgo _ _ _ _ _ h)
      | lookupswitch dd ps =>
        simp only [m_ev] at h
        simp only [a_ci, Bool.and_eq_true, decide_eq_true_eq] at hci
        obtain ⟨x, t, rfl, h⟩ := m_p1_s h
        exact s_lsw hx hb hd hci.1.1 hci.1.2 (fun o ho => of_decide_eq_true (List.all_eq_true.mp hci.2 o ho)) h (fun o h => hgo _ _ _ _ _ h) (fun h => hgo _ _ _ _ _ h)
      | ldc ix =>
        obtain ⟨a1, a2, a3⟩ := a
        simp only [m_ev] at h
        simp only [a_ci, Bool.and_eq_true, decide_eq_true_eq] at hci
        have h1 : a1 = 0 := Nat.eq_of_beq_eq_true hci.2
        subst h1
        have hm : (ix, 0, a2, a3) ∈ kt := by simpa using hci.1.1
        have hw := (hkt _ hm).1 rfl
        have hlt : a3 < 2147483648 ∨ (a2 ≠ 0 ∧ a3 = 2147483648) := hci.1.2
        have hw2 : a_i32 (if a2 = 0 then (a3 : Int) else -(a3 : Int)) := by
          unfold a_i32
          split <;> omega
        exact s_ldc hx hb hown (hts _ hw) hw2 (hdl rfl rfl) (nx rfl rfl _ _ _ _ h)
      | ldc_w ix =>
        obtain ⟨a1, a2, a3⟩ := a
        simp only [m_ev] at h
        simp only [a_ci, Bool.and_eq_true, decide_eq_true_eq] at hci
        have h1 : a1 = 0 := Nat.eq_of_beq_eq_true hci.2
        subst h1
        have hm : (ix, 0, a2, a3) ∈ kt := by simpa using hci.1.1
        have hw := (hkt _ hm).1 rfl
        have hlt : a3 < 2147483648 ∨ (a2 ≠ 0 ∧ a3 = 2147483648) := hci.1.2
        have hw2 : a_i32 (if a2 = 0 then (a3 : Int) else -(a3 : Int)) := by
          unfold a_i32
          split <;> omega
        exact s_ldcw hx hb hown (hts _ hw) hw2 (hdl rfl rfl) (nx rfl rfl _ _ _ _ h)
      | ldc2_w ix =>
        obtain ⟨a1, a2, a3⟩ := a
        simp only [m_ev] at h
        simp only [a_ci, Bool.and_eq_true, decide_eq_true_eq] at hci
        have hm : (ix, 1, a2, a3) ∈ kt := by simpa using hci.1
        have hw := (hkt _ hm).2 rfl
        have hlt : a3 < 9223372036854775808 ∨ (a2 ≠ 0 ∧ a3 = 9223372036854775808) := hci.2
        exact s_ldc2 hx hb hown (hts _ hw) (by
          have hw2 : a_i64 (if a2 = 0 then (a3 : Int) else -(a3 : Int)) := by
            unfold a_i64
            split
            · rename_i h0; rcases hlt with h1 | h1 <;> omega
            · rcases hlt with h1 | h1 <;> omega
          exact hw2) (hdl rfl rfl) (nx rfl rfl _ _ _ _ h)
      | getfield ix =>
        obtain ⟨a1, a2, a3⟩ := a
        simp only [m_ev] at h
        simp only [a_ci, Bool.and_eq_true, decide_eq_true_eq] at hci
        obtain ⟨⟨hz, h100⟩, hany⟩ := hci
        obtain ⟨⟨q1, q2, q3, q4, q5⟩, hqm, hqe⟩ := a_any5 hany
        simp only [Bool.and_eq_true] at hqe
        have e1 := Nat.eq_of_beq_eq_true hqe.1.1
        have e2 := Nat.eq_of_beq_eq_true hqe.1.2
        have e3 := Nat.eq_of_beq_eq_true hqe.2
        try simp only at e1 e2 e3 hz h100
        subst e1; subst e2; subst e3
        replace h := m_pr_s h
        obtain ⟨t0, k, t, rfl, h⟩ := h
        replace h := m_bif_s h
        obtain ⟨h1, h⟩ := h
        have e4 := Nat.eq_of_beq_eq_true h1
        try simp only at e4 h
        subst e4
        split at h
        · exact s_getf hx hb hT hts hown hK hqm hz (hdl rfl rfl) (fun n hk hs => a_gi (n := n) (by decide) hs) (nx rfl rfl _ _ _ _ h)
        · exact s_getf hx hb hT hts hown hK hqm hz (hdl rfl rfl) (fun n hk hs => a_gi (n := n) (by decide) hs) (nx rfl rfl _ _ _ _ h)
        · exact s_getf hx hb hT hts hown hK hqm hz (hdl rfl rfl) (fun n hk hs => a_gl hs) (nx rfl rfl _ _ _ _ h)
        · rename_i z
          simp only [Bool.true_and] at h
          cases hz2 : Nat.beq (z % 2) 0 with
          | true =>
            rw [hz2] at h
            have hz3 := Nat.eq_of_beq_eq_true hz2
            exact s_getf hx hb hT hts hown hK hqm hz (hdl rfl rfl) (fun n hk hs => a_gf (by omega) h100 (by omega) hs) (nx rfl rfl _ _ _ _ h)
          | false =>
            rw [hz2] at h
            obtain ⟨q, hq1, h⟩ := m_bn_s h
            exact s_getf hx hb hT hts hown hK hqm hz (hdl rfl rfl) (fun n hk hs => a_gm (by omega) h100 hq1 hs) (nx rfl rfl _ _ _ _ h)
      | putfield ix =>
        obtain ⟨a1, a2, a3⟩ := a
        simp only [m_ev] at h
        simp only [a_ci, Bool.and_eq_true, decide_eq_true_eq] at hci
        obtain ⟨⟨hz, h100⟩, hany⟩ := hci
        obtain ⟨⟨q1, q2, q3, q4, q5⟩, hqm, hqe⟩ := a_any5 hany
        simp only [Bool.and_eq_true] at hqe
        have e1 := Nat.eq_of_beq_eq_true hqe.1.1
        have e2 := Nat.eq_of_beq_eq_true hqe.1.2
        have e3 := Nat.eq_of_beq_eq_true hqe.2
        try simp only at e1 e2 e3 hz h100
        subst e1; subst e2; subst e3
        split at h
        · split at h
          · rename_i h8 v q r9
            replace h := m_bif_s h
            obtain ⟨h1, h⟩ := h
            have e4 := Nat.eq_of_beq_eq_true h1
            obtain ⟨qa, qb⟩ := q
            try simp only at e4 h
            subst e4
            exact s_putn (x := v) hx hb hT hts hown hK hqm hz (hdl rfl rfl) (Or.inl ⟨rfl, rfl⟩) (nx rfl rfl _ _ _ _ h)
          · cases h
        · split at h
          · rename_i h8 v q r9
            replace h := m_bif_s h
            obtain ⟨h1, h⟩ := h
            have e4 := Nat.eq_of_beq_eq_true h1
            obtain ⟨qa, qb⟩ := q
            try simp only at e4 h
            subst e4
            replace h := m_g_s h
            obtain ⟨h01, h⟩ := h
            exact s_putn (x := v) hx hb hT hts hown hK hqm hz (hdl rfl rfl) (Or.inr (Or.inl ⟨rfl, rfl, h01⟩)) (nx rfl rfl _ _ _ _ h)
          · cases h
        · split at h
          · rename_i h8 v q r9
            replace h := m_bif_s h
            obtain ⟨h1, h⟩ := h
            have e4 := Nat.eq_of_beq_eq_true h1
            obtain ⟨qa, qb⟩ := q
            try simp only at e4 h
            subst e4
            exact s_putn (x := v) hx hb hT hts hown hK hqm hz (hdl rfl rfl) (Or.inr (Or.inr ⟨rfl, rfl⟩)) (nx rfl rfl _ _ _ _ h)
          · cases h
        · rename_i z
          split at h
          · rename_i h8 v q r9
            replace h := m_bif_s h
            obtain ⟨h1, h⟩ := h
            obtain ⟨qa, qb⟩ := q
            obtain ⟨va, vb⟩ := v
            simp only [Bool.and_eq_true, Bool.true_and, Bool.not_eq_true'] at h1
            have e4 := Nat.eq_of_beq_eq_true h1.1.1
            have e5 := Nat.eq_of_beq_eq_true h1.1.2
            have e6 := Nat.ne_of_beq_eq_false h1.2
            try simp only at e4 e5 h
            subst e4
            subst e5
            exact s_putr hx hb hT hts hown hK hqm hz (hdl rfl rfl) (by omega) h100 (by omega) (nx rfl rfl _ _ _ _ h)
          · cases h
      | iaload =>
        simp only [m_ev] at h
        obtain ⟨t0, k, i, t, rfl, h⟩ := m_pai_s h
        obtain ⟨h1, h⟩ := m_bif_s h
        have e4 := Nat.eq_of_beq_eq_true h1
        subst e4
        obtain ⟨hg, h⟩ := m_g_s h
        exact s_ld24 hx hb hK (hdl rfl rfl) hg.1 hg.2 (nx rfl rfl _ _ _ _ h)
      | saload =>
        simp only [m_ev] at h
        obtain ⟨t0, k, i, t, rfl, h⟩ := m_pai_s h
        obtain ⟨h1, h⟩ := m_bif_s h
        have e4 := Nat.eq_of_beq_eq_true h1
        subst e4
        obtain ⟨hg, h⟩ := m_g_s h
        exact s_ld22 hx hb hK (hdl rfl rfl) hg.1 hg.2 (nx rfl rfl _ _ _ _ h)
      | caload =>
        simp only [m_ev] at h
        obtain ⟨t0, k, i, t, rfl, h⟩ := m_pai_s h
        obtain ⟨h1, h⟩ := m_bif_s h
        have e4 := Nat.eq_of_beq_eq_true h1
        subst e4
        obtain ⟨hg, h⟩ := m_g_s h
        exact s_ld23 hx hb hK (hdl rfl rfl) hg.1 hg.2 (nx rfl rfl _ _ _ _ h)
      | laload =>
        simp only [m_ev] at h
        obtain ⟨t0, k, i, t, rfl, h⟩ := m_pai_s h
        obtain ⟨h1, h⟩ := m_bif_s h
        have e4 := Nat.eq_of_beq_eq_true h1
        subst e4
        obtain ⟨hg, h⟩ := m_g_s h
        exact s_ld25 hx hb hK (hdl rfl rfl) hg.1 hg.2 (nx rfl rfl _ _ _ _ h)
      | baload =>
        simp only [m_ev] at h
        obtain ⟨t0, k, i, t, rfl, h⟩ := m_pai_s h
        obtain ⟨h1, h⟩ := m_bif_s h
        obtain ⟨hg, h⟩ := m_g_s h
        rw [Bool.or_eq_true] at h1
        rcases h1 with h1 | h1
        · have e4 := Nat.eq_of_beq_eq_true h1
          subst e4
          exact s_ld20 hx hb hK (hdl rfl rfl) hg.1 hg.2 (nx rfl rfl _ _ _ _ h)
        · have e4 := Nat.eq_of_beq_eq_true h1
          subst e4
          exact s_ld21 hx hb hK (hdl rfl rfl) hg.1 hg.2 (nx rfl rfl _ _ _ _ h)
      | aaload =>
        simp only [m_ev] at h
        obtain ⟨t0, k, i, t, rfl, h8⟩ := m_pai_s h
        clear h
        have h := h8
        clear h8
        simp only [Bool.true_and] at h
        cases h1 : Nat.beq t0 26 with
        | true =>
          rw [h1] at h
          have e4 := Nat.eq_of_beq_eq_true h1
          subst e4
          obtain ⟨hg, h⟩ := m_g_s h
          exact s_ld26 hx hb hK (hdl rfl rfl) hg.1 hg.2 (nx rfl rfl _ _ _ _ h)
        | false =>
          rw [h1] at h
          obtain ⟨h2, h⟩ := m_bif_s h
          have e4 := Nat.eq_of_beq_eq_true h2
          subst e4
          obtain ⟨hg, h⟩ := m_g_s h
          exact s_ld27 hx hb hK (hdl rfl rfl) hg.1 hg.2 (nx rfl rfl _ _ _ _ h)
      | iastore =>
        simp only [m_ev] at h
        obtain ⟨t0, k, i, v, t, rfl, h⟩ := m_pvi_s h
        obtain ⟨h1, h⟩ := m_bif_s h
        have e4 := Nat.eq_of_beq_eq_true h1
        subst e4
        obtain ⟨hg, h⟩ := m_g_s h
        exact s_st24 hx hb hK (hdl rfl rfl) hg.1 hg.2 (nx rfl rfl _ _ _ _ h)
      | sastore =>
        simp only [m_ev] at h
        obtain ⟨t0, k, i, v, t, rfl, h⟩ := m_pvi_s h
        obtain ⟨h1, h⟩ := m_bif_s h
        have e4 := Nat.eq_of_beq_eq_true h1
        subst e4
        obtain ⟨hg, h⟩ := m_g_s h
        exact s_st22 hx hb hK (hdl rfl rfl) hg.1 hg.2 (nx rfl rfl _ _ _ _ h)
      | castore =>
        simp only [m_ev] at h
        obtain ⟨t0, k, i, v, t, rfl, h⟩ := m_pvi_s h
        obtain ⟨h1, h⟩ := m_bif_s h
        have e4 := Nat.eq_of_beq_eq_true h1
        subst e4
        obtain ⟨hg, h⟩ := m_g_s h
        exact s_st23 hx hb hK (hdl rfl rfl) hg.1 hg.2 (nx rfl rfl _ _ _ _ h)
      | lastore =>
        simp only [m_ev] at h
        obtain ⟨t0, k, i, v, t, rfl, h⟩ := m_pvl_s h
        obtain ⟨h1, h⟩ := m_bif_s h
        have e4 := Nat.eq_of_beq_eq_true h1
        subst e4
        obtain ⟨hg, h⟩ := m_g_s h
        exact s_st25 hx hb hK (hdl rfl rfl) hg.1 hg.2 (nx rfl rfl _ _ _ _ h)
      | bastore =>
        simp only [m_ev] at h
        obtain ⟨t0, k, i, v, t, rfl, h8⟩ := m_pvi_s h
        clear h
        have h := h8
        clear h8
        cases h1 : Nat.beq t0 20 with
        | true =>
          rw [h1] at h
          have e4 := Nat.eq_of_beq_eq_true h1
          subst e4
          obtain ⟨hg, h⟩ := m_g_s h
          exact s_st20 hx hb hK (hdl rfl rfl) hg.1 hg.2 (nx rfl rfl _ _ _ _ h)
        | false =>
          rw [h1] at h
          obtain ⟨h2, h⟩ := m_bif_s h
          have e4 := Nat.eq_of_beq_eq_true h2
          subst e4
          obtain ⟨hg, h⟩ := m_g_s h
          obtain ⟨hv, h⟩ := m_g_s h
          exact s_st21 hx hb hK (hdl rfl rfl) hg.1 hg.2 hv (nx rfl rfl _ _ _ _ h)
      | arraylength =>
        simp only [m_ev] at h
        obtain ⟨t0, k, t, rfl, h⟩ := m_pr_s h
        obtain ⟨h1, h⟩ := m_bif_s h
        intro H locs lsR hS hl hlo hso
        rw [Bool.and_eq_true] at h1
        have h2 := Nat.le_of_ble_eq_true h1.1
        have h3 := Nat.le_of_ble_eq_true h1.2
        exact s_alen hx hb hK (hdl rfl rfl) (by omega) (nx rfl rfl _ _ _ _ h) H locs lsR hS hl hlo hso
      | invokevirtual ix =>
        obtain ⟨a1, a2, a3⟩ := a
        simp only [m_ev] at h
        simp only [a_ci] at hci
        obtain ⟨⟨q1, q2, q3, q4, q5⟩, hqm, hqe⟩ := a_any5 hci
        simp only [Bool.and_eq_true] at hqe
        have e1 := Nat.eq_of_beq_eq_true hqe.1.1.1.1
        have e2 := Nat.eq_of_beq_eq_true hqe.1.1.1.2
        have e3 := Nat.eq_of_beq_eq_true hqe.1.1.2
        have e4 := Nat.eq_of_beq_eq_true hqe.1.2
        have e5 := Nat.le_of_ble_eq_true hqe.2
        try simp only at e1 e2 e3 e4
        subst e1; subst e2; subst e4
        obtain ⟨k1, ⟨bts, rtt, k2⟩, k3, k4, k5, k6, k7, k8⟩ := hml2 _ hqm
        dsimp only at k1 k2 k3 k4 k5 k6 k7 k8
        have hYs : ∀ U : State, s.WarmedH U.vm → a_Code (nm q2) (mx q2) U := fun U hW => by
          rcases k2 with k2 | ⟨hs, k2⟩
          · exact a_Code.of (tp_warm (a' := args) (hTs _ k2) hW (hts _ k2))
          · exact a_Code.ofW (tp_warm (a' := args) (hTs _ k2) hW (hts _ k2))
        have hYS : a_Code (nm q2) (mx q2) s := hYs s (State.WarmedH.refl s)
        have hlnk : (Cond.methodLink (cn o) q1 (nm q2)).before args s = true ∨ ∃ host, (Cond.methodLinkNest (cn o) q1 (nm q2) host).before args s = true := by
          rcases k1 with k1 | ⟨host, k1⟩
          · exact Or.inl (hts _ k1)
          · exact Or.inr ⟨host, hts _ k1⟩
        split at h
        · cases h
        rename_i as t hargs
        obtain ⟨bs9, f1, f2, f3⟩ := a_args _ _ _ _ _ hargs
        rw [List.append_nil] at f1
        subst f1
        subst f3
        replace h := m_bif_s h
        obtain ⟨hb9, h⟩ := h
        rw [Bool.and_eq_true] at hb9
        obtain ⟨hrcv, hwd⟩ := hb9
        have hwd := Nat.le_of_ble_eq_true hwd
        have e6 : a2 / 100 = q5 := by omega
        have e7 : a2 % 100 = q3 + 1 := by omega
        try rw [e6] at hrcv
        try rw [e7] at f2
        obtain ⟨k, as', rfl⟩ : ∃ k as', as = .inr (.inr (some (q5, k))) :: as' := by
          unfold m_rcv at hrcv
          split at hrcv
          · rename_i q tl
            obtain ⟨qa, qb⟩ := q
            have e77 := Nat.eq_of_beq_eq_true hrcv
            try dsimp only at e77
            subst e77
            exact ⟨qb, tl, rfl⟩
          · cases hrcv
        have hlen : as'.length = q3 := by rw [List.length_cons] at f2; omega
        obtain ⟨j1, j2, j3⟩ := k7 (by first | rfl | trivial)
        have gen : ∀ (r1 : mR), cl q2 (.inr (.inr (some (q5, k))) :: as') w = some r1 → (∀ v, r1.1 = .inl v → a_W p l e R s m args below meth c E dA D nL (pc + 3) ls (v.toList ++ t) r1.2 r) → (∀ x, r1.1 = .inr x → a_T p l e R s m args below meth c E dA D nL pc ls x r1.2 r) → a_W p l e R s m args below meth c E dA D nL pc ls ((.inr (.inr (some (q5, k))) :: as').reverse ++ t) w r := by
          intro r1 hr1 kr kt9
          obtain ⟨hC, hsh⟩ := hcl _ _ _ _ hr1
          have est : ((.inr (.inr (some (q5, k))) : mV) :: as').reverse ++ t = as'.reverse ++ .inr (.inr (some (q5, k))) :: t := by rw [List.reverse_cons, List.append_assoc]; rfl
          rw [est]
          refine s_call (y := nm q2) (maxL := mx q2) hb hml hR hTs hts hK hJ0 hC hsh hYs k3 k4 hwd (hdl rfl rfl) ?_ ?_ ?_ kr kt9
          · intro v hv
            rcases List.mem_cons.mp hv with rfl | hv
            · exact List.mem_append_right _ List.mem_cons_self
            · exact List.mem_append_left _ (List.mem_reverse.mpr hv)
          · intro v hv
            exact List.mem_append_right _ (List.mem_cons_of_mem _ hv)
          · intro T locs lsR hP hoa X
            exact a_hIV hx hb hown hK hJ0 j1 hlnk (hts _ j2) (hts _ j3) hYS k5 (fun sig hs => hlen.trans (k6 sig hs)) (hdl rfl rfl) T locs lsR hP hoa X
        split at h
        · unfold m_bv at h
          split at h
          · rename_i w1 hr1
            exact gen _ hr1 (fun v hv => by cases hv; exact nx rfl rfl _ _ _ _ h) (fun x hv => by cases hv)
          · rename_i x w1 hr1
            exact gen _ hr1 (fun v hv => by cases hv) (fun x hv => by cases hv; exact hthr _ _ _ h)
          · cases h
        · unfold m_bi at h
          split at h
          · rename_i z w1 hr1
            exact gen _ hr1 (fun v hv => by cases hv; exact nx rfl rfl _ _ _ _ h) (fun x hv => by cases hv)
          · rename_i x w1 hr1
            exact gen _ hr1 (fun v hv => by cases hv) (fun x hv => by cases hv; exact hthr _ _ _ h)
          · cases h
        · unfold m_bl at h
          split at h
          · rename_i z w1 hr1
            exact gen _ hr1 (fun v hv => by cases hv; exact nx rfl rfl _ _ _ _ h) (fun x hv => by cases hv)
          · rename_i x w1 hr1
            exact gen _ hr1 (fun v hv => by cases hv) (fun x hv => by cases hv; exact hthr _ _ _ h)
          · cases h
        · unfold m_br at h
          split at h
          · rename_i q w1 hr1
            obtain ⟨qa, qb⟩ := q
            replace h := m_bif_s h
            obtain ⟨h9, h⟩ := h
            have e9 := Nat.eq_of_beq_eq_true h9
            try dsimp only at e9 h
            have e8 : a3 - 3 = qa := by omega
            rw [e8] at h
            exact gen _ hr1 (fun v hv => by cases hv; exact nx rfl rfl _ _ _ _ h) (fun x hv => by cases hv)
          · rename_i x w1 hr1
            exact gen _ hr1 (fun v hv => by cases hv) (fun x hv => by cases hv; exact hthr _ _ _ h)
          · cases h
      | invokestatic ix =>
        obtain ⟨a1, a2, a3⟩ := a
        simp only [m_ev] at h
        simp only [a_ci] at hci
        obtain ⟨⟨q1, q2, q3, q4, q5⟩, hqm, hqe⟩ := a_any5 hci
        simp only [Bool.and_eq_true] at hqe
        have e1 := Nat.eq_of_beq_eq_true hqe.1.1.1
        have e2 := Nat.eq_of_beq_eq_true hqe.1.1.2
        have e3 := Nat.eq_of_beq_eq_true hqe.1.2
        have e4 := Nat.eq_of_beq_eq_true hqe.2
        try simp only at e1 e2 e3 e4
        subst e1; subst e2; subst e4
        obtain ⟨k1, ⟨bts, rtt, k2⟩, k3, k4, k5, k6, k7, k8⟩ := hml2 _ hqm
        dsimp only at k1 k2 k3 k4 k5 k6 k7 k8
        have hYs : ∀ U : State, s.WarmedH U.vm → a_Code (nm q2) (mx q2) U := fun U hW => by
          rcases k2 with k2 | ⟨hs, k2⟩
          · exact a_Code.of (tp_warm (a' := args) (hTs _ k2) hW (hts _ k2))
          · exact a_Code.ofW (tp_warm (a' := args) (hTs _ k2) hW (hts _ k2))
        have hYS : a_Code (nm q2) (mx q2) s := hYs s (State.WarmedH.refl s)
        have hlnk : (Cond.methodLink (cn o) q1 (nm q2)).before args s = true ∨ ∃ host, (Cond.methodLinkNest (cn o) q1 (nm q2) host).before args s = true := by
          rcases k1 with k1 | ⟨host, k1⟩
          · exact Or.inl (hts _ k1)
          · exact Or.inr ⟨host, hts _ k1⟩
        split at h
        · cases h
        rename_i as t hargs
        obtain ⟨bs9, f1, f2, f3⟩ := a_args _ _ _ _ _ hargs
        rw [List.append_nil] at f1
        subst f1
        subst f3
        replace h := m_bif_s h
        obtain ⟨hb9, h⟩ := h
        have hwd := Nat.le_of_ble_eq_true hb9
        have e3 : q3 = a2 := e3
        have hlen : as.length = q3 := by rw [f2, e3]
        have j1 := k8 (by first | rfl | trivial)
        have gen : ∀ (r1 : mR), cl q2 as w = some r1 → (∀ v, r1.1 = .inl v → a_W p l e R s m args below meth c E dA D nL (pc + 3) ls (v.toList ++ t) r1.2 r) → (∀ x, r1.1 = .inr x → a_T p l e R s m args below meth c E dA D nL pc ls x r1.2 r) → a_W p l e R s m args below meth c E dA D nL pc ls (as.reverse ++ t) w r := by
          intro r1 hr1 kr kt9
          obtain ⟨hC, hsh⟩ := hcl _ _ _ _ hr1
          refine s_call (y := nm q2) (maxL := mx q2) hb hml hR hTs hts hK hJ0 hC hsh hYs k3 k4 hwd (hdl rfl rfl) ?_ ?_ ?_ kr kt9
          · intro v hv
            exact List.mem_append_left _ (List.mem_reverse.mpr hv)
          · intro v hv
            exact List.mem_append_right _ hv
          · intro T locs lsR hP hoa X
            exact a_hIS hx hb hown hlnk (hts _ j1) (hts _ k4) hYS k5 (fun sig hs => hlen.trans (k6 sig hs)) (hdl rfl rfl) T locs lsR X
        split at h
        · unfold m_bv at h
          split at h
          · rename_i w1 hr1
            exact gen _ hr1 (fun v hv => by cases hv; exact nx rfl rfl _ _ _ _ h) (fun x hv => by cases hv)
          · rename_i x w1 hr1
            exact gen _ hr1 (fun v hv => by cases hv) (fun x hv => by cases hv; exact hthr _ _ _ h)
          · cases h
        · unfold m_bi at h
          split at h
          · rename_i z w1 hr1
            exact gen _ hr1 (fun v hv => by cases hv; exact nx rfl rfl _ _ _ _ h) (fun x hv => by cases hv)
          · rename_i x w1 hr1
            exact gen _ hr1 (fun v hv => by cases hv) (fun x hv => by cases hv; exact hthr _ _ _ h)
          · cases h
        · unfold m_bl at h
          split at h
          · rename_i z w1 hr1
            exact gen _ hr1 (fun v hv => by cases hv; exact nx rfl rfl _ _ _ _ h) (fun x hv => by cases hv)
          · rename_i x w1 hr1
            exact gen _ hr1 (fun v hv => by cases hv) (fun x hv => by cases hv; exact hthr _ _ _ h)
          · cases h
        · unfold m_br at h
          split at h
          · rename_i q w1 hr1
            obtain ⟨qa, qb⟩ := q
            replace h := m_bif_s h
            obtain ⟨h9, h⟩ := h
            have e9 := Nat.eq_of_beq_eq_true h9
            try dsimp only at e9 h
            have e8 : a3 - 3 = qa := by omega
            rw [e8] at h
            exact gen _ hr1 (fun v hv => by cases hv; exact nx rfl rfl _ _ _ _ h) (fun x hv => by cases hv)
          · rename_i x w1 hr1
            exact gen _ hr1 (fun v hv => by cases hv) (fun x hv => by cases hv; exact hthr _ _ _ h)
          · cases h
      | invokespecial ix =>
        simp only [m_ev] at h
        simp only [a_ci] at hci
        cases hci
      | athrow =>
        simp only [m_ev] at h
        obtain ⟨t0, k, t, rfl, h⟩ := m_pr_s h
        obtain ⟨h1, h⟩ := m_bif_s h
        have e4 := Nat.eq_of_beq_eq_true h1
        subst e4
        exact s_athrow hx hb (hdl rfl rfl) (hthr _ _ _ h)
      | ireturn =>
        obtain ⟨a1, a2, a3⟩ := a
        simp only [m_ev] at h
        simp only [a_ci, Bool.or_eq_true, Bool.and_eq_true] at hci
        split at h
        · rename_i x
          rcases hci with hci | hci
          · have e1 := Nat.eq_of_beq_eq_true hci.1
            have e2 := Nat.eq_of_beq_eq_true hci.2
            try simp only at e1 h
            subst e1; subst e2
            obtain ⟨h01, h⟩ := m_g_s h
            cases h
            exact s_zret hx hb hlk hret h01 (hdl rfl rfl)
          · have e1 := Nat.eq_of_beq_eq_true hci.1
            have e2 := Nat.eq_of_beq_eq_true hci.2
            try simp only at e1 h
            subst e1; subst e2
            cases h
            exact s_iret hx hb hlk hret (hdl rfl rfl)
        · cases h
      | lreturn =>
        simp only [m_ev] at h
        simp only [a_ci] at hci
        have e2 := Nat.eq_of_beq_eq_true hci
        subst e2
        split at h
        · cases h
          exact s_lret hx hb hlk hret (hdl rfl rfl)
        · cases h
      | areturn =>
        simp only [m_ev] at h
        simp only [a_ci] at hci
        have e2 := Nat.eq_of_beq_eq_true hci
        subst e2
        obtain ⟨nmr, hret⟩ := hret
        split at h
        · cases h
          exact s_aret hx hb hlk hret (hdl rfl rfl)
        · cases h
      | return_ =>
        simp only [m_ev] at h
        simp only [a_ci] at hci
        have e2 := Nat.eq_of_beq_eq_true hci
        subst e2
        split at h
        · cases h
          exact s_vret hx hb hlk hret (hdl rfl rfl)
        · cases h
      | aastore =>
        simp only [m_ev] at h
        unfold m_pvr at h
        split at h
        · simp at h
        · cases h
      | nop => exact absurd rfl hnop
      | _ => simp only [m_ev, cond_true] at h; cases h
end MN
