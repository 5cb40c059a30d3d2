/-! ===== WHOLE RUNS: the limit over the number of cuts, and its equation ===== -/
/-- a method: whether set-once fields are told by lay; its blocks by pc; its handlers -/
abbrev mM : Type := Bool × List (Nat × mB) × List (Nat × Nat × Nat)
def m_B : List (Nat × mB) → Nat → Option mB
  | [], _ => none
  | q :: r, pc => bif Nat.beq q.1 pc then some q.2 else m_B r pc
/-- a run with at most f cuts -/
def m_k (lay : Nat → Nat → Nat → Nat) (M : mM) (cl : Nat → List mV → mW → Option mR) : Nat → Nat → mL → List mV → mW → Option mR
  | 0, _, _, _, _ => none
  | f + 1, pc, ls, st, w => match m_B M.2.1 pc with
    | none => none
    | some b => m_ev M.1 lay (m_B M.2.1) M.2.2 cl (m_k lay M cl f) 5000 b.2.2 ls st w
def m_Lm (a : Option mR) (af : Nat → Option mR) : Prop := ∀ r, a = some r ↔ ∃ f0, ∀ f, f0 ≤ f → af f = some r
noncomputable def m_lim (af : Nat → Option mR) : Option mR :=
  @dite _ (∃ r, ∃ f0, ∀ f, f0 ≤ f → af f = some r) (Classical.propDecidable _) (fun h => some h.choose) (fun _ => none)
theorem m_lim_Lm (af : Nat → Option mR) : m_Lm (m_lim af) af := by
  intro r
  unfold m_lim
  by_cases h : ∃ r, ∃ f0, ∀ f, f0 ≤ f → af f = some r
  · rw [dif_pos h]
    have hc := h.choose_spec
    constructor
    · intro e
      rw [← Option.some.inj e]
      exact hc
    · intro ⟨f0, hf⟩
      obtain ⟨f1, hf1⟩ := hc
      have a := hf (max f0 f1) (Nat.le_max_left ..)
      have b := hf1 (max f0 f1) (Nat.le_max_right ..)
      rw [← b, a]
  · rw [dif_neg h]
    constructor
    · intro e; cases e
    · intro hf; exact absurd ⟨r, hf⟩ h
noncomputable def m_K (lay : Nat → Nat → Nat → Nat) (M : mM) (cl : Nat → List mV → mW → Option mR) (pc : Nat) (ls : mL) (st : List mV) (w : mW) : Option mR :=
  m_lim (fun f => m_k lay M cl f pc ls st w)
theorem m_Lm_c (a : Option mR) : m_Lm a (fun _ => a) := fun r => ⟨fun h => ⟨0, fun _ _ => h⟩, fun ⟨f0, h⟩ => h f0 (Nat.le_refl _)⟩
theorem m_Lm_g {p : Prop} [Decidable p] {a : Option mR} {af : Nat → Option mR} (h : m_Lm a af) : m_Lm (m_g p a) (fun f => m_g p (af f)) := by
  unfold m_g
  by_cases hp : p
  · simp only [if_pos hp]; exact h
  · simp only [if_neg hp]; exact m_Lm_c none
theorem m_Lm_if {p : Prop} [Decidable p] {a b : Option mR} {af bf : Nat → Option mR} (h : m_Lm a af) (h2 : m_Lm b bf) : m_Lm (if p then a else b) (fun f => if p then af f else bf f) := by
  by_cases hp : p
  · simp only [if_pos hp]; exact h
  · simp only [if_neg hp]; exact h2
theorem m_Lm_bif {p : Bool} {a b : Option mR} {af bf : Nat → Option mR} (h : m_Lm a af) (h2 : m_Lm b bf) : m_Lm (bif p then a else b) (fun f => bif p then af f else bf f) := by
  cases p
  · exact h2
  · exact h
theorem m_Lm_cond {c : ClassFile.Cond} {x y : Int} {a b : Option mR} {af bf : Nat → Option mR} (h : m_Lm a af) (h2 : m_Lm b bf) : m_Lm (m_cond c x y a b) (fun f => m_cond c x y (af f) (bf f)) := by
  unfold m_cond
  cases c <;> first | exact m_Lm_if h h2 | exact m_Lm_if h2 h
theorem m_Lm_sw {x : Int} {k : Int → Option mR} {kf : Nat → Int → Option mR} {d : Option mR} {df : Nat → Option mR} (h : ∀ o, m_Lm (k o) (fun f => kf f o)) (h2 : m_Lm d df) : ∀ (os : List Int) (v : Int), m_Lm (m_sw x v os k d) (fun f => m_sw x v os (kf f) (df f))
  | [], _ => h2
  | o :: r, v => m_Lm_if (h o) (m_Lm_sw h h2 r (v + 1))
theorem m_Lm_lsw {x : Int} {k : Int → Option mR} {kf : Nat → Int → Option mR} {d : Option mR} {df : Nat → Option mR} (h : ∀ o, m_Lm (k o) (fun f => kf f o)) (h2 : m_Lm d df) : ∀ (os : List (Int × Int)), m_Lm (m_lsw x os k d) (fun f => m_lsw x os (kf f) (df f))
  | [] => h2
  | o :: r => m_Lm_if (h o.2) (m_Lm_lsw h h2 r)
theorem m_Lm_p1 {st : List mV} {k : Int → List mV → Option mR} {kf : Nat → Int → List mV → Option mR} (h : ∀ x r, m_Lm (k x r) (fun f => kf f x r)) : m_Lm (m_p1 st k) (fun f => m_p1 st (kf f)) := by
  unfold m_p1; split <;> first | exact h _ _ | exact m_Lm_c none
theorem m_Lm_p2 {st : List mV} {k : Int → Int → List mV → Option mR} {kf : Nat → Int → Int → List mV → Option mR} (h : ∀ x y r, m_Lm (k x y r) (fun f => kf f x y r)) : m_Lm (m_p2 st k) (fun f => m_p2 st (kf f)) := by
  unfold m_p2; split <;> first | exact h _ _ _ | exact m_Lm_c none
theorem m_Lm_pl {st : List mV} {k : Int → List mV → Option mR} {kf : Nat → Int → List mV → Option mR} (h : ∀ x r, m_Lm (k x r) (fun f => kf f x r)) : m_Lm (m_pl st k) (fun f => m_pl st (kf f)) := by
  unfold m_pl; split <;> first | exact h _ _ | exact m_Lm_c none
theorem m_Lm_pll {st : List mV} {k : Int → Int → List mV → Option mR} {kf : Nat → Int → Int → List mV → Option mR} (h : ∀ x y r, m_Lm (k x y r) (fun f => kf f x y r)) : m_Lm (m_pll st k) (fun f => m_pll st (kf f)) := by
  unfold m_pll; split <;> first | exact h _ _ _ | exact m_Lm_c none
theorem m_Lm_pli {st : List mV} {k : Int → Int → List mV → Option mR} {kf : Nat → Int → Int → List mV → Option mR} (h : ∀ x y r, m_Lm (k x y r) (fun f => kf f x y r)) : m_Lm (m_pli st k) (fun f => m_pli st (kf f)) := by
  unfold m_pli; split <;> first | exact h _ _ _ | exact m_Lm_c none
theorem m_Lm_pr {st : List mV} {k : Nat → Nat → List mV → Option mR} {kf : Nat → Nat → Nat → List mV → Option mR} (h : ∀ x y r, m_Lm (k x y r) (fun f => kf f x y r)) : m_Lm (m_pr st k) (fun f => m_pr st (kf f)) := by
  unfold m_pr; split <;> first | exact h _ _ _ | exact m_Lm_c none
theorem m_Lm_pai {st : List mV} {k : Nat → Nat → Int → List mV → Option mR} {kf : Nat → Nat → Nat → Int → List mV → Option mR} (h : ∀ x y i r, m_Lm (k x y i r) (fun f => kf f x y i r)) : m_Lm (m_pai st k) (fun f => m_pai st (kf f)) := by
  unfold m_pai; split <;> first | exact h _ _ _ _ | exact m_Lm_c none
theorem m_Lm_pvi {st : List mV} {k : Nat → Nat → Int → Int → List mV → Option mR} {kf : Nat → Nat → Nat → Int → Int → List mV → Option mR} (h : ∀ x y i v r, m_Lm (k x y i v r) (fun f => kf f x y i v r)) : m_Lm (m_pvi st k) (fun f => m_pvi st (kf f)) := by
  unfold m_pvi; split <;> first | exact h _ _ _ _ _ | exact m_Lm_c none
theorem m_Lm_pvl {st : List mV} {k : Nat → Nat → Int → Int → List mV → Option mR} {kf : Nat → Nat → Nat → Int → Int → List mV → Option mR} (h : ∀ x y i v r, m_Lm (k x y i v r) (fun f => kf f x y i v r)) : m_Lm (m_pvl st k) (fun f => m_pvl st (kf f)) := by
  unfold m_pvl; split <;> first | exact h _ _ _ _ _ | exact m_Lm_c none
theorem m_Lm_pvr {st : List mV} {k : Nat → Nat → Int → Nat → Nat → List mV → Option mR} {kf : Nat → Nat → Nat → Int → Nat → Nat → List mV → Option mR} (h : ∀ x y i v u r, m_Lm (k x y i v u r) (fun f => kf f x y i v u r)) : m_Lm (m_pvr st k) (fun f => m_pvr st (kf f)) := by
  unfold m_pvr; split <;> first | exact h _ _ _ _ _ _ | exact m_Lm_c none
theorem m_Lm_bn {r : Option Nat} {k : Nat → Option mR} {kf : Nat → Nat → Option mR} (h : ∀ x, m_Lm (k x) (fun f => kf f x)) : m_Lm (m_bn r k) (fun f => m_bn r (kf f)) := by
  unfold m_bn; split <;> first | exact h _ | exact m_Lm_c none
theorem m_Lm_bv {r : Option mR} {k : mW → Option mR} {kf : Nat → mW → Option mR} {h : Nat → mW → Option mR} {hf : Nat → Nat → mW → Option mR} (h1 : ∀ w, m_Lm (k w) (fun f => kf f w)) (h2 : ∀ x w, m_Lm (h x w) (fun f => hf f x w)) : m_Lm (m_bv r k h) (fun f => m_bv r (kf f) (hf f)) := by
  unfold m_bv; split <;> first | exact h1 _ | exact h2 _ _ | exact m_Lm_c none
theorem m_Lm_bi {r : Option mR} {k : Int → mW → Option mR} {kf : Nat → Int → mW → Option mR} {h : Nat → mW → Option mR} {hf : Nat → Nat → mW → Option mR} (h1 : ∀ x w, m_Lm (k x w) (fun f => kf f x w)) (h2 : ∀ x w, m_Lm (h x w) (fun f => hf f x w)) : m_Lm (m_bi r k h) (fun f => m_bi r (kf f) (hf f)) := by
  unfold m_bi; split <;> first | exact h1 _ _ | exact h2 _ _ | exact m_Lm_c none
theorem m_Lm_bl {r : Option mR} {k : Int → mW → Option mR} {kf : Nat → Int → mW → Option mR} {h : Nat → mW → Option mR} {hf : Nat → Nat → mW → Option mR} (h1 : ∀ x w, m_Lm (k x w) (fun f => kf f x w)) (h2 : ∀ x w, m_Lm (h x w) (fun f => hf f x w)) : m_Lm (m_bl r k h) (fun f => m_bl r (kf f) (hf f)) := by
  unfold m_bl; split <;> first | exact h1 _ _ | exact h2 _ _ | exact m_Lm_c none
theorem m_Lm_br {r : Option mR} {k : Nat → Nat → mW → Option mR} {kf : Nat → Nat → Nat → mW → Option mR} {h : Nat → mW → Option mR} {hf : Nat → Nat → mW → Option mR} (h1 : ∀ x y w, m_Lm (k x y w) (fun f => kf f x y w)) (h2 : ∀ x w, m_Lm (h x w) (fun f => hf f x w)) : m_Lm (m_br r k h) (fun f => m_br r (kf f) (hf f)) := by
  unfold m_br; split <;> first | exact h1 _ _ _ | exact h2 _ _ | exact m_Lm_c none
theorem m_Lm_go {B : Nat → Option mB} {J : Nat → mL → List mV → mW → Option mR} {Jf : Nat → Nat → mL → List mV → mW → Option mR} {ev : List mI → mL → List mV → mW → Option mR} {evf : Nat → List mI → mL → List mV → mW → Option mR}
    (h1 : ∀ pc ls st w, m_Lm (J pc ls st w) (fun f => Jf f pc ls st w)) (h2 : ∀ cd ls st w, m_Lm (ev cd ls st w) (fun f => evf f cd ls st w)) (pc : Nat) (ls : mL) (st : List mV) (w : mW) : m_Lm (m_go B J ev pc ls st w) (fun f => m_go B (Jf f) (evf f) pc ls st w) := by
  unfold m_go; split <;> first | exact h1 _ _ _ _ | exact h2 _ _ _ _ | exact m_Lm_c none
theorem m_Lm_thr {B : Nat → Option mB} {Hd : List (Nat × Nat × Nat)} {J : Nat → mL → List mV → mW → Option mR} {Jf : Nat → Nat → mL → List mV → mW → Option mR} {ev : List mI → mL → List mV → mW → Option mR} {evf : Nat → List mI → mL → List mV → mW → Option mR}
    (h1 : ∀ pc ls st w, m_Lm (J pc ls st w) (fun f => Jf f pc ls st w)) (h2 : ∀ cd ls st w, m_Lm (ev cd ls st w) (fun f => evf f cd ls st w)) (pc : Nat) (ls : mL) (x : Nat) (w : mW) : m_Lm (m_thr B Hd J ev pc ls x w) (fun f => m_thr B Hd (Jf f) (evf f) pc ls x w) := by
  unfold m_thr; split <;> first | exact m_Lm_go h1 h2 _ _ _ _ | exact m_Lm_c _
set_option maxHeartbeats 4000000 in
theorem m_Lm_ev {md : Bool} {lay : Nat → Nat → Nat → Nat} {B : Nat → Option mB} {Hd : List (Nat × Nat × Nat)} {cl : Nat → List mV → mW → Option mR} {J : Nat → mL → List mV → mW → Option mR} {Jf : Nat → Nat → mL → List mV → mW → Option mR}
    (h1 : ∀ pc ls st w, m_Lm (J pc ls st w) (fun f => Jf f pc ls st w)) : ∀ (n : Nat) (cd : List mI) (ls : mL) (st : List mV) (w : mW), m_Lm (m_ev md lay B Hd cl J n cd ls st w) (fun f => m_ev md lay B Hd cl (Jf f) n cd ls st w) := by
  intro n
  induction n with
  | zero => intro cd ls st w; simp only [m_ev]; exact m_Lm_c none
  | succ n ih =>
    intro cd ls st w
    rcases cd with _ | ⟨⟨pc, i, len, a⟩, rest⟩
    · simp only [m_ev]; exact m_Lm_c none
    · cases i <;> simp only [m_ev] <;>
        repeat' first
          | exact m_Lm_c _
          | exact ih _ _ _ _
          | exact m_Lm_go h1 ih _ _ _ _
          | exact m_Lm_thr h1 ih _ _ _ _
          | (refine m_Lm_g ?_)
          | (refine m_Lm_sw (fun _ => ?_) ?_ _ _)
          | (refine m_Lm_lsw (fun _ => ?_) ?_ _)
          | (refine m_Lm_cond ?_ ?_)
          | (refine m_Lm_p1 fun _ _ => ?_)
          | (refine m_Lm_p2 fun _ _ _ => ?_)
          | (refine m_Lm_pl fun _ _ => ?_)
          | (refine m_Lm_pll fun _ _ _ => ?_)
          | (refine m_Lm_pli fun _ _ _ => ?_)
          | (refine m_Lm_pr fun _ _ _ => ?_)
          | (refine m_Lm_pai fun _ _ _ _ => ?_)
          | (refine m_Lm_pvi fun _ _ _ _ _ => ?_)
          | (refine m_Lm_pvl fun _ _ _ _ _ => ?_)
          | (refine m_Lm_pvr fun _ _ _ _ _ _ => ?_)
          | (refine m_Lm_bn fun _ => ?_)
          | (refine m_Lm_bv (fun _ => ?_) (fun _ _ => ?_))
          | (refine m_Lm_bi (fun _ _ => ?_) (fun _ _ => ?_))
          | (refine m_Lm_bl (fun _ _ => ?_) (fun _ _ => ?_))
          | (refine m_Lm_br (fun _ _ _ => ?_) (fun _ _ => ?_))
          | (refine m_Lm_if ?_ ?_)
          | (refine m_Lm_bif ?_ ?_)
          | split
theorem m_K_eq {lay : Nat → Nat → Nat → Nat} {M : mM} {cl : Nat → List mV → mW → Option mR} {pc : Nat} {b : mB} (h : m_B M.2.1 pc = some b) (ls : mL) (st : List mV) (w : mW) :
    m_K lay M cl pc ls st w = m_ev M.1 lay (m_B M.2.1) M.2.2 cl (m_K lay M cl) 5000 b.2.2 ls st w := by
  have h1 := m_lim_Lm (fun f => m_k lay M cl f pc ls st w)
  have h2 := m_Lm_ev (md := M.1) (lay := lay) (B := m_B M.2.1) (Hd := M.2.2) (cl := cl) (J := m_K lay M cl) (Jf := m_k lay M cl) (fun pc ls st w => m_lim_Lm _) 5000 b.2.2 ls st w
  have hs : ∀ f, m_k lay M cl (f + 1) pc ls st w = m_ev M.1 lay (m_B M.2.1) M.2.2 cl (m_k lay M cl f) 5000 b.2.2 ls st w := fun f => by
    show (match m_B M.2.1 pc with | none => none | some b => _) = _
    rw [h]
  have he : ∀ r, m_K lay M cl pc ls st w = some r ↔ m_ev M.1 lay (m_B M.2.1) M.2.2 cl (m_K lay M cl) 5000 b.2.2 ls st w = some r := by
    intro r
    rw [h2 r]
    refine (h1 r).trans ⟨fun ⟨f0, hf⟩ => ⟨f0, fun f h9 => ?_⟩, fun ⟨f0, hf⟩ => ⟨f0 + 1, fun f h9 => ?_⟩⟩
    · exact (hs f).symm.trans (hf (f + 1) (by omega))
    · obtain ⟨g, rfl⟩ : ∃ g, f = g + 1 := ⟨f - 1, by omega⟩
      exact (hs g).trans (hf g (by omega))
  cases hq : m_ev M.1 lay (m_B M.2.1) M.2.2 cl (m_K lay M cl) 5000 b.2.2 ls st w with
  | some r => exact (he r).mpr hq
  | none =>
    cases hp : m_K lay M cl pc ls st w with
    | none => rfl
    | some r => rw [(he r).mp hp] at hq; cases hq
