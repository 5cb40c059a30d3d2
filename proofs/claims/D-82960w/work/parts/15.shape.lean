/-! ===== in methods behind the constructors no cell comes or goes ===== -/
def m_Sh (w : mW) (a : Option mR) : Prop := ∀ r, a = some r → r.2.1 = w.1
theorem m_Sh_n (w : mW) : m_Sh w none := fun r h => by cases h
theorem m_Sh_s {w : mW} {x : Option mV ⊕ Nat} {w' : mW} (h : w'.1 = w.1) : m_Sh w (some (x, w')) := fun r hr => by cases hr; exact h
theorem m_Sh_t {w w' : mW} {a : Option mR} (h : w'.1 = w.1) (ha : m_Sh w' a) : m_Sh w a := fun r hr => (ha r hr).trans h
theorem m_Sh_g {p : Prop} [Decidable p] {w : mW} {a : Option mR} (h : m_Sh w a) : m_Sh w (m_g p a) := fun r hr => h r (m_g_s hr).2
theorem m_Sh_if {p : Prop} [Decidable p] {w : mW} {a b : Option mR} (h : m_Sh w a) (h2 : m_Sh w b) : m_Sh w (if p then a else b) := by
  split
  · exact h
  · exact h2
theorem m_Sh_bif {p : Bool} {w : mW} {a b : Option mR} (h : m_Sh w a) (h2 : m_Sh w b) : m_Sh w (bif p then a else b) := by
  cases p
  · exact h2
  · exact h
theorem m_Sh_cond {c : ClassFile.Cond} {x y : Int} {w : mW} {a b : Option mR} (h : m_Sh w a) (h2 : m_Sh w b) : m_Sh w (m_cond c x y a b) := by
  unfold m_cond
  cases c <;> first | exact m_Sh_if h h2 | exact m_Sh_if h2 h
theorem m_Sh_sw {x : Int} {w : mW} {k : Int → Option mR} {d : Option mR} (h : ∀ o, m_Sh w (k o)) (h2 : m_Sh w d) : ∀ (os : List Int) (v : Int), m_Sh w (m_sw x v os k d)
  | [], _ => h2
  | o :: r, v => m_Sh_if (h o) (m_Sh_sw h h2 r (v + 1))
theorem m_Sh_lsw {x : Int} {w : mW} {k : Int → Option mR} {d : Option mR} (h : ∀ o, m_Sh w (k o)) (h2 : m_Sh w d) : ∀ (os : List (Int × Int)), m_Sh w (m_lsw x os k d)
  | [] => h2
  | o :: r => m_Sh_if (h o.2) (m_Sh_lsw h h2 r)
theorem m_Sh_p1 {st : List mV} {w : mW} {k : Int → List mV → Option mR} (h : ∀ x r, m_Sh w (k x r)) : m_Sh w (m_p1 st k) := by unfold m_p1; split <;> first | exact h _ _ | exact m_Sh_n w
theorem m_Sh_p2 {st : List mV} {w : mW} {k : Int → Int → List mV → Option mR} (h : ∀ x y r, m_Sh w (k x y r)) : m_Sh w (m_p2 st k) := by unfold m_p2; split <;> first | exact h _ _ _ | exact m_Sh_n w
theorem m_Sh_pl {st : List mV} {w : mW} {k : Int → List mV → Option mR} (h : ∀ x r, m_Sh w (k x r)) : m_Sh w (m_pl st k) := by unfold m_pl; split <;> first | exact h _ _ | exact m_Sh_n w
theorem m_Sh_pll {st : List mV} {w : mW} {k : Int → Int → List mV → Option mR} (h : ∀ x y r, m_Sh w (k x y r)) : m_Sh w (m_pll st k) := by unfold m_pll; split <;> first | exact h _ _ _ | exact m_Sh_n w
theorem m_Sh_pli {st : List mV} {w : mW} {k : Int → Int → List mV → Option mR} (h : ∀ x y r, m_Sh w (k x y r)) : m_Sh w (m_pli st k) := by unfold m_pli; split <;> first | exact h _ _ _ | exact m_Sh_n w
theorem m_Sh_pr {st : List mV} {w : mW} {k : Nat → Nat → List mV → Option mR} (h : ∀ x y r, m_Sh w (k x y r)) : m_Sh w (m_pr st k) := by unfold m_pr; split <;> first | exact h _ _ _ | exact m_Sh_n w
theorem m_Sh_pai {st : List mV} {w : mW} {k : Nat → Nat → Int → List mV → Option mR} (h : ∀ x y i r, m_Sh w (k x y i r)) : m_Sh w (m_pai st k) := by unfold m_pai; split <;> first | exact h _ _ _ _ | exact m_Sh_n w
theorem m_Sh_pvi {st : List mV} {w : mW} {k : Nat → Nat → Int → Int → List mV → Option mR} (h : ∀ x y i v r, m_Sh w (k x y i v r)) : m_Sh w (m_pvi st k) := by unfold m_pvi; split <;> first | exact h _ _ _ _ _ | exact m_Sh_n w
theorem m_Sh_pvl {st : List mV} {w : mW} {k : Nat → Nat → Int → Int → List mV → Option mR} (h : ∀ x y i v r, m_Sh w (k x y i v r)) : m_Sh w (m_pvl st k) := by unfold m_pvl; split <;> first | exact h _ _ _ _ _ | exact m_Sh_n w
theorem m_Sh_pvr {st : List mV} {w : mW} {k : Nat → Nat → Int → Nat → Nat → List mV → Option mR} (h : ∀ x y i v u r, m_Sh w (k x y i v u r)) : m_Sh w (m_pvr st k) := by unfold m_pvr; split <;> first | exact h _ _ _ _ _ _ | exact m_Sh_n w
theorem m_Sh_bn {r : Option Nat} {w : mW} {k : Nat → Option mR} (h : ∀ x, m_Sh w (k x)) : m_Sh w (m_bn r k) := by unfold m_bn; split <;> first | exact h _ | exact m_Sh_n w
theorem m_Sh_bv {r : Option mR} {w : mW} {k : mW → Option mR} {h : Nat → mW → Option mR} (hr : m_Sh w r) (h1 : ∀ w, m_Sh w (k w)) (h2 : ∀ x w, m_Sh w (h x w)) : m_Sh w (m_bv r k h) := by
  unfold m_bv; split
  · exact m_Sh_t (hr _ rfl) (h1 _)
  · exact m_Sh_t (hr _ rfl) (h2 _ _)
  · exact m_Sh_n w
theorem m_Sh_bi {r : Option mR} {w : mW} {k : Int → mW → Option mR} {h : Nat → mW → Option mR} (hr : m_Sh w r) (h1 : ∀ x w, m_Sh w (k x w)) (h2 : ∀ x w, m_Sh w (h x w)) : m_Sh w (m_bi r k h) := by
  unfold m_bi; split
  · exact m_Sh_t (hr _ rfl) (h1 _ _)
  · exact m_Sh_t (hr _ rfl) (h2 _ _)
  · exact m_Sh_n w
theorem m_Sh_bl {r : Option mR} {w : mW} {k : Int → mW → Option mR} {h : Nat → mW → Option mR} (hr : m_Sh w r) (h1 : ∀ x w, m_Sh w (k x w)) (h2 : ∀ x w, m_Sh w (h x w)) : m_Sh w (m_bl r k h) := by
  unfold m_bl; split
  · exact m_Sh_t (hr _ rfl) (h1 _ _)
  · exact m_Sh_t (hr _ rfl) (h2 _ _)
  · exact m_Sh_n w
theorem m_Sh_br {r : Option mR} {w : mW} {k : Nat → Nat → mW → Option mR} {h : Nat → mW → Option mR} (hr : m_Sh w r) (h1 : ∀ x y w, m_Sh w (k x y w)) (h2 : ∀ x w, m_Sh w (h x w)) : m_Sh w (m_br r k h) := by
  unfold m_br; split
  · exact m_Sh_t (hr _ rfl) (h1 _ _ _)
  · exact m_Sh_t (hr _ rfl) (h2 _ _)
  · exact m_Sh_n w
theorem m_Sh_go {B : Nat → Option mB} {J : Nat → mL → List mV → mW → Option mR} {ev : List mI → mL → List mV → mW → Option mR} (h1 : ∀ pc ls st w, m_Sh w (J pc ls st w)) (h2 : ∀ cd ls st w, m_Sh w (ev cd ls st w)) (pc : Nat) (ls : mL) (st : List mV) (w : mW) : m_Sh w (m_go B J ev pc ls st w) := by
  unfold m_go; split <;> first | exact h1 _ _ _ _ | exact h2 _ _ _ _ | exact m_Sh_n w
theorem m_Sh_thr {B : Nat → Option mB} {Hd : List (Nat × Nat × Nat)} {J : Nat → mL → List mV → mW → Option mR} {ev : List mI → mL → List mV → mW → Option mR} (h1 : ∀ pc ls st w, m_Sh w (J pc ls st w)) (h2 : ∀ cd ls st w, m_Sh w (ev cd ls st w)) (pc : Nat) (ls : mL) (x : Nat) (w : mW) : m_Sh w (m_thr B Hd J ev pc ls x w) := by
  unfold m_thr; split <;> first | exact m_Sh_go h1 h2 _ _ _ _ | exact m_Sh_s rfl
set_option maxHeartbeats 4000000 in
theorem m_Sh_ev {lay : Nat → Nat → Nat → Nat} {B : Nat → Option mB} {Hd : List (Nat × Nat × Nat)} {cl : Nat → List mV → mW → Option mR} {J : Nat → mL → List mV → mW → Option mR}
    (h1 : ∀ pc ls st w, m_Sh w (J pc ls st w)) (hc : ∀ y as w, m_Sh w (cl y as w)) : ∀ (n : Nat) (cd : List mI) (ls : mL) (st : List mV) (w : mW), m_Sh w (m_ev true lay B Hd cl J n cd ls st w) := by
  intro n
  induction n with
  | zero => intro cd ls st w; simp only [m_ev]; exact m_Sh_n w
  | succ n ih =>
    intro cd ls st w
    rcases cd with _ | ⟨⟨pc, i, len, a⟩, rest⟩
    · simp only [m_ev]; exact m_Sh_n w
    · cases i <;> simp only [m_ev, cond_true] <;>
        repeat' first
          | exact m_Sh_n _
          | exact m_Sh_s rfl
          | exact ih _ _ _ _
          | exact m_Sh_t (by rfl) (ih _ _ _ _)
          | exact m_Sh_go h1 ih _ _ _ _
          | exact m_Sh_thr h1 ih _ _ _ _
          | exact hc _ _ _
          | (refine m_Sh_g ?_)
          | (refine m_Sh_sw (fun _ => ?_) ?_ _ _)
          | (refine m_Sh_lsw (fun _ => ?_) ?_ _)
          | (refine m_Sh_cond ?_ ?_)
          | (refine m_Sh_p1 fun _ _ => ?_)
          | (refine m_Sh_p2 fun _ _ _ => ?_)
          | (refine m_Sh_pl fun _ _ => ?_)
          | (refine m_Sh_pll fun _ _ _ => ?_)
          | (refine m_Sh_pli fun _ _ _ => ?_)
          | (refine m_Sh_pr fun _ _ _ => ?_)
          | (refine m_Sh_pai fun _ _ _ _ => ?_)
          | (refine m_Sh_pvi fun _ _ _ _ _ => ?_)
          | (refine m_Sh_pvl fun _ _ _ _ _ => ?_)
          | (refine m_Sh_pvr fun _ _ _ _ _ _ => ?_)
          | (refine m_Sh_bn fun _ => ?_)
          | (refine m_Sh_bv ?_ (fun _ => ?_) (fun _ _ => ?_))
          | (refine m_Sh_bi ?_ (fun _ _ => ?_) (fun _ _ => ?_))
          | (refine m_Sh_bl ?_ (fun _ _ => ?_) (fun _ _ => ?_))
          | (refine m_Sh_br ?_ (fun _ _ _ => ?_) (fun _ _ => ?_))
          | (refine m_Sh_if ?_ ?_)
          | (refine m_Sh_bif ?_ ?_)
          | split
