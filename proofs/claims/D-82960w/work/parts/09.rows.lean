section AR
variable {p : Program} {l : Launch} {e : Env} {R : Room} {s : State} {m : MethodId} {args : Array Value} {below : List Frame} {meth : Method} {c : Code}
variable {E : Nat × (Nat → Nat)} {dA : Nat → ClassId} {D : va_G} {nL pc : Nat} {ls : mL} {st t : List mV} {w : mW} {r : mR} {cc : ByteArray}

theorem a_z32 : a_i32 0 := ⟨by decide, by decide⟩
theorem a_b8 {v : Int} (h : -128 ≤ v ∧ v < 128) : (Int8.ofInt v).toInt32 = Int32.ofInt v := Int32.toInt_inj.mp (by
  rw [Int8.toInt_toInt32, Int8.toInt_ofInt_of_le (by omega) (by omega), a_toI ⟨by omega, by omega⟩])
theorem a_b16 {v : Int} (h : -32768 ≤ v ∧ v < 32768) : (Int16.ofInt v).toInt32 = Int32.ofInt v := Int32.toInt_inj.mp (by
  rw [Int16.toInt_toInt32, Int16.toInt_ofInt_of_le (by omega) (by omega), a_toI ⟨by omega, by omega⟩])
theorem s_iadd {x y : Int} (hx : p.tables.exec = Jvm.exec) (hb : c.code = cc) (hd : decode cc pc = .ok (.iadd, 1)) (k : a_W p l e R s m args below meth c E dA D nL (pc + 1) ls (m_li (w32 (x + y)) :: t) w r) : a_W p l e R s m args below meth c E dA D nL pc ls (.inl y :: .inl x :: t) w r := by
  intro H locs lsR hS hl hlo hso
  have o0 := List.forall_mem_cons.mp hso
  have o1 := List.forall_mem_cons.mp o0.2
  have q := k H locs lsR hS hl hlo (List.forall_mem_cons.mpr ⟨a_w32_in _, o1.2⟩)
  exact lv_iadd hx hb hd (by rw [← a_iadd]; exact q)
theorem s_isub {x y : Int} (hx : p.tables.exec = Jvm.exec) (hb : c.code = cc) (hd : decode cc pc = .ok (.isub, 1)) (k : a_W p l e R s m args below meth c E dA D nL (pc + 1) ls (m_li (w32 (x - y)) :: t) w r) : a_W p l e R s m args below meth c E dA D nL pc ls (.inl y :: .inl x :: t) w r := by
  intro H locs lsR hS hl hlo hso
  have o0 := List.forall_mem_cons.mp hso
  have o1 := List.forall_mem_cons.mp o0.2
  have q := k H locs lsR hS hl hlo (List.forall_mem_cons.mpr ⟨a_w32_in _, o1.2⟩)
  exact lv_isub hx hb hd (by rw [← a_isub]; exact q)
theorem s_imul {x y : Int} (hx : p.tables.exec = Jvm.exec) (hb : c.code = cc) (hd : decode cc pc = .ok (.imul, 1)) (k : a_W p l e R s m args below meth c E dA D nL (pc + 1) ls (m_li (w32 (x * y)) :: t) w r) : a_W p l e R s m args below meth c E dA D nL pc ls (.inl y :: .inl x :: t) w r := by
  intro H locs lsR hS hl hlo hso
  have o0 := List.forall_mem_cons.mp hso
  have o1 := List.forall_mem_cons.mp o0.2
  have q := k H locs lsR hS hl hlo (List.forall_mem_cons.mpr ⟨a_w32_in _, o1.2⟩)
  exact lv_imul hx hb hd (by rw [← a_imul]; exact q)
theorem a_ofI (x : Int32) : Int32.ofInt x.toInt = x := Int32.ofInt_toInt x
theorem a_ofL (x : Int64) : Int64.ofInt x.toInt = x := Int64.ofInt_toInt x
theorem s_iand {x y : Int} (hx : p.tables.exec = Jvm.exec) (hb : c.code = cc) (hd : decode cc pc = .ok (.iand, 1)) (k : a_W p l e R s m args below meth c E dA D nL (pc + 1) ls (m_li (m_iand x y) :: t) w r) : a_W p l e R s m args below meth c E dA D nL pc ls (.inl y :: .inl x :: t) w r := by
  intro H locs lsR hS hl hlo hso
  have o0 := List.forall_mem_cons.mp hso
  have o1 := List.forall_mem_cons.mp o0.2
  have q := k H locs lsR hS hl hlo (List.forall_mem_cons.mpr ⟨a_I_in _, o1.2⟩)
  exact lv_iand hx hb hd (by rw [← a_ofI (Int32.ofInt x &&& Int32.ofInt y)]; exact q)
theorem s_ior {x y : Int} (hx : p.tables.exec = Jvm.exec) (hb : c.code = cc) (hd : decode cc pc = .ok (.ior, 1)) (k : a_W p l e R s m args below meth c E dA D nL (pc + 1) ls (m_li (m_ior x y) :: t) w r) : a_W p l e R s m args below meth c E dA D nL pc ls (.inl y :: .inl x :: t) w r := by
  intro H locs lsR hS hl hlo hso
  have o0 := List.forall_mem_cons.mp hso
  have o1 := List.forall_mem_cons.mp o0.2
  have q := k H locs lsR hS hl hlo (List.forall_mem_cons.mpr ⟨a_I_in _, o1.2⟩)
  exact lv_ior hx hb hd (by rw [← a_ofI (Int32.ofInt x ||| Int32.ofInt y)]; exact q)
theorem s_ishl {x y : Int} (hx : p.tables.exec = Jvm.exec) (hb : c.code = cc) (hd : decode cc pc = .ok (.ishl, 1)) (k : a_W p l e R s m args below meth c E dA D nL (pc + 1) ls (m_li (m_ishl x y) :: t) w r) : a_W p l e R s m args below meth c E dA D nL pc ls (.inl y :: .inl x :: t) w r := by
  intro H locs lsR hS hl hlo hso
  have o0 := List.forall_mem_cons.mp hso
  have o1 := List.forall_mem_cons.mp o0.2
  have q := k H locs lsR hS hl hlo (List.forall_mem_cons.mpr ⟨a_I_in _, o1.2⟩)
  exact lv_ishl hx hb hd (by rw [← a_ofI (Int32.ofInt x <<< ( Int32.ofInt y &&& 31))]; exact q)
theorem s_ishr {x y : Int} (hx : p.tables.exec = Jvm.exec) (hb : c.code = cc) (hd : decode cc pc = .ok (.ishr, 1)) (k : a_W p l e R s m args below meth c E dA D nL (pc + 1) ls (m_li (m_ishr x y) :: t) w r) : a_W p l e R s m args below meth c E dA D nL pc ls (.inl y :: .inl x :: t) w r := by
  intro H locs lsR hS hl hlo hso
  have o0 := List.forall_mem_cons.mp hso
  have o1 := List.forall_mem_cons.mp o0.2
  have q := k H locs lsR hS hl hlo (List.forall_mem_cons.mpr ⟨a_I_in _, o1.2⟩)
  exact lv_ishr hx hb hd (by rw [← a_ofI (Int32.ofInt x >>> ( Int32.ofInt y &&& 31))]; exact q)
theorem s_idiv {x y : Int} (hx : p.tables.exec = Jvm.exec) (hb : c.code = cc) (hd : decode cc pc = .ok (.idiv, 1)) (h0 : y ≠ 0) (k : a_W p l e R s m args below meth c E dA D nL (pc + 1) ls (m_li (w32 (x.tdiv y)) :: t) w r) : a_W p l e R s m args below meth c E dA D nL pc ls (.inl y :: .inl x :: t) w r := by
  intro H locs lsR hS hl hlo hso
  have o0 := List.forall_mem_cons.mp hso
  have o1 := List.forall_mem_cons.mp o0.2
  have q := k H locs lsR hS hl hlo (List.forall_mem_cons.mpr ⟨a_w32_in _, o1.2⟩)
  exact lv_idiv hx hb hd (a_ne0 o0.1 h0) (by rw [← a_idiv o1.1 o0.1]; exact q)
theorem s_irem {x y : Int} (hx : p.tables.exec = Jvm.exec) (hb : c.code = cc) (hd : decode cc pc = .ok (.irem, 1)) (h0 : y ≠ 0) (k : a_W p l e R s m args below meth c E dA D nL (pc + 1) ls (m_li (x.tmod y) :: t) w r) : a_W p l e R s m args below meth c E dA D nL pc ls (.inl y :: .inl x :: t) w r := by
  intro H locs lsR hS hl hlo hso
  have o0 := List.forall_mem_cons.mp hso
  have o1 := List.forall_mem_cons.mp o0.2
  have q := k H locs lsR hS hl hlo (List.forall_mem_cons.mpr ⟨a_tmod32 o1.1 h0, o1.2⟩)
  exact lv_irem hx hb hd (a_ne0 o0.1 h0) (by rw [← a_irem o1.1 o0.1 h0]; exact q)
theorem s_ineg {x : Int} (hx : p.tables.exec = Jvm.exec) (hb : c.code = cc) (hd : decode cc pc = .ok (.ineg, 1)) (k : a_W p l e R s m args below meth c E dA D nL (pc + 1) ls (m_li (w32 (-x)) :: t) w r) : a_W p l e R s m args below meth c E dA D nL pc ls (.inl x :: t) w r := by
  intro H locs lsR hS hl hlo hso
  have o0 := List.forall_mem_cons.mp hso
  have q := k H locs lsR hS hl hlo (List.forall_mem_cons.mpr ⟨a_w32_in _, o0.2⟩)
  exact lv_ineg hx hb hd (by rw [← a_ineg]; exact q)
theorem s_ladd {x y : Int} (hx : p.tables.exec = Jvm.exec) (hb : c.code = cc) (hd : decode cc pc = .ok (.ladd, 1)) (k : a_W p l e R s m args below meth c E dA D nL (pc + 1) ls (m_ll (w64 (x + y)) :: t) w r) : a_W p l e R s m args below meth c E dA D nL pc ls (.inr (.inl y) :: .inr (.inl x) :: t) w r := by
  intro H locs lsR hS hl hlo hso
  have o0 := List.forall_mem_cons.mp hso
  have o1 := List.forall_mem_cons.mp o0.2
  have q := k H locs lsR hS hl hlo (List.forall_mem_cons.mpr ⟨a_w64_in _, o1.2⟩)
  exact lv_ladd hx hb hd (by rw [← a_ladd]; exact q)
theorem s_lsub {x y : Int} (hx : p.tables.exec = Jvm.exec) (hb : c.code = cc) (hd : decode cc pc = .ok (.lsub, 1)) (k : a_W p l e R s m args below meth c E dA D nL (pc + 1) ls (m_ll (w64 (x - y)) :: t) w r) : a_W p l e R s m args below meth c E dA D nL pc ls (.inr (.inl y) :: .inr (.inl x) :: t) w r := by
  intro H locs lsR hS hl hlo hso
  have o0 := List.forall_mem_cons.mp hso
  have o1 := List.forall_mem_cons.mp o0.2
  have q := k H locs lsR hS hl hlo (List.forall_mem_cons.mpr ⟨a_w64_in _, o1.2⟩)
  exact lv_lsub hx hb hd (by rw [← a_lsub]; exact q)
theorem s_lmul {x y : Int} (hx : p.tables.exec = Jvm.exec) (hb : c.code = cc) (hd : decode cc pc = .ok (.lmul, 1)) (k : a_W p l e R s m args below meth c E dA D nL (pc + 1) ls (m_ll (w64 (x * y)) :: t) w r) : a_W p l e R s m args below meth c E dA D nL pc ls (.inr (.inl y) :: .inr (.inl x) :: t) w r := by
  intro H locs lsR hS hl hlo hso
  have o0 := List.forall_mem_cons.mp hso
  have o1 := List.forall_mem_cons.mp o0.2
  have q := k H locs lsR hS hl hlo (List.forall_mem_cons.mpr ⟨a_w64_in _, o1.2⟩)
  exact lv_lmul hx hb hd (by rw [← a_lmul]; exact q)
theorem s_land {x y : Int} (hx : p.tables.exec = Jvm.exec) (hb : c.code = cc) (hd : decode cc pc = .ok (.land, 1)) (k : a_W p l e R s m args below meth c E dA D nL (pc + 1) ls (m_ll (m_land x y) :: t) w r) : a_W p l e R s m args below meth c E dA D nL pc ls (.inr (.inl y) :: .inr (.inl x) :: t) w r := by
  intro H locs lsR hS hl hlo hso
  have o0 := List.forall_mem_cons.mp hso
  have o1 := List.forall_mem_cons.mp o0.2
  have q := k H locs lsR hS hl hlo (List.forall_mem_cons.mpr ⟨a_L_in _, o1.2⟩)
  exact lv_land hx hb hd (by rw [← a_ofL (Int64.ofInt x &&& Int64.ofInt y)]; exact q)
theorem s_lor {x y : Int} (hx : p.tables.exec = Jvm.exec) (hb : c.code = cc) (hd : decode cc pc = .ok (.lor, 1)) (k : a_W p l e R s m args below meth c E dA D nL (pc + 1) ls (m_ll (m_lor x y) :: t) w r) : a_W p l e R s m args below meth c E dA D nL pc ls (.inr (.inl y) :: .inr (.inl x) :: t) w r := by
  intro H locs lsR hS hl hlo hso
  have o0 := List.forall_mem_cons.mp hso
  have o1 := List.forall_mem_cons.mp o0.2
  have q := k H locs lsR hS hl hlo (List.forall_mem_cons.mpr ⟨a_L_in _, o1.2⟩)
  exact lv_lor hx hb hd (by rw [← a_ofL (Int64.ofInt x ||| Int64.ofInt y)]; exact q)
theorem s_lxor {x y : Int} (hx : p.tables.exec = Jvm.exec) (hb : c.code = cc) (hd : decode cc pc = .ok (.lxor, 1)) (k : a_W p l e R s m args below meth c E dA D nL (pc + 1) ls (m_ll (m_lxor x y) :: t) w r) : a_W p l e R s m args below meth c E dA D nL pc ls (.inr (.inl y) :: .inr (.inl x) :: t) w r := by
  intro H locs lsR hS hl hlo hso
  have o0 := List.forall_mem_cons.mp hso
  have o1 := List.forall_mem_cons.mp o0.2
  have q := k H locs lsR hS hl hlo (List.forall_mem_cons.mpr ⟨a_L_in _, o1.2⟩)
  exact lv_lxor hx hb hd (by rw [← a_ofL (Int64.ofInt x ^^^ Int64.ofInt y)]; exact q)
theorem s_ldiv {x y : Int} (hx : p.tables.exec = Jvm.exec) (hb : c.code = cc) (hd : decode cc pc = .ok (.ldiv, 1)) (h0 : y ≠ 0) (k : a_W p l e R s m args below meth c E dA D nL (pc + 1) ls (m_ll (w64 (x.tdiv y)) :: t) w r) : a_W p l e R s m args below meth c E dA D nL pc ls (.inr (.inl y) :: .inr (.inl x) :: t) w r := by
  intro H locs lsR hS hl hlo hso
  have o0 := List.forall_mem_cons.mp hso
  have o1 := List.forall_mem_cons.mp o0.2
  have q := k H locs lsR hS hl hlo (List.forall_mem_cons.mpr ⟨a_w64_in _, o1.2⟩)
  exact lv_ldiv hx hb hd (a_lne0 o0.1 h0) (by rw [← a_ldiv o1.1 o0.1]; exact q)
theorem s_lrem {x y : Int} (hx : p.tables.exec = Jvm.exec) (hb : c.code = cc) (hd : decode cc pc = .ok (.lrem, 1)) (h0 : y ≠ 0) (k : a_W p l e R s m args below meth c E dA D nL (pc + 1) ls (m_ll (x.tmod y) :: t) w r) : a_W p l e R s m args below meth c E dA D nL pc ls (.inr (.inl y) :: .inr (.inl x) :: t) w r := by
  intro H locs lsR hS hl hlo hso
  have o0 := List.forall_mem_cons.mp hso
  have o1 := List.forall_mem_cons.mp o0.2
  have q := k H locs lsR hS hl hlo (List.forall_mem_cons.mpr ⟨a_tmod64 o1.1 h0, o1.2⟩)
  exact lv_lrem hx hb hd (a_lne0 o0.1 h0) (by rw [← a_lrem o1.1 o0.1 h0]; exact q)
theorem s_lneg {x : Int} (hx : p.tables.exec = Jvm.exec) (hb : c.code = cc) (hd : decode cc pc = .ok (.lneg, 1)) (k : a_W p l e R s m args below meth c E dA D nL (pc + 1) ls (m_ll (w64 (-x)) :: t) w r) : a_W p l e R s m args below meth c E dA D nL pc ls (.inr (.inl x) :: t) w r := by
  intro H locs lsR hS hl hlo hso
  have o0 := List.forall_mem_cons.mp hso
  have q := k H locs lsR hS hl hlo (List.forall_mem_cons.mpr ⟨a_w64_in _, o0.2⟩)
  exact lv_lneg hx hb hd (by rw [← a_lneg]; exact q)
theorem s_lshl {x y : Int} (hx : p.tables.exec = Jvm.exec) (hb : c.code = cc) (hd : decode cc pc = .ok (.lshl, 1)) (k : a_W p l e R s m args below meth c E dA D nL (pc + 1) ls (m_ll (m_lshl x y) :: t) w r) : a_W p l e R s m args below meth c E dA D nL pc ls (.inl y :: .inr (.inl x) :: t) w r := by
  intro H locs lsR hS hl hlo hso
  have o0 := List.forall_mem_cons.mp hso
  have o1 := List.forall_mem_cons.mp o0.2
  have q := k H locs lsR hS hl hlo (List.forall_mem_cons.mpr ⟨a_L_in _, o1.2⟩)
  exact lv_lshl hx hb hd (a_ofL _).symm q
theorem s_lshr {x y : Int} (hx : p.tables.exec = Jvm.exec) (hb : c.code = cc) (hd : decode cc pc = .ok (.lshr, 1)) (k : a_W p l e R s m args below meth c E dA D nL (pc + 1) ls (m_ll (m_lshr x y) :: t) w r) : a_W p l e R s m args below meth c E dA D nL pc ls (.inl y :: .inr (.inl x) :: t) w r := by
  intro H locs lsR hS hl hlo hso
  have o0 := List.forall_mem_cons.mp hso
  have o1 := List.forall_mem_cons.mp o0.2
  have q := k H locs lsR hS hl hlo (List.forall_mem_cons.mpr ⟨a_L_in _, o1.2⟩)
  exact lv_lshr hx hb hd (a_ofL _).symm q
theorem s_lcmp {x y : Int} (hx : p.tables.exec = Jvm.exec) (hb : c.code = cc) (hd : decode cc pc = .ok (.lcmp, 1)) (k : a_W p l e R s m args below meth c E dA D nL (pc + 1) ls (m_li (m_lcmp x y) :: t) w r) : a_W p l e R s m args below meth c E dA D nL pc ls (.inr (.inl y) :: .inr (.inl x) :: t) w r := by
  intro H locs lsR hS hl hlo hso
  have o0 := List.forall_mem_cons.mp hso
  have o1 := List.forall_mem_cons.mp o0.2
  have q := k H locs lsR hS hl hlo (List.forall_mem_cons.mpr ⟨a_lcmp_in _ _, o1.2⟩)
  exact W.lcmp hx hb hd (by rw [a_lcmp o1.1 o0.1]; exact q)
theorem s_i2l {x : Int} (hx : p.tables.exec = Jvm.exec) (hb : c.code = cc) (hd : decode cc pc = .ok (.i2l, 1)) (k : a_W p l e R s m args below meth c E dA D nL (pc + 1) ls (m_ll x :: t) w r) : a_W p l e R s m args below meth c E dA D nL pc ls (.inl x :: t) w r := by
  intro H locs lsR hS hl hlo hso
  have o0 := List.forall_mem_cons.mp hso
  have q := k H locs lsR hS hl hlo (List.forall_mem_cons.mpr ⟨(show a_i64 x from ⟨by have := o0.1.1; omega, by have := o0.1.2; omega⟩), o0.2⟩)
  exact lv_i2l hx hb hd (a_i2l o0.1) q
theorem s_l2i {x : Int} (hx : p.tables.exec = Jvm.exec) (hb : c.code = cc) (hd : decode cc pc = .ok (.l2i, 1)) (k : a_W p l e R s m args below meth c E dA D nL (pc + 1) ls (m_li (w32 x) :: t) w r) : a_W p l e R s m args below meth c E dA D nL pc ls (.inr (.inl x) :: t) w r := by
  intro H locs lsR hS hl hlo hso
  have o0 := List.forall_mem_cons.mp hso
  have q := k H locs lsR hS hl hlo (List.forall_mem_cons.mpr ⟨a_w32_in _, o0.2⟩)
  exact lv_l2i hx hb hd (a_l2i o0.1) q
theorem s_i2b {x : Int} (hx : p.tables.exec = Jvm.exec) (hb : c.code = cc) (hd : decode cc pc = .ok (.i2b, 1)) (k : a_W p l e R s m args below meth c E dA D nL (pc + 1) ls (m_li (w8 x) :: t) w r) : a_W p l e R s m args below meth c E dA D nL pc ls (.inl x :: t) w r := by
  intro H locs lsR hS hl hlo hso
  have o0 := List.forall_mem_cons.mp hso
  have q := k H locs lsR hS hl hlo (List.forall_mem_cons.mpr ⟨a_w8_32 _, o0.2⟩)
  exact lv_i2b hx hb hd (a_i2b o0.1) q
theorem s_i2s {x : Int} (hx : p.tables.exec = Jvm.exec) (hb : c.code = cc) (hd : decode cc pc = .ok (.i2s, 1)) (k : a_W p l e R s m args below meth c E dA D nL (pc + 1) ls (m_li (w16 x) :: t) w r) : a_W p l e R s m args below meth c E dA D nL pc ls (.inl x :: t) w r := by
  intro H locs lsR hS hl hlo hso
  have o0 := List.forall_mem_cons.mp hso
  have q := k H locs lsR hS hl hlo (List.forall_mem_cons.mpr ⟨a_w16_32 _, o0.2⟩)
  exact lv_i2s hx hb hd (a_i2s o0.1) q
theorem s_i2c {x : Int} (hx : p.tables.exec = Jvm.exec) (hb : c.code = cc) (hd : decode cc pc = .ok (.i2c, 1)) (k : a_W p l e R s m args below meth c E dA D nL (pc + 1) ls (m_li (x % 65536) :: t) w r) : a_W p l e R s m args below meth c E dA D nL pc ls (.inl x :: t) w r := by
  intro H locs lsR hS hl hlo hso
  have o0 := List.forall_mem_cons.mp hso
  have q := k H locs lsR hS hl hlo (List.forall_mem_cons.mpr ⟨a_c_32 _, o0.2⟩)
  exact lv_i2c hx hb hd (a_i2c o0.1) q
theorem s_iconst {v : Int} (hx : p.tables.exec = Jvm.exec) (hb : c.code = cc) (hd : decode cc pc = .ok (.iconst v, 1)) (hv : a_i32 v) (k : a_W p l e R s m args below meth c E dA D nL (pc + 1) ls (m_li v :: t) w r) : a_W p l e R s m args below meth c E dA D nL pc ls (t) w r := by
  intro H locs lsR hS hl hlo hso
  have q := k H locs lsR hS hl hlo (List.forall_mem_cons.mpr ⟨hv, hso⟩)
  exact lv_iconst hx hb hd rfl q
theorem s_bipush {v : Int} (hx : p.tables.exec = Jvm.exec) (hb : c.code = cc) (hd : decode cc pc = .ok (.bipush v, 2)) (hv : -128 ≤ v ∧ v < 128) (k : a_W p l e R s m args below meth c E dA D nL (pc + 2) ls (m_li v :: t) w r) : a_W p l e R s m args below meth c E dA D nL pc ls (t) w r := by
  intro H locs lsR hS hl hlo hso
  have q := k H locs lsR hS hl hlo (List.forall_mem_cons.mpr ⟨(show a_i32 v from ⟨by omega, by omega⟩), hso⟩)
  exact lv_bipush hx hb hd (a_b8 hv) q
theorem s_sipush {v : Int} (hx : p.tables.exec = Jvm.exec) (hb : c.code = cc) (hd : decode cc pc = .ok (.sipush v, 3)) (hv : -32768 ≤ v ∧ v < 32768) (k : a_W p l e R s m args below meth c E dA D nL (pc + 3) ls (m_li v :: t) w r) : a_W p l e R s m args below meth c E dA D nL pc ls (t) w r := by
  intro H locs lsR hS hl hlo hso
  have q := k H locs lsR hS hl hlo (List.forall_mem_cons.mpr ⟨(show a_i32 v from ⟨by omega, by omega⟩), hso⟩)
  exact lv_sipush hx hb hd (a_b16 hv) q
theorem s_lconst {v : Fin 2} (hx : p.tables.exec = Jvm.exec) (hb : c.code = cc) (hd : decode cc pc = .ok (.lconst v, 1)) (k : a_W p l e R s m args below meth c E dA D nL (pc + 1) ls (m_ll (v.val : Int) :: t) w r) : a_W p l e R s m args below meth c E dA D nL pc ls (t) w r := by
  intro H locs lsR hS hl hlo hso
  have q := k H locs lsR hS hl hlo (List.forall_mem_cons.mpr ⟨(show a_i64 (v.val : Int) from ⟨by omega, by omega⟩), hso⟩)
  exact lv_lconst hx hb hd (Int64.ofInt_eq_ofNat (n := v.val)).symm q
theorem s_null  (hx : p.tables.exec = Jvm.exec) (hb : c.code = cc) (hd : decode cc pc = .ok (.aconst_null, 1)) (k : a_W p l e R s m args below meth c E dA D nL (pc + 1) ls (.inr (.inr none) :: t) w r) : a_W p l e R s m args below meth c E dA D nL pc ls (t) w r := by
  intro H locs lsR hS hl hlo hso
  have q := k H locs lsR hS hl hlo (List.forall_mem_cons.mpr ⟨trivial, hso⟩)
  exact lv_null hx hb hd q
theorem s_iload {i : Nat} {x : Int} (hx : p.tables.exec = Jvm.exec) (hb : c.code = cc) (hd : decode cc pc = .ok (.iload i, 2)) (hk : m_lk ls i = some (.inl x)) (k : a_W p l e R s m args below meth c E dA D nL (pc + 2) ls (.inl x :: t) w r) : a_W p l e R s m args below meth c E dA D nL pc ls t w r := by
  intro H locs lsR hS hl hlo hso
  have q := k H locs lsR hS hl hlo (List.forall_mem_cons.mpr ⟨hlo _ (a_lk hk), hso⟩)
  exact lv_iload hx hb hd (a_lkR hl hk) q
theorem s_lload {i : Nat} {x : Int} (hx : p.tables.exec = Jvm.exec) (hb : c.code = cc) (hd : decode cc pc = .ok (.lload i, 2)) (hk : m_lk ls i = some (.inr (.inl x))) (k : a_W p l e R s m args below meth c E dA D nL (pc + 2) ls (.inr (.inl x) :: t) w r) : a_W p l e R s m args below meth c E dA D nL pc ls t w r := by
  intro H locs lsR hS hl hlo hso
  have q := k H locs lsR hS hl hlo (List.forall_mem_cons.mpr ⟨hlo _ (a_lk hk), hso⟩)
  exact lv_lload hx hb hd (a_lkR hl hk) q
theorem s_iload_n {i : Fin 4} {x : Int} (hx : p.tables.exec = Jvm.exec) (hb : c.code = cc) (hd : decode cc pc = .ok (.iload_n i, 1)) (hk : m_lk ls i.val = some (.inl x)) (k : a_W p l e R s m args below meth c E dA D nL (pc + 1) ls (.inl x :: t) w r) : a_W p l e R s m args below meth c E dA D nL pc ls t w r := by
  intro H locs lsR hS hl hlo hso
  have q := k H locs lsR hS hl hlo (List.forall_mem_cons.mpr ⟨hlo _ (a_lk hk), hso⟩)
  exact lv_iload_n hx hb hd rfl (a_lkR hl hk) q
theorem s_lload_n {i : Fin 4} {x : Int} (hx : p.tables.exec = Jvm.exec) (hb : c.code = cc) (hd : decode cc pc = .ok (.lload_n i, 1)) (hk : m_lk ls i.val = some (.inr (.inl x))) (k : a_W p l e R s m args below meth c E dA D nL (pc + 1) ls (.inr (.inl x) :: t) w r) : a_W p l e R s m args below meth c E dA D nL pc ls t w r := by
  intro H locs lsR hS hl hlo hso
  have q := k H locs lsR hS hl hlo (List.forall_mem_cons.mpr ⟨hlo _ (a_lk hk), hso⟩)
  exact lv_lload_n hx hb hd rfl (a_lkR hl hk) q
theorem s_aload {i : Nat} {x : Option (Nat × Nat)} (hx : p.tables.exec = Jvm.exec) (hb : c.code = cc) (hd : decode cc pc = .ok (.aload i, 2)) (hk : m_lk ls i = some (.inr (.inr x))) (k : a_W p l e R s m args below meth c E dA D nL (pc + 2) ls (.inr (.inr x) :: t) w r) : a_W p l e R s m args below meth c E dA D nL pc ls t w r := by
  intro H locs lsR hS hl hlo hso
  have q := k H locs lsR hS hl hlo (List.forall_mem_cons.mpr ⟨hlo _ (a_lk hk), hso⟩)
  exact (by cases x with
    | none => exact lv_aloadN hx hb hd (a_lkR hl hk) q
    | some z => exact lv_aload hx hb hd (a_lkR hl hk) q)
theorem s_aload_n {i : Fin 4} {x : Option (Nat × Nat)} (hx : p.tables.exec = Jvm.exec) (hb : c.code = cc) (hd : decode cc pc = .ok (.aload_n i, 1)) (hk : m_lk ls i.val = some (.inr (.inr x))) (k : a_W p l e R s m args below meth c E dA D nL (pc + 1) ls (.inr (.inr x) :: t) w r) : a_W p l e R s m args below meth c E dA D nL pc ls t w r := by
  intro H locs lsR hS hl hlo hso
  have q := k H locs lsR hS hl hlo (List.forall_mem_cons.mpr ⟨hlo _ (a_lk hk), hso⟩)
  exact (by cases x with
    | none => exact lv_aload_nN hx hb hd rfl (a_lkR hl hk) q
    | some z => exact lv_aload_n hx hb hd rfl (a_lkR hl hk) q)
theorem s_istore {i : Nat} {x : Int} (hx : p.tables.exec = Jvm.exec) (hb : c.code = cc) (hd : decode cc pc = .ok (.istore i, 2)) (hn : i < nL) (k : a_W p l e R s m args below meth c E dA D nL (pc + 2) (m_st1 ls i (.inl x)) t w r) : a_W p l e R s m args below meth c E dA D nL pc ls (.inl x :: t) w r := by
  intro H locs lsR hS hl hlo hso
  have o0 := List.forall_mem_cons.mp hso
  have q := fun lsR (hl : lv_has lsR nL _) => k H locs lsR hS hl (a_st1_ok hlo o0.1) o0.2
  exact lv_istore hx hb hd hl hn (a_st1 (E := E) (v := .inl x)) q
theorem s_istore_n {i : Fin 4} {x : Int} (hx : p.tables.exec = Jvm.exec) (hb : c.code = cc) (hd : decode cc pc = .ok (.istore_n i, 1)) (hn : i.val < nL) (k : a_W p l e R s m args below meth c E dA D nL (pc + 1) (m_st1 ls i.val (.inl x)) t w r) : a_W p l e R s m args below meth c E dA D nL pc ls (.inl x :: t) w r := by
  intro H locs lsR hS hl hlo hso
  have o0 := List.forall_mem_cons.mp hso
  have q := fun lsR (hl : lv_has lsR nL _) => k H locs lsR hS hl (a_st1_ok hlo o0.1) o0.2
  exact lv_istore_n hx hb hd rfl hl hn (a_st1 (E := E) (v := .inl x)) q
theorem s_lstore {i : Nat} {x : Int} (hx : p.tables.exec = Jvm.exec) (hb : c.code = cc) (hd : decode cc pc = .ok (.lstore i, 2)) (hn : i + 1 < nL) (k : a_W p l e R s m args below meth c E dA D nL (pc + 2) (m_st2 ls i (.inr (.inl x))) t w r) : a_W p l e R s m args below meth c E dA D nL pc ls (.inr (.inl x) :: t) w r := by
  intro H locs lsR hS hl hlo hso
  have o0 := List.forall_mem_cons.mp hso
  have q := fun lsR (hl : lv_has lsR nL _) => k H locs lsR hS hl (a_st2_ok hlo o0.1) o0.2
  exact lv_lstore hx hb hd hl hn (a_st2 (E := E) (v := .inr (.inl x))) q
theorem s_lstore_n {i : Fin 4} {x : Int} (hx : p.tables.exec = Jvm.exec) (hb : c.code = cc) (hd : decode cc pc = .ok (.lstore_n i, 1)) (hn : i.val + 1 < nL) (k : a_W p l e R s m args below meth c E dA D nL (pc + 1) (m_st2 ls i.val (.inr (.inl x))) t w r) : a_W p l e R s m args below meth c E dA D nL pc ls (.inr (.inl x) :: t) w r := by
  intro H locs lsR hS hl hlo hso
  have o0 := List.forall_mem_cons.mp hso
  have q := fun lsR (hl : lv_has lsR nL _) => k H locs lsR hS hl (a_st2_ok hlo o0.1) o0.2
  exact lv_lstore_n hx hb hd rfl hl hn (a_st2 (E := E) (v := .inr (.inl x))) q
theorem s_astore {i : Nat} {x : Option (Nat × Nat)} (hx : p.tables.exec = Jvm.exec) (hb : c.code = cc) (hd : decode cc pc = .ok (.astore i, 2)) (hn : i < nL) (k : a_W p l e R s m args below meth c E dA D nL (pc + 2) (m_st1 ls i (.inr (.inr x))) t w r) : a_W p l e R s m args below meth c E dA D nL pc ls (.inr (.inr x) :: t) w r := by
  intro H locs lsR hS hl hlo hso
  have o0 := List.forall_mem_cons.mp hso
  have q := fun lsR (hl : lv_has lsR nL _) => k H locs lsR hS hl (a_st1_ok hlo o0.1) o0.2
  exact (by cases x with
    | none => exact lv_astoreN hx hb hd hl hn (a_st1 (E := E) (v := .inr (.inr none))) q
    | some z => exact lv_astore hx hb hd hl hn (a_st1 (E := E) (v := .inr (.inr (some z)))) q)
theorem s_astore_n {i : Fin 4} {x : Option (Nat × Nat)} (hx : p.tables.exec = Jvm.exec) (hb : c.code = cc) (hd : decode cc pc = .ok (.astore_n i, 1)) (hn : i.val < nL) (k : a_W p l e R s m args below meth c E dA D nL (pc + 1) (m_st1 ls i.val (.inr (.inr x))) t w r) : a_W p l e R s m args below meth c E dA D nL pc ls (.inr (.inr x) :: t) w r := by
  intro H locs lsR hS hl hlo hso
  have o0 := List.forall_mem_cons.mp hso
  have q := fun lsR (hl : lv_has lsR nL _) => k H locs lsR hS hl (a_st1_ok hlo o0.1) o0.2
  exact (by cases x with
    | none => exact lv_astore_nN hx hb hd rfl hl hn (a_st1 (E := E) (v := .inr (.inr none))) q
    | some z => exact lv_astore_n hx hb hd rfl hl hn (a_st1 (E := E) (v := .inr (.inr (some z)))) q)
theorem s_iinc {i : Nat} {x v : Int} (hx : p.tables.exec = Jvm.exec) (hb : c.code = cc) (hd : decode cc pc = .ok (.iinc i v, 3)) (hn : i < nL) (hk : m_lk ls i = some (.inl x)) (k : a_W p l e R s m args below meth c E dA D nL (pc + 3) (m_st1 ls i (m_li (w32 (x + v)))) t w r) : a_W p l e R s m args below meth c E dA D nL pc ls t w r := by
  intro H locs lsR hS hl hlo hso
  have q := fun lsR (hl : lv_has lsR nL _) => k H locs lsR hS hl (a_st1_ok hlo (a_w32_in _)) hso
  obtain ⟨z, hz⟩ := List.getElem?_of_mem (List.mem_map.mpr ⟨(i, (.inl x : mV)), a_lk hk, rfl⟩ : ((i, a_v E (.inl x)) : Nat × Value) ∈ ls.map fun q => (q.1, a_v E q.2))
  exact lv_iinc hx hb hd hl hz (a_iadd x v).symm hn (a_st1 (E := E) (v := m_li (w32 (x + v)))) q
theorem s_dup_i {x : Int} (hx : p.tables.exec = Jvm.exec) (hb : c.code = cc) (hd : decode cc pc = .ok (.dup, 1)) (k : a_W p l e R s m args below meth c E dA D nL (pc + 1) ls (.inl x :: .inl x :: t) w r) : a_W p l e R s m args below meth c E dA D nL pc ls (.inl x :: t) w r := by
  intro H locs lsR hS hl hlo hso
  have o0 := List.forall_mem_cons.mp hso
  have q := k H locs lsR hS hl hlo (List.forall_mem_cons.mpr ⟨o0.1, List.forall_mem_cons.mpr ⟨o0.1, o0.2⟩⟩)
  exact lv_dup hx hb hd rfl q
theorem s_pop_i {x : Int} (hx : p.tables.exec = Jvm.exec) (hb : c.code = cc) (hd : decode cc pc = .ok (.pop, 1)) (k : a_W p l e R s m args below meth c E dA D nL (pc + 1) ls (t) w r) : a_W p l e R s m args below meth c E dA D nL pc ls (.inl x :: t) w r := by
  intro H locs lsR hS hl hlo hso
  have o0 := List.forall_mem_cons.mp hso
  have q := k H locs lsR hS hl hlo (o0.2)
  exact lv_pop hx hb hd rfl q
theorem s_dup_r {x : Option (Nat × Nat)} (hx : p.tables.exec = Jvm.exec) (hb : c.code = cc) (hd : decode cc pc = .ok (.dup, 1)) (k : a_W p l e R s m args below meth c E dA D nL (pc + 1) ls (.inr (.inr x) :: .inr (.inr x) :: t) w r) : a_W p l e R s m args below meth c E dA D nL pc ls (.inr (.inr x) :: t) w r := by
  intro H locs lsR hS hl hlo hso
  have o0 := List.forall_mem_cons.mp hso
  have q := k H locs lsR hS hl hlo (List.forall_mem_cons.mpr ⟨o0.1, List.forall_mem_cons.mpr ⟨o0.1, o0.2⟩⟩)
  exact lv_dup hx hb hd (by cases x <;> rfl) q
theorem s_pop_r {x : Option (Nat × Nat)} (hx : p.tables.exec = Jvm.exec) (hb : c.code = cc) (hd : decode cc pc = .ok (.pop, 1)) (k : a_W p l e R s m args below meth c E dA D nL (pc + 1) ls (t) w r) : a_W p l e R s m args below meth c E dA D nL pc ls (.inr (.inr x) :: t) w r := by
  intro H locs lsR hS hl hlo hso
  have o0 := List.forall_mem_cons.mp hso
  have q := k H locs lsR hS hl hlo (o0.2)
  exact lv_pop hx hb hd (by cases x <;> rfl) q
theorem s_dup2 {y : Int} {x : Option (Nat × Nat)} (hx : p.tables.exec = Jvm.exec) (hb : c.code = cc) (hd : decode cc pc = .ok (.dup2, 1)) (k : a_W p l e R s m args below meth c E dA D nL (pc + 1) ls (.inl y :: .inr (.inr x) :: .inl y :: .inr (.inr x) :: t) w r) : a_W p l e R s m args below meth c E dA D nL pc ls (.inl y :: .inr (.inr x) :: t) w r := by
  intro H locs lsR hS hl hlo hso
  have o0 := List.forall_mem_cons.mp hso
  have o1 := List.forall_mem_cons.mp o0.2
  have q := k H locs lsR hS hl hlo (List.forall_mem_cons.mpr ⟨o0.1, List.forall_mem_cons.mpr ⟨o1.1, List.forall_mem_cons.mpr ⟨o0.1, List.forall_mem_cons.mpr ⟨o1.1, o1.2⟩⟩⟩⟩)
  exact lv_dup2_11 hx hb hd rfl (by cases x <;> rfl) q
theorem s_goto {off : Int} (hx : p.tables.exec = Jvm.exec) (hb : c.code = cc) (hd : decode cc pc = .ok (.goto off, 3)) (h0 : 0 ≤ (pc : Int) + off) (k : a_W p l e R s m args below meth c E dA D nL ((pc : Int) + off).toNat ls t w r) : a_W p l e R s m args below meth c E dA D nL pc ls t w r := by
  intro H locs lsR hS hl hlo hso
  exact lv_goto hx hb hd (by omega) (k H locs lsR hS hl hlo hso)
theorem s_icmp_eq {off x y : Int} (hx : p.tables.exec = Jvm.exec) (hb : c.code = cc) (hd : decode cc pc = .ok (.if_icmp .eq off, 3)) (h0 : 0 ≤ (pc : Int) + off) (kt : x = y → a_W p l e R s m args below meth c E dA D nL ((pc : Int) + off).toNat ls t w r) (kf : ¬ x = y → a_W p l e R s m args below meth c E dA D nL (pc + 3) ls t w r) : a_W p l e R s m args below meth c E dA D nL pc ls (.inl y :: .inl x :: t) w r := by
  intro H locs lsR hS hl hlo hso
  have o0 := List.forall_mem_cons.mp hso
  have o1 := List.forall_mem_cons.mp o0.2
  have f := (a_eq o1.1 o0.1)
  exact lv_icmp_eq hx hb hd (tgt := ((pc : Int) + off).toNat) (by omega) (fun h => kt (by have h2 := f; have h3 := h; first | exact h2.mp h3 | (have h4 := h2.mp h3; omega) | exact fun h4 => h3 (h2.mpr h4)) H locs lsR hS hl hlo o1.2) (fun h => kf (by have h2 := f; have h3 := h; first | exact fun h4 => h3 (h2.mpr h4) | (have h4 : ¬ _ := fun h5 => h3 (h2.mpr h5); omega) | exact h2.mp h3) H locs lsR hS hl hlo o1.2)
theorem s_if_eq {off x : Int} (hx : p.tables.exec = Jvm.exec) (hb : c.code = cc) (hd : decode cc pc = .ok (.ifCond .eq off, 3)) (h0 : 0 ≤ (pc : Int) + off) (kt : x = 0 → a_W p l e R s m args below meth c E dA D nL ((pc : Int) + off).toNat ls t w r) (kf : ¬ x = 0 → a_W p l e R s m args below meth c E dA D nL (pc + 3) ls t w r) : a_W p l e R s m args below meth c E dA D nL pc ls (.inl x :: t) w r := by
  intro H locs lsR hS hl hlo hso
  have o0 := List.forall_mem_cons.mp hso
  have f := (a_eq o0.1 a_z32)
  exact lv_if_eq hx hb hd (tgt := ((pc : Int) + off).toNat) (by omega) (fun h => kt (by have h2 := f; have h3 := h; first | exact h2.mp h3 | (have h4 := h2.mp h3; omega) | exact fun h4 => h3 (h2.mpr h4)) H locs lsR hS hl hlo o0.2) (fun h => kf (by have h2 := f; have h3 := h; first | exact fun h4 => h3 (h2.mpr h4) | (have h4 : ¬ _ := fun h5 => h3 (h2.mpr h5); omega) | exact h2.mp h3) H locs lsR hS hl hlo o0.2)
theorem s_icmp_ne {off x y : Int} (hx : p.tables.exec = Jvm.exec) (hb : c.code = cc) (hd : decode cc pc = .ok (.if_icmp .ne off, 3)) (h0 : 0 ≤ (pc : Int) + off) (kt : ¬ x = y → a_W p l e R s m args below meth c E dA D nL ((pc : Int) + off).toNat ls t w r) (kf : x = y → a_W p l e R s m args below meth c E dA D nL (pc + 3) ls t w r) : a_W p l e R s m args below meth c E dA D nL pc ls (.inl y :: .inl x :: t) w r := by
  intro H locs lsR hS hl hlo hso
  have o0 := List.forall_mem_cons.mp hso
  have o1 := List.forall_mem_cons.mp o0.2
  have f := (a_eq o1.1 o0.1)
  exact lv_icmp_ne hx hb hd (tgt := ((pc : Int) + off).toNat) (by omega) (fun h => kt (by have h2 := f; have h3 := h; first | exact h2.mp h3 | (have h4 := h2.mp h3; omega) | exact fun h4 => h3 (h2.mpr h4)) H locs lsR hS hl hlo o1.2) (fun h => kf (by have h2 := f; have h3 := h; first | exact fun h4 => h3 (h2.mpr h4) | (have h4 : ¬ _ := fun h5 => h3 (h2.mpr h5); omega) | exact h2.mp h3) H locs lsR hS hl hlo o1.2)
theorem s_if_ne {off x : Int} (hx : p.tables.exec = Jvm.exec) (hb : c.code = cc) (hd : decode cc pc = .ok (.ifCond .ne off, 3)) (h0 : 0 ≤ (pc : Int) + off) (kt : ¬ x = 0 → a_W p l e R s m args below meth c E dA D nL ((pc : Int) + off).toNat ls t w r) (kf : x = 0 → a_W p l e R s m args below meth c E dA D nL (pc + 3) ls t w r) : a_W p l e R s m args below meth c E dA D nL pc ls (.inl x :: t) w r := by
  intro H locs lsR hS hl hlo hso
  have o0 := List.forall_mem_cons.mp hso
  have f := (a_eq o0.1 a_z32)
  exact lv_if_ne hx hb hd (tgt := ((pc : Int) + off).toNat) (by omega) (fun h => kt (by have h2 := f; have h3 := h; first | exact h2.mp h3 | (have h4 := h2.mp h3; omega) | exact fun h4 => h3 (h2.mpr h4)) H locs lsR hS hl hlo o0.2) (fun h => kf (by have h2 := f; have h3 := h; first | exact fun h4 => h3 (h2.mpr h4) | (have h4 : ¬ _ := fun h5 => h3 (h2.mpr h5); omega) | exact h2.mp h3) H locs lsR hS hl hlo o0.2)
theorem s_icmp_lt {off x y : Int} (hx : p.tables.exec = Jvm.exec) (hb : c.code = cc) (hd : decode cc pc = .ok (.if_icmp .lt off, 3)) (h0 : 0 ≤ (pc : Int) + off) (kt : x < y → a_W p l e R s m args below meth c E dA D nL ((pc : Int) + off).toNat ls t w r) (kf : ¬ x < y → a_W p l e R s m args below meth c E dA D nL (pc + 3) ls t w r) : a_W p l e R s m args below meth c E dA D nL pc ls (.inl y :: .inl x :: t) w r := by
  intro H locs lsR hS hl hlo hso
  have o0 := List.forall_mem_cons.mp hso
  have o1 := List.forall_mem_cons.mp o0.2
  have f := (a_lt o1.1 o0.1)
  exact lv_icmp_lt hx hb hd (tgt := ((pc : Int) + off).toNat) (by omega) (fun h => kt (by have h2 := f; have h3 := h; first | exact h2.mp h3 | (have h4 := h2.mp h3; omega) | exact fun h4 => h3 (h2.mpr h4)) H locs lsR hS hl hlo o1.2) (fun h => kf (by have h2 := f; have h3 := h; first | exact fun h4 => h3 (h2.mpr h4) | (have h4 : ¬ _ := fun h5 => h3 (h2.mpr h5); omega) | exact h2.mp h3) H locs lsR hS hl hlo o1.2)
theorem s_if_lt {off x : Int} (hx : p.tables.exec = Jvm.exec) (hb : c.code = cc) (hd : decode cc pc = .ok (.ifCond .lt off, 3)) (h0 : 0 ≤ (pc : Int) + off) (kt : x < 0 → a_W p l e R s m args below meth c E dA D nL ((pc : Int) + off).toNat ls t w r) (kf : ¬ x < 0 → a_W p l e R s m args below meth c E dA D nL (pc + 3) ls t w r) : a_W p l e R s m args below meth c E dA D nL pc ls (.inl x :: t) w r := by
  intro H locs lsR hS hl hlo hso
  have o0 := List.forall_mem_cons.mp hso
  have f := (a_lt o0.1 a_z32)
  exact lv_if_lt hx hb hd (tgt := ((pc : Int) + off).toNat) (by omega) (fun h => kt (by have h2 := f; have h3 := h; first | exact h2.mp h3 | (have h4 := h2.mp h3; omega) | exact fun h4 => h3 (h2.mpr h4)) H locs lsR hS hl hlo o0.2) (fun h => kf (by have h2 := f; have h3 := h; first | exact fun h4 => h3 (h2.mpr h4) | (have h4 : ¬ _ := fun h5 => h3 (h2.mpr h5); omega) | exact h2.mp h3) H locs lsR hS hl hlo o0.2)
theorem s_icmp_ge {off x y : Int} (hx : p.tables.exec = Jvm.exec) (hb : c.code = cc) (hd : decode cc pc = .ok (.if_icmp .ge off, 3)) (h0 : 0 ≤ (pc : Int) + off) (kt : ¬ x < y → a_W p l e R s m args below meth c E dA D nL ((pc : Int) + off).toNat ls t w r) (kf : x < y → a_W p l e R s m args below meth c E dA D nL (pc + 3) ls t w r) : a_W p l e R s m args below meth c E dA D nL pc ls (.inl y :: .inl x :: t) w r := by
  intro H locs lsR hS hl hlo hso
  have o0 := List.forall_mem_cons.mp hso
  have o1 := List.forall_mem_cons.mp o0.2
  have f := (a_le o0.1 o1.1)
  exact lv_icmp_ge hx hb hd (tgt := ((pc : Int) + off).toNat) (by omega) (fun h => kt (by have h2 := f; have h3 := h; first | exact h2.mp h3 | (have h4 := h2.mp h3; omega) | exact fun h4 => h3 (h2.mpr h4)) H locs lsR hS hl hlo o1.2) (fun h => kf (by have h2 := f; have h3 := h; first | exact fun h4 => h3 (h2.mpr h4) | (have h4 : ¬ _ := fun h5 => h3 (h2.mpr h5); omega) | exact h2.mp h3) H locs lsR hS hl hlo o1.2)
theorem s_if_ge {off x : Int} (hx : p.tables.exec = Jvm.exec) (hb : c.code = cc) (hd : decode cc pc = .ok (.ifCond .ge off, 3)) (h0 : 0 ≤ (pc : Int) + off) (kt : ¬ x < 0 → a_W p l e R s m args below meth c E dA D nL ((pc : Int) + off).toNat ls t w r) (kf : x < 0 → a_W p l e R s m args below meth c E dA D nL (pc + 3) ls t w r) : a_W p l e R s m args below meth c E dA D nL pc ls (.inl x :: t) w r := by
  intro H locs lsR hS hl hlo hso
  have o0 := List.forall_mem_cons.mp hso
  have f := (a_le a_z32 o0.1)
  exact lv_if_ge hx hb hd (tgt := ((pc : Int) + off).toNat) (by omega) (fun h => kt (by have h2 := f; have h3 := h; first | exact h2.mp h3 | (have h4 := h2.mp h3; omega) | exact fun h4 => h3 (h2.mpr h4)) H locs lsR hS hl hlo o0.2) (fun h => kf (by have h2 := f; have h3 := h; first | exact fun h4 => h3 (h2.mpr h4) | (have h4 : ¬ _ := fun h5 => h3 (h2.mpr h5); omega) | exact h2.mp h3) H locs lsR hS hl hlo o0.2)
theorem s_icmp_gt {off x y : Int} (hx : p.tables.exec = Jvm.exec) (hb : c.code = cc) (hd : decode cc pc = .ok (.if_icmp .gt off, 3)) (h0 : 0 ≤ (pc : Int) + off) (kt : y < x → a_W p l e R s m args below meth c E dA D nL ((pc : Int) + off).toNat ls t w r) (kf : ¬ y < x → a_W p l e R s m args below meth c E dA D nL (pc + 3) ls t w r) : a_W p l e R s m args below meth c E dA D nL pc ls (.inl y :: .inl x :: t) w r := by
  intro H locs lsR hS hl hlo hso
  have o0 := List.forall_mem_cons.mp hso
  have o1 := List.forall_mem_cons.mp o0.2
  have f := (a_lt o0.1 o1.1)
  exact lv_icmp_gt hx hb hd (tgt := ((pc : Int) + off).toNat) (by omega) (fun h => kt (by have h2 := f; have h3 := h; first | exact h2.mp h3 | (have h4 := h2.mp h3; omega) | exact fun h4 => h3 (h2.mpr h4)) H locs lsR hS hl hlo o1.2) (fun h => kf (by have h2 := f; have h3 := h; first | exact fun h4 => h3 (h2.mpr h4) | (have h4 : ¬ _ := fun h5 => h3 (h2.mpr h5); omega) | exact h2.mp h3) H locs lsR hS hl hlo o1.2)
theorem s_if_gt {off x : Int} (hx : p.tables.exec = Jvm.exec) (hb : c.code = cc) (hd : decode cc pc = .ok (.ifCond .gt off, 3)) (h0 : 0 ≤ (pc : Int) + off) (kt : 0 < x → a_W p l e R s m args below meth c E dA D nL ((pc : Int) + off).toNat ls t w r) (kf : ¬ 0 < x → a_W p l e R s m args below meth c E dA D nL (pc + 3) ls t w r) : a_W p l e R s m args below meth c E dA D nL pc ls (.inl x :: t) w r := by
  intro H locs lsR hS hl hlo hso
  have o0 := List.forall_mem_cons.mp hso
  have f := (a_lt a_z32 o0.1)
  exact lv_if_gt hx hb hd (tgt := ((pc : Int) + off).toNat) (by omega) (fun h => kt (by have h2 := f; have h3 := h; first | exact h2.mp h3 | (have h4 := h2.mp h3; omega) | exact fun h4 => h3 (h2.mpr h4)) H locs lsR hS hl hlo o0.2) (fun h => kf (by have h2 := f; have h3 := h; first | exact fun h4 => h3 (h2.mpr h4) | (have h4 : ¬ _ := fun h5 => h3 (h2.mpr h5); omega) | exact h2.mp h3) H locs lsR hS hl hlo o0.2)
theorem s_icmp_le {off x y : Int} (hx : p.tables.exec = Jvm.exec) (hb : c.code = cc) (hd : decode cc pc = .ok (.if_icmp .le off, 3)) (h0 : 0 ≤ (pc : Int) + off) (kt : ¬ y < x → a_W p l e R s m args below meth c E dA D nL ((pc : Int) + off).toNat ls t w r) (kf : y < x → a_W p l e R s m args below meth c E dA D nL (pc + 3) ls t w r) : a_W p l e R s m args below meth c E dA D nL pc ls (.inl y :: .inl x :: t) w r := by
  intro H locs lsR hS hl hlo hso
  have o0 := List.forall_mem_cons.mp hso
  have o1 := List.forall_mem_cons.mp o0.2
  have f := (a_le o1.1 o0.1)
  exact lv_icmp_le hx hb hd (tgt := ((pc : Int) + off).toNat) (by omega) (fun h => kt (by have h2 := f; have h3 := h; first | exact h2.mp h3 | (have h4 := h2.mp h3; omega) | exact fun h4 => h3 (h2.mpr h4)) H locs lsR hS hl hlo o1.2) (fun h => kf (by have h2 := f; have h3 := h; first | exact fun h4 => h3 (h2.mpr h4) | (have h4 : ¬ _ := fun h5 => h3 (h2.mpr h5); omega) | exact h2.mp h3) H locs lsR hS hl hlo o1.2)
theorem s_if_le {off x : Int} (hx : p.tables.exec = Jvm.exec) (hb : c.code = cc) (hd : decode cc pc = .ok (.ifCond .le off, 3)) (h0 : 0 ≤ (pc : Int) + off) (kt : ¬ 0 < x → a_W p l e R s m args below meth c E dA D nL ((pc : Int) + off).toNat ls t w r) (kf : 0 < x → a_W p l e R s m args below meth c E dA D nL (pc + 3) ls t w r) : a_W p l e R s m args below meth c E dA D nL pc ls (.inl x :: t) w r := by
  intro H locs lsR hS hl hlo hso
  have o0 := List.forall_mem_cons.mp hso
  have f := (a_le o0.1 a_z32)
  exact lv_if_le hx hb hd (tgt := ((pc : Int) + off).toNat) (by omega) (fun h => kt (by have h2 := f; have h3 := h; first | exact h2.mp h3 | (have h4 := h2.mp h3; omega) | exact fun h4 => h3 (h2.mpr h4)) H locs lsR hS hl hlo o0.2) (fun h => kf (by have h2 := f; have h3 := h; first | exact fun h4 => h3 (h2.mpr h4) | (have h4 : ¬ _ := fun h5 => h3 (h2.mpr h5); omega) | exact h2.mp h3) H locs lsR hS hl hlo o0.2)
theorem s_ifnonnull_n {off : Int} (hx : p.tables.exec = Jvm.exec) (hb : c.code = cc) (hd : decode cc pc = .ok (.ifnonnull off, 3)) (k : a_W p l e R s m args below meth c E dA D nL (pc + 3) ls t w r) : a_W p l e R s m args below meth c E dA D nL pc ls (.inr (.inr none) :: t) w r := by
  intro H locs lsR hS hl hlo hso
  exact lv_ifnonnullN hx hb hd (k H locs lsR hS hl hlo (List.forall_mem_cons.mp hso).2)
theorem s_ifnonnull {off : Int} {x : Nat × Nat} (hx : p.tables.exec = Jvm.exec) (hb : c.code = cc) (hd : decode cc pc = .ok (.ifnonnull off, 3)) (h0 : 0 ≤ (pc : Int) + off) (k : a_W p l e R s m args below meth c E dA D nL ((pc : Int) + off).toNat ls t w r) : a_W p l e R s m args below meth c E dA D nL pc ls (.inr (.inr (some x)) :: t) w r := by
  intro H locs lsR hS hl hlo hso
  exact lv_ifnonnull hx hb hd (by omega) (k H locs lsR hS hl hlo (List.forall_mem_cons.mp hso).2)
end AR
