section
/-! the state's fields by name; em_mk: the fields that emitting changes; mm_mk: the fields that a step changes -/
def uq_nc (u : St1) : Int32 := u.1
def uq_fc (u : St1) : Int32 := u.2.1
def uq_lv (u : St1) : Int32 := u.2.2.1
def uq_cp (u : St1) : Int32 := u.2.2.2.1
def uq_nd (u : St1) : Int32 := u.2.2.2.2.1
def uq_pn (u : St1) : Int32 := u.2.2.2.2.2.1
def uq_le (u : St1) : Int32 := u.2.2.2.2.2.2.1
def uq_wc (u : St1) : Int32 := u.2.2.2.2.2.2.2.1
def uq_ac (u : St1) : Int64 := u.2.2.2.2.2.2.2.2.1
def uq_dc (u : St1) : Int32 := u.2.2.2.2.2.2.2.2.2.1
def uq_sc (u : St1) : Int32 := u.2.2.2.2.2.2.2.2.2.2.1
def uq_a1 (u : St1) : Nat → Int32 := u.2.2.2.2.2.2.2.2.2.2.2.1
def uq_a2 (u : St1) : Nat → Int32 := u.2.2.2.2.2.2.2.2.2.2.2.2.1
def uq_a3 (u : St1) : Nat → Int32 := u.2.2.2.2.2.2.2.2.2.2.2.2.2.1
def uq_a4 (u : St1) : Nat → Int32 := u.2.2.2.2.2.2.2.2.2.2.2.2.2.2.1
def uq_a5 (u : St1) : Nat → Int32 := u.2.2.2.2.2.2.2.2.2.2.2.2.2.2.2.1
def uq_a6 (u : St1) : Nat → Int32 := u.2.2.2.2.2.2.2.2.2.2.2.2.2.2.2.2.1
def uq_a7 (u : St1) : Nat → Int32 := u.2.2.2.2.2.2.2.2.2.2.2.2.2.2.2.2.2.1
def uq_a8 (u : St1) : Nat → Int32 := u.2.2.2.2.2.2.2.2.2.2.2.2.2.2.2.2.2.2.1
def uq_a9 (u : St1) : Nat → Int32 := u.2.2.2.2.2.2.2.2.2.2.2.2.2.2.2.2.2.2.2.1
def uq_a10 (u : St1) : Nat → Int32 := u.2.2.2.2.2.2.2.2.2.2.2.2.2.2.2.2.2.2.2.2.1
def uq_a11 (u : St1) : Nat → Int32 := u.2.2.2.2.2.2.2.2.2.2.2.2.2.2.2.2.2.2.2.2.2.1
def uq_a12 (u : St1) : Nat → Int32 := u.2.2.2.2.2.2.2.2.2.2.2.2.2.2.2.2.2.2.2.2.2.2.1
def uq_a13 (u : St1) : Nat → Int32 := u.2.2.2.2.2.2.2.2.2.2.2.2.2.2.2.2.2.2.2.2.2.2.2.1
def uq_a14 (u : St1) : Nat → Int32 := u.2.2.2.2.2.2.2.2.2.2.2.2.2.2.2.2.2.2.2.2.2.2.2.2.1
def uq_a15 (u : St1) : Nat → Int32 := u.2.2.2.2.2.2.2.2.2.2.2.2.2.2.2.2.2.2.2.2.2.2.2.2.2.1
def uq_a16 (u : St1) : Nat → Int32 := u.2.2.2.2.2.2.2.2.2.2.2.2.2.2.2.2.2.2.2.2.2.2.2.2.2.2.1
def uq_a17 (u : St1) : Nat → Int32 := u.2.2.2.2.2.2.2.2.2.2.2.2.2.2.2.2.2.2.2.2.2.2.2.2.2.2.2.1
def uq_a18 (u : St1) : Nat → Int32 := u.2.2.2.2.2.2.2.2.2.2.2.2.2.2.2.2.2.2.2.2.2.2.2.2.2.2.2.2.1
def uq_a19 (u : St1) : Nat → Int32 := u.2.2.2.2.2.2.2.2.2.2.2.2.2.2.2.2.2.2.2.2.2.2.2.2.2.2.2.2.2.1
def uq_a20 (u : St1) : Nat → Int32 := u.2.2.2.2.2.2.2.2.2.2.2.2.2.2.2.2.2.2.2.2.2.2.2.2.2.2.2.2.2.2.1
def uq_a21 (u : St1) : Nat → Int32 := u.2.2.2.2.2.2.2.2.2.2.2.2.2.2.2.2.2.2.2.2.2.2.2.2.2.2.2.2.2.2.2.1
def uq_a22 (u : St1) : Nat → Int32 := u.2.2.2.2.2.2.2.2.2.2.2.2.2.2.2.2.2.2.2.2.2.2.2.2.2.2.2.2.2.2.2.2.1
def uq_a23 (u : St1) : Nat → Int32 := u.2.2.2.2.2.2.2.2.2.2.2.2.2.2.2.2.2.2.2.2.2.2.2.2.2.2.2.2.2.2.2.2.2.1
def uq_a24 (u : St1) : Nat → Int32 := u.2.2.2.2.2.2.2.2.2.2.2.2.2.2.2.2.2.2.2.2.2.2.2.2.2.2.2.2.2.2.2.2.2.2.1
def uq_a25 (u : St1) : Nat → Int32 := u.2.2.2.2.2.2.2.2.2.2.2.2.2.2.2.2.2.2.2.2.2.2.2.2.2.2.2.2.2.2.2.2.2.2.2.1
def uq_a26 (u : St1) : Nat → Int32 := u.2.2.2.2.2.2.2.2.2.2.2.2.2.2.2.2.2.2.2.2.2.2.2.2.2.2.2.2.2.2.2.2.2.2.2.2
abbrev em_E : Type := Int32 × Int32 × (Nat → Int32) × (Nat → Int32) × (Nat → Int32) × (Nat → Int32) × (Nat → Int32) × (Nat → Int32) × (Nat → Int32) × (Nat → Int32)
def em_pn (e : em_E) : Int32 := e.1
def em_le (e : em_E) : Int32 := e.2.1
def em_ho (e : em_E) : Nat → Int32 := e.2.2.1
def em_ro (e : em_E) : Nat → Int32 := e.2.2.2.1
def em_sv (e : em_E) : Nat → Int32 := e.2.2.2.2.1
def em_op (e : em_E) : Nat → Int32 := e.2.2.2.2.2.1
def em_it (e : em_E) : Nat → Int32 := e.2.2.2.2.2.2.1
def em_fs (e : em_E) : Nat → Int32 := e.2.2.2.2.2.2.2.1
def em_sn (e : em_E) : Nat → Int32 := e.2.2.2.2.2.2.2.2.1
def em_nu (e : em_E) : Nat → Int32 := e.2.2.2.2.2.2.2.2.2
abbrev mm_M : Type := Int64 × Int32 × (Nat → Int32) × (Nat → Int32) × (Nat → Int32) × (Nat → Int32) × (Nat → Int32) × (Nat → Int32)
def mm_ac (m : mm_M) : Int64 := m.1
def mm_dc (m : mm_M) : Int32 := m.2.1
def mm_me (m : mm_M) : Nat → Int32 := m.2.2.1
def mm_ri (m : mm_M) : Nat → Int32 := m.2.2.2.1
def mm_rg (m : mm_M) : Nat → Int32 := m.2.2.2.2.1
def mm_qr (m : mm_M) : Nat → Int32 := m.2.2.2.2.2.1
def mm_qv (m : mm_M) : Nat → Int32 := m.2.2.2.2.2.2.1
def mm_qw (m : mm_M) : Nat → Int32 := m.2.2.2.2.2.2.2
def em_mk (c : St1) (e : em_E) : St1 := (uq_nc c, uq_fc c, uq_lv c, uq_cp c, uq_nd c, em_pn e, em_le e, uq_wc c, uq_ac c, uq_dc c, uq_sc c, uq_a1 c, uq_a2 c, uq_a3 c, uq_a4 c, uq_a5 c, uq_a6 c, uq_a7 c, uq_a8 c, uq_a9 c, uq_a10 c, em_ho e, em_ro e, em_sv e, em_op e, em_it e, em_fs e, em_sn e, em_nu e, uq_a19 c, uq_a20 c, uq_a21 c, uq_a22 c, uq_a23 c, uq_a24 c, uq_a25 c, uq_a26 c)
def mm_mk (c : St1) (m : mm_M) : St1 := (uq_nc c, uq_fc c, uq_lv c, uq_cp c, uq_nd c, uq_pn c, uq_le c, uq_wc c, mm_ac m, mm_dc m, uq_sc c, uq_a1 c, uq_a2 c, uq_a3 c, uq_a4 c, uq_a5 c, uq_a6 c, uq_a7 c, uq_a8 c, uq_a9 c, uq_a10 c, uq_a11 c, uq_a12 c, uq_a13 c, uq_a14 c, uq_a15 c, uq_a16 c, uq_a17 c, uq_a18 c, uq_a19 c, uq_a20 c, mm_me m, mm_ri m, mm_rg m, mm_qr m, mm_qv m, mm_qw m)
theorem uq_eta (u : St1) : u = (uq_nc u, uq_fc u, uq_lv u, uq_cp u, uq_nd u, uq_pn u, uq_le u, uq_wc u, uq_ac u, uq_dc u, uq_sc u, uq_a1 u, uq_a2 u, uq_a3 u, uq_a4 u, uq_a5 u, uq_a6 u, uq_a7 u, uq_a8 u, uq_a9 u, uq_a10 u, uq_a11 u, uq_a12 u, uq_a13 u, uq_a14 u, uq_a15 u, uq_a16 u, uq_a17 u, uq_a18 u, uq_a19 u, uq_a20 u, uq_a21 u, uq_a22 u, uq_a23 u, uq_a24 u, uq_a25 u, uq_a26 u) := rfl
def em_of (u : St1) : em_E := (uq_pn u, uq_le u, uq_a11 u, uq_a12 u, uq_a13 u, uq_a14 u, uq_a15 u, uq_a16 u, uq_a17 u, uq_a18 u)
theorem em_of_mk (u : St1) : em_mk u (em_of u) = u := rfl
def mm_of (u : St1) : mm_M := (uq_ac u, uq_dc u, uq_a21 u, uq_a22 u, uq_a23 u, uq_a24 u, uq_a25 u, uq_a26 u)
theorem mm_of_mk (u : St1) : mm_mk u (mm_of u) = u := rfl
end
section
/-! bits: rows of kit/laws/BITS (a starting text), then rows of our own -/
/-! ===== Int32 by its bits: bt x i ===== -/
def bt (x : Int32) (i : Nat) : Bool := x.toBitVec.getLsbD i
theorem b_ext {x y : Int32} (h : ∀ i, i < 32 → bt x i = bt y i) : x = y := Int32.toBitVec_inj.mp (BitVec.eq_of_getLsbD_eq (fun i hi => h i hi))
theorem b_or (x y : Int32) (i : Nat) : bt (x ||| y) i = (bt x i || bt y i) := by unfold bt; rw [Int32.toBitVec_or, BitVec.getLsbD_or]
theorem b_and (x y : Int32) (i : Nat) : bt (x &&& y) i = (bt x i && bt y i) := by unfold bt; rw [Int32.toBitVec_and, BitVec.getLsbD_and]
theorem b_xor (x y : Int32) (i : Nat) : bt (x ^^^ y) i = (bt x i ^^ bt y i) := by unfold bt; rw [Int32.toBitVec_xor, BitVec.getLsbD_xor]
theorem b_big {x : Int32} {i : Nat} (h : 32 ≤ i) : bt x i = false := BitVec.getLsbD_of_ge _ _ h
theorem b_255 (i : Nat) : bt 255 i = decide (i < 8) := by
  rcases Nat.lt_or_ge i 32 with h | h
  · exact (by decide +kernel : ∀ i, i < 32 → bt 255 i = decide (i < 8)) i h
  · rw [b_big h, decide_eq_false (by omega)]
theorem b_65535 (i : Nat) : bt 65535 i = decide (i < 16) := by
  rcases Nat.lt_or_ge i 32 with h | h
  · exact (by decide +kernel : ∀ i, i < 32 → bt 65535 i = decide (i < 16)) i h
  · rw [b_big h, decide_eq_false (by omega)]
theorem b_m1 : ∀ i, i < 32 → bt (-1) i = true := by decide +kernel
theorem b_0 (i : Nat) : bt 0 i = false := BitVec.getLsbD_zero
theorem s_l : ∀ n, n < 32 → ((nI n &&& 31).toBitVec.smod 32).toNat = n := by decide +kernel
theorem s_u : ∀ n, n < 32 → (((nI n).toUInt32 &&& Int32.toUInt32 31).toBitVec % 32).toNat = n := by decide +kernel
theorem b_shl (n : Nat) (hn : n < 32) (x : Int32) {i : Nat} (hi : i < 32) : bt (x <<< (nI n &&& 31)) i = (decide (n ≤ i) && bt x (i - n)) := by
  unfold bt
  rw [Int32.toBitVec_shiftLeft]
  show (x.toBitVec <<< ((nI n &&& 31).toBitVec.smod 32).toNat).getLsbD i = _
  rw [s_l n hn, BitVec.getLsbD_shiftLeft]
  rcases Nat.lt_or_ge i n with h | h
  · simp [h, Nat.not_le.mpr h]
  · simp [hi, h, Nat.not_lt.mpr h]
theorem b_ushr (n : Nat) (hn : n < 32) (x : Int32) (i : Nat) : bt ((x.toUInt32 >>> ((nI n).toUInt32 &&& Int32.toUInt32 31)).toInt32) i = bt x (n + i) := by
  show (x.toUInt32 >>> ((nI n).toUInt32 &&& Int32.toUInt32 31)).toBitVec.getLsbD i = x.toUInt32.toBitVec.getLsbD (n + i)
  rw [UInt32.toBitVec_shiftRight]
  show (x.toUInt32.toBitVec >>> (((nI n).toUInt32 &&& Int32.toUInt32 31).toBitVec % 32).toNat).getLsbD i = _
  rw [s_u n hn, BitVec.getLsbD_ushiftRight]
theorem b_sshr (n : Nat) (hn : n < 32) (x : Int32) {i : Nat} (hi : i < 32) : bt (x >>> (nI n &&& 31)) i = if n + i < 32 then bt x (n + i) else bt x 31 := by
  unfold bt
  rw [Int32.toBitVec_shiftRight]
  show (x.toBitVec.sshiftRight ((nI n &&& 31).toBitVec.smod 32).toNat).getLsbD i = _
  rw [s_l n hn, BitVec.getLsbD_sshiftRight, BitVec.msb_eq_getLsbD_last]
  simp [hi]
theorem b_shl8 (x : Int32) {i : Nat} (hi : i < 32) : bt (x <<< ((8 : Int32) &&& 31)) i = (decide (8 ≤ i) && bt x (i - 8)) := b_shl 8 (by omega) x hi
theorem b_shl16 (x : Int32) {i : Nat} (hi : i < 32) : bt (x <<< ((16 : Int32) &&& 31)) i = (decide (16 ≤ i) && bt x (i - 16)) := b_shl 16 (by omega) x hi
theorem b_shl24 (x : Int32) {i : Nat} (hi : i < 32) : bt (x <<< ((24 : Int32) &&& 31)) i = (decide (24 ≤ i) && bt x (i - 24)) := b_shl 24 (by omega) x hi
theorem b_sshr8 (x : Int32) {i : Nat} (hi : i < 32) : bt (x >>> ((8 : Int32) &&& 31)) i = if 8 + i < 32 then bt x (8 + i) else bt x 31 := b_sshr 8 (by omega) x hi/-! one bit of a mask -/
theorem nu_and1 (x : Int32) : (x &&& 1) = 0 ↔ bt x 0 = false := by
  rw [pk_and x 1 (m := 1) (by decide), ← nI_0, nI_eq (by omega) (by omega)]
  unfold bt
  rw [BitVec.getLsbD, Nat.testBit_zero]
  simp only [Nat.pow_one, decide_eq_false_iff_not]
  omega
theorem nu_bit (x : Int32) {i : Nat} (h : i < 31) : ((x >>> (nI i &&& 31)) &&& 1) = 0 ↔ bt x i = false := by
  rw [nu_and1, b_sshr i (by omega) x (by omega), if_pos (by omega), Nat.add_zero]
theorem nu_one : ∀ i, i < 32 → bt 1 i = decide (i = 0) := by decide +kernel
theorem nu_or (x : Int32) {i j : Nat} (hi : i < 32) (hj : j < 32) : bt (x ||| ((1 : Int32) <<< (nI i &&& 31))) j = (bt x j || decide (j = i)) := by
  rw [b_or, b_shl i hi 1 hj]
  congr 1
  rcases Nat.lt_or_ge j i with h | h
  · rw [decide_eq_false (by omega), decide_eq_false (by omega), Bool.false_and]
  · rw [decide_eq_true h, nu_one _ (by omega), Bool.true_and]
    by_cases e : j = i
    · rw [decide_eq_true e, decide_eq_true (by omega)]
    · rw [decide_eq_false e, decide_eq_false (by omega)]
theorem nu_full : ∀ n, n < 25 → ∀ j, j < 32 → bt (((1 : Int32) <<< (nI n &&& 31)) - 1) j = decide (j < n) := by decide +kernel
def nu_M (m : Int32) : Nat := 4294967296 - m.toBitVec.toNat
theorem nu_grow {x y : Int32} (h : ∀ i, i < 32 → bt x i = true → bt y i = true) (hn : x ≠ y) : nu_M y < nu_M x := by
  have hx := x.toBitVec.isLt
  have hy := y.toBitVec.isLt
  have e : y = x ||| y := by
    apply b_ext
    intro i hi
    rw [b_or]
    cases hb : bt x i
    · rfl
    · rw [h i hi hb]; rfl
  have h1 : x.toBitVec.toNat ≤ y.toBitVec.toNat := by
    rw [e, Int32.toBitVec_or, BitVec.toNat_or]
    exact Nat.left_le_or
  have h2 : x.toBitVec.toNat ≠ y.toBitVec.toNat := fun z => hn (Int32.toBitVec_inj.mp (BitVec.eq_of_toNat_eq z))
  unfold nu_M
  omega
/-! narrowing of small numbers -/
theorem nu_b8 : ∀ n, n < 128 → (nI n).toInt8.toInt32 = nI n := by decide +kernel
theorem nu_b16 : ∀ n, n < 1300 → (nI n).toInt16.toInt32 = nI n := by decide +kernel
theorem nu_nb {n : Nat} (h : n < 128) : vp_nar .byte (nI n) = nI n := by rw [vp_nar_byte, nu_b8 n h]
theorem nu_ns {n : Nat} (h : n < 1300) : vp_nar .short (nI n) = nI n := by rw [vp_nar_short, nu_b16 n h]
/-! minus one against naturals -/
theorem nu_m1 {n : Nat} (h : n < 2 ^ 31) : nI n ≠ -1 := by
  intro e
  have := nI_toInt h
  rw [e] at this
  have h2 : (-1 : Int32).toInt = -1 := by decide
  omega
theorem nu_inj {a b : Nat} (ha : a < 2 ^ 31) (hb : b < 2 ^ 31) (h : nI a = nI b) : a = b := (nI_eq ha hb).mp h
theorem nu_le {x y : Int32} : x ≤ y ↔ x.toInt ≤ y.toInt := Int32.le_iff_toInt_le
theorem nu_lt {x y : Int32} : x < y ↔ x.toInt < y.toInt := Int32.lt_iff_toInt_lt
theorem nu_us {f : Nat → Int32} {k j : Nat} {x : Int32} (h : j = k) : upd f k x j = x := by rw [h, pk_us]
theorem nu_upd {f : Nat → Int32} {k j : Nat} {x : Int32} : upd f k x j = if j = k then x else f j := rfl
end
section
/-! instructions one behind another: the sequential machine -/
def sx_clip (z : Int64) : Int32 := if -32768 ≤ z then (if z ≤ 32767 then z.toInt32 else 32767) else -32768
def sx_calc (o : Nat) (n x y : Int32) (ac : Int64) : Int32 :=
  if o = 1 then n
  else if o = 13 then sx_clip ((ac + 16384) >>> ((15 : Int32).toInt64 &&& 63))
  else if o = 11 then 0
  else if o = 7 then (if -n ≤ x then (if x ≤ n then x else n) else -n)
  else if o = 8 then sx_clip (if 0 ≤ x then x.toInt64 else (-x).toInt64)
  else if o = 2 then sx_clip (x + y).toInt64
  else if o = 3 then sx_clip (x - y).toInt64
  else if o = 9 then (if x ≤ y then y else x)
  else if o = 10 then sx_clip (((x * y) + 16384) >>> ((15 : Int32) &&& 31)).toInt64
  else x * y
/-- an instruction: what, into, first, second (100: none), number -/
abbrev sx_N : Type := Nat × Nat × Nat × Nat × Int32
def sx_o (i : sx_N) : Nat := i.1
def sx_d (i : sx_N) : Nat := i.2.1
def sx_a (i : sx_N) : Nat := i.2.2.1
def sx_b (i : sx_N) : Nat := i.2.2.2.1
def sx_n (i : sx_N) : Int32 := i.2.2.2.2
def sx_m (i : sx_N) : Nat := (sx_n i).toNatClampNeg
/-- registers, accumulator, memory, ring places -/
abbrev sx_S : Type := (Nat → Int32) × Int64 × (Nat → Int32) × (Nat → Nat)
def sx_rg (s : sx_S) : Nat → Int32 := s.1
def sx_ac (s : sx_S) : Int64 := s.2.1
def sx_me (s : sx_S) : Nat → Int32 := s.2.2.1
def sx_ri (s : sx_S) : Nat → Nat := s.2.2.2
def sx_un (f : Nat → Nat) (k x : Nat) : Nat → Nat := fun j => if j = k then x else f j
theorem sx_uns {f : Nat → Nat} {k x : Nat} : sx_un f k x k = x := if_pos rfl
theorem sx_unn {f : Nat → Nat} {k x j : Nat} (h : j ≠ k) : sx_un f k x j = f j := if_neg h
def sx_pl (T ri : Nat → Nat) (m : Nat) : Nat := 32 + 8 * (m / 8) + (ri (m / 8) + T (m / 8) - m % 8) % T (m / 8)
def sx_va (T : Nat → Nat) (i : sx_N) (s : sx_S) : Int32 :=
  if sx_o i = 16 then sx_me s (sx_m i)
  else if sx_o i = 18 then sx_me s (sx_pl T (sx_ri s) (sx_m i))
  else sx_calc (sx_o i) (sx_n i) (sx_rg s (sx_a i)) (sx_rg s (sx_b i)) (sx_ac s)
def sx_ex (T : Nat → Nat) (i : sx_N) (s : sx_S) : sx_S :=
  (if sx_d i < 8 then upd (sx_rg s) (sx_d i) (sx_va T i s) else sx_rg s,
   if sx_o i = 11 then 0 else if sx_o i = 12 then sx_ac s + (sx_va T i s).toInt64 else sx_ac s,
   if sx_o i = 17 then upd (sx_me s) (sx_m i) (sx_rg s (sx_a i)) else if sx_o i = 19 then upd (sx_me s) (sx_pl T (sx_ri s) (sx_m i)) (sx_rg s (sx_a i)) else sx_me s,
   if sx_o i = 20 then sx_un (sx_ri s) (sx_m i / 8) ((sx_ri s (sx_m i / 8) + 1) % T (sx_m i / 8)) else sx_ri s)
def sx_run (T : Nat → Nat) (L : List sx_N) (s : sx_S) : sx_S := L.foldl (fun s i => sx_ex T i s) s
theorem sx_run_app (T : Nat → Nat) (L : List sx_N) (i : sx_N) (s : sx_S) : sx_run T (L ++ [i]) s = sx_ex T i (sx_run T L s) := by
  unfold sx_run
  rw [List.foldl_append]
  rfl
theorem sx_run_nil (T : Nat → Nat) (s : sx_S) : sx_run T [] s = s := rfl
def sx_wf (T : Nat → Nat) (i : sx_N) : Prop :=
  (sx_o i = 1 ∧ sx_d i < 8 ∧ sx_a i = 100 ∧ sx_b i = 100) ∨
  (sx_o i = 11 ∧ sx_d i = 8 ∧ sx_a i = 100 ∧ sx_b i = 100) ∨
  (sx_o i = 12 ∧ sx_d i = 8 ∧ sx_a i < 8 ∧ sx_b i < 8) ∨
  (sx_o i = 13 ∧ sx_d i < 8 ∧ sx_a i = 8 ∧ sx_b i = 100) ∨
  ((sx_o i = 7 ∨ sx_o i = 8) ∧ sx_d i < 8 ∧ sx_a i < 8 ∧ sx_b i = 100) ∨
  ((sx_o i = 2 ∨ sx_o i = 3 ∨ sx_o i = 9 ∨ sx_o i = 10) ∧ sx_d i < 8 ∧ sx_a i < 8 ∧ sx_b i < 8) ∨
  (sx_o i = 16 ∧ sx_d i < 8 ∧ sx_a i = 100 ∧ sx_b i = 100 ∧ ∃ m, sx_n i = nI m ∧ m < 96 ∧ (m < 32 ∨ 64 ≤ m)) ∨
  (sx_o i = 17 ∧ sx_d i = 100 ∧ sx_a i < 8 ∧ sx_b i = 100 ∧ ∃ m, sx_n i = nI m ∧ m < 96 ∧ (m < 32 ∨ 64 ≤ m)) ∨
  (sx_o i = 18 ∧ sx_d i < 8 ∧ sx_a i = 100 ∧ sx_b i = 100 ∧ ∃ f k, sx_n i = nI (8 * f + k) ∧ f < 4 ∧ k < T f ∧ T f ≤ 6) ∨
  (sx_o i = 19 ∧ sx_d i = 100 ∧ sx_a i < 8 ∧ sx_b i = 100 ∧ ∃ f k, sx_n i = nI (8 * f + k) ∧ f < 4 ∧ k < T f ∧ T f ≤ 6) ∨
  (sx_o i = 20 ∧ sx_d i = 100 ∧ sx_a i = 100 ∧ sx_b i = 100 ∧ ∃ f k, sx_n i = nI (8 * f + k) ∧ f < 4 ∧ k < T f ∧ T f ≤ 6)
/-! the instruction's fields in the arrays -/
def sx_r (d : Nat) : Int32 := if d < 9 then nI d else -1
theorem sx_r_lt {d : Nat} (h : d < 9) : sx_r d = nI d := if_pos h
theorem sx_r_no : sx_r 100 = -1 := rfl
theorem sx_r8 (d : Nat) : (sx_r d).toInt8.toInt32 = sx_r d := by
  unfold sx_r
  split
  · exact nu_b8 d (by omega)
  · decide
def sx_rep (op it fs sn nu : Nat → Int32) (L : List sx_N) : Prop :=
  ∀ i x, L[i]? = some x → op i = nI (sx_o x) ∧ it i = sx_r (sx_d x) ∧ fs i = sx_r (sx_a x) ∧ sn i = sx_r (sx_b x) ∧ nu i = sx_n x
theorem sx_app_get {L : List sx_N} {y x : sx_N} {i : Nat} (h : (L ++ [y])[i]? = some x) : (i < L.length ∧ L[i]? = some x) ∨ (i = L.length ∧ x = y) := by
  rcases Nat.lt_trichotomy i L.length with g | g | g
  · rw [List.getElem?_append_left g] at h
    exact Or.inl ⟨g, h⟩
  · subst g
    rw [List.getElem?_append_right (Nat.le_refl _), Nat.sub_self] at h
    exact Or.inr ⟨rfl, (Option.some.inj h).symm⟩
  · rw [List.getElem?_append_right (by omega), List.getElem?_eq_none (by simp only [List.length_singleton]; omega)] at h
    exact absurd h (by simp)
theorem sx_rep_put {op it fs sn nu : Nat → Int32} {L : List sx_N} (h : sx_rep op it fs sn nu L) (o d a b : Nat) (n : Int32) :
    sx_rep (upd op L.length (nI o)) (upd it L.length (sx_r d)) (upd fs L.length (sx_r a)) (upd sn L.length (sx_r b)) (upd nu L.length n) (L ++ [(o, d, a, b, n)]) := by
  intro i x hx
  rcases sx_app_get hx with ⟨g, hx'⟩ | ⟨g, hx'⟩
  · rw [pk_un (by omega), pk_un (by omega), pk_un (by omega), pk_un (by omega), pk_un (by omega)]
    exact h i x hx'
  · subst g hx'
    rw [pk_us, pk_us, pk_us, pk_us, pk_us]
    exact ⟨rfl, rfl, rfl, rfl, rfl⟩
/-! each instruction's effect -/
theorem sx_pl_fk {T ri : Nat → Nat} {f k : Nat} (hk : k < 8) : sx_pl T ri (8 * f + k) = 32 + 8 * f + (ri f + T f - k) % T f := by
  unfold sx_pl
  rw [show (8 * f + k) / 8 = f by omega, show (8 * f + k) % 8 = k by omega]
theorem sx_e1 (T : Nat → Nat) {d : Nat} (hd : d < 8) (n : Int32) (s : sx_S) : sx_ex T (1, d, 100, 100, n) s = (upd (sx_rg s) d n, sx_ac s, sx_me s, sx_ri s) := by
  simp [sx_ex, sx_va, sx_calc, sx_o, sx_d, sx_n, hd]
theorem sx_e16 (T : Nat → Nat) {d m : Nat} (hd : d < 8) (hm : m < 2 ^ 31) (s : sx_S) : sx_ex T (16, d, 100, 100, nI m) s = (upd (sx_rg s) d (sx_me s m), sx_ac s, sx_me s, sx_ri s) := by
  simp [sx_ex, sx_va, sx_o, sx_d, sx_m, sx_n, hd, nI_clamp hm]
theorem sx_e17 (T : Nat → Nat) {a m : Nat} (hm : m < 2 ^ 31) (s : sx_S) : sx_ex T (17, 100, a, 100, nI m) s = (sx_rg s, sx_ac s, upd (sx_me s) m (sx_rg s a), sx_ri s) := by
  simp [sx_ex, sx_o, sx_d, sx_a, sx_m, sx_n, nI_clamp hm]
theorem sx_e11 (T : Nat → Nat) (n : Int32) (s : sx_S) : sx_ex T (11, 8, 100, 100, n) s = (sx_rg s, 0, sx_me s, sx_ri s) := by
  simp [sx_ex, sx_o, sx_d]
theorem sx_e12 (T : Nat → Nat) (n : Int32) (a b : Nat) (s : sx_S) : sx_ex T (12, 8, a, b, n) s = (sx_rg s, sx_ac s + (sx_rg s a * sx_rg s b).toInt64, sx_me s, sx_ri s) := by
  simp [sx_ex, sx_va, sx_calc, sx_o, sx_d, sx_a, sx_b]
theorem sx_e13 (T : Nat → Nat) {d : Nat} (hd : d < 8) (n : Int32) (s : sx_S) : sx_ex T (13, d, 8, 100, n) s = (upd (sx_rg s) d (sx_clip ((sx_ac s + 16384) >>> ((15 : Int32).toInt64 &&& 63))), sx_ac s, sx_me s, sx_ri s) := by
  simp [sx_ex, sx_va, sx_calc, sx_o, sx_d, hd]
theorem sx_e18 (T : Nat → Nat) {d m : Nat} (hd : d < 8) (hm : m < 2 ^ 31) (s : sx_S) : sx_ex T (18, d, 100, 100, nI m) s = (upd (sx_rg s) d (sx_me s (sx_pl T (sx_ri s) m)), sx_ac s, sx_me s, sx_ri s) := by
  simp [sx_ex, sx_va, sx_o, sx_d, sx_m, sx_n, hd, nI_clamp hm]
theorem sx_e19 (T : Nat → Nat) {a m : Nat} (hm : m < 2 ^ 31) (s : sx_S) : sx_ex T (19, 100, a, 100, nI m) s = (sx_rg s, sx_ac s, upd (sx_me s) (sx_pl T (sx_ri s) m) (sx_rg s a), sx_ri s) := by
  simp [sx_ex, sx_o, sx_d, sx_a, sx_m, sx_n, nI_clamp hm]
theorem sx_e20 (T : Nat → Nat) {m : Nat} (hm : m < 2 ^ 31) (s : sx_S) : sx_ex T (20, 100, 100, 100, nI m) s = (sx_rg s, sx_ac s, sx_me s, sx_un (sx_ri s) (m / 8) ((sx_ri s (m / 8) + 1) % T (m / 8))) := by
  simp [sx_ex, sx_o, sx_d, sx_m, sx_n, nI_clamp hm]
def sx_plain (o : Nat) : Prop := o = 2 ∨ o = 3 ∨ o = 7 ∨ o = 8 ∨ o = 9 ∨ o = 10
theorem sx_ep (T : Nat → Nat) {o d a b : Nat} (ho : sx_plain o) (hd : d < 8) (n : Int32) (s : sx_S) : sx_ex T (o, d, a, b, n) s = (upd (sx_rg s) d (sx_calc o n (sx_rg s a) (sx_rg s b) (sx_ac s)), sx_ac s, sx_me s, sx_ri s) := by
  rcases ho with h | h | h | h | h | h <;> subst h <;> simp [sx_ex, sx_va, sx_o, sx_d, sx_a, sx_b, sx_n, hd]
theorem sx_calc_ac {o : Nat} (ho : sx_plain o) (n x y : Int32) (ac ac' : Int64) : sx_calc o n x y ac = sx_calc o n x y ac' := by
  rcases ho with h | h | h | h | h | h <;> subst h <;> simp [sx_calc]
theorem sx_calc_y {o : Nat} (ho : o = 7 ∨ o = 8) (n x y y' : Int32) (ac ac' : Int64) : sx_calc o n x y ac = sx_calc o n x y' ac' := by
  rcases ho with h | h <;> subst h <;> simp [sx_calc]
end
section
/-! leaf methods, over any state -/
def gi_two (k : Nat) : Prop := k = 2 ∨ k = 3 ∨ 9 ≤ k
theorem lf_isn {post : Int32 → Prop} {u : St1} {x : Int32} (i : Nat) (d : Int32) (h : i < 31) (f : bt d i = false → post 0) (g : bt d i = true → post 1) (hnd : uq_nd u = d := by rfl) (hx : x = nI i := by rfl) : wpX_isNeeded post u x := by
  subst hx
  subst hnd
  obtain ⟨nc, fc, lv, cp, nd, pn, le, wc, ac, dc, sc, a1, a2, a3, a4, a5, a6, a7, a8, a9, a10, a11, a12, a13, a14, a15, a16, a17, a18, a19, a20, a21, a22, a23, a24, a25, a26⟩ := u
  refine ek_if (nu_bit nd h) f (fun z => g ?_)
  cases hb : bt nd i
  · exact absurd hb z
  · exact hb
theorem lf_two {post : Int32 → Prop} {u : St1} {x : Int32} (k : Nat) (hk : k < 2 ^ 31) (f : gi_two k → post 1) (g : ¬ gi_two k → post 0) (hx : x = nI k := by rfl) : wpX_hasTwo post u x := by
  subst hx
  obtain ⟨nc, fc, lv, cp, nd, pn, le, wc, ac, dc, sc, a1, a2, a3, a4, a5, a6, a7, a8, a9, a10, a11, a12, a13, a14, a15, a16, a17, a18, a19, a20, a21, a22, a23, a24, a25, a26⟩ := u
  unfold gi_two at f g
  exact pk_eq k 2 (fun z => f (by omega)) (fun z => pk_eq k 3 (fun z => f (by omega)) (fun z => pk_lt k 9 (fun z => g (by omega)) (fun z => f (by omega))))
theorem lf_mem {post : Int32 → Prop} {u : St1} {x : Int32} (k : Nat) (hk : k < 2 ^ 31) (f : k < 16 → post 0) (g : 16 ≤ k → post 1) (hx : x = nI k := by rfl) : wpX_isMemory post u x := by
  subst hx
  obtain ⟨nc, fc, lv, cp, nd, pn, le, wc, ac, dc, sc, a1, a2, a3, a4, a5, a6, a7, a8, a9, a10, a11, a12, a13, a14, a15, a16, a17, a18, a19, a20, a21, a22, a23, a24, a25, a26⟩ := u
  exact pk_lt k 16 f g
theorem lf_ring {post : Int32 → Prop} {u : St1} {x : Int32} (k : Nat) (hk : k < 2 ^ 31) (f : k < 18 → post 0) (g : 18 ≤ k → post 1) (hx : x = nI k := by rfl) : wpX_isRing post u x := by
  subst hx
  obtain ⟨nc, fc, lv, cp, nd, pn, le, wc, ac, dc, sc, a1, a2, a3, a4, a5, a6, a7, a8, a9, a10, a11, a12, a13, a14, a15, a16, a17, a18, a19, a20, a21, a22, a23, a24, a25, a26⟩ := u
  exact pk_lt k 18 f g
/-- the delay of an instruction -/
def sx_dl (o : Nat) : Nat := if o = 16 ∨ o = 18 ∨ o = 10 then 2 else 1
theorem lf_delay {post : Int32 → Prop} {u : St1} {x : Int32} (k : Nat) (hk : k < 2 ^ 31) (f : post (nI (sx_dl k))) (hx : x = nI k := by rfl) : wpX_delayOf post u x := by
  subst hx
  obtain ⟨nc, fc, lv, cp, nd, pn, le, wc, ac, dc, sc, a1, a2, a3, a4, a5, a6, a7, a8, a9, a10, a11, a12, a13, a14, a15, a16, a17, a18, a19, a20, a21, a22, a23, a24, a25, a26⟩ := u
  unfold sx_dl at f
  refine pk_eq k 16 (fun z => ?_) (fun z => pk_eq k 18 (fun z => ?_) (fun z => pk_eq k 10 (fun z => ?_) (fun z => ?_)))
  · rw [if_pos (by omega)] at f; exact f
  · rw [if_pos (by omega)] at f; exact f
  · rw [if_pos (by omega)] at f; exact f
  · rw [if_neg (by omega)] at f; exact f
theorem sx_dl_in (o : Nat) : 1 ≤ sx_dl o ∧ sx_dl o ≤ 2 := by
  unfold sx_dl
  split <;> omega
theorem lf_clip {post : Int32 → Prop} {u : St1} {x : Int64} (f : post (sx_clip x)) : wpX_clipped post u x := by
  obtain ⟨nc, fc, lv, cp, nd, pn, le, wc, ac, dc, sc, a1, a2, a3, a4, a5, a6, a7, a8, a9, a10, a11, a12, a13, a14, a15, a16, a17, a18, a19, a20, a21, a22, a23, a24, a25, a26⟩ := u
  unfold sx_clip at f
  refine br_c (fun z => ?_) (fun z => ?_)
  · rw [if_pos z] at f
    exact br_c (fun z => by rw [if_pos z] at f; exact f) (fun z => by rw [if_neg z] at f; exact f)
  · rw [if_neg z] at f
    exact f
end
section
/-! the graph as the state holds it -/
def gi_N (c : St1) : Nat := (uq_nc c).toNatClampNeg
def gi_k (c : St1) (n : Nat) : Nat := (uq_a3 c n).toNatClampNeg
def gi_x (c : St1) (n : Nat) : Nat := (uq_a4 c n).toNatClampNeg
def gi_y (c : St1) (n : Nat) : Nat := (uq_a5 c n).toNatClampNeg
def gi_f (c : St1) (n : Nat) : Nat := (uq_a6 c n).toNatClampNeg
def gi_T (c : St1) (f : Nat) : Nat := (uq_a7 c f).toNatClampNeg
def gi_o (c : St1) (o : Nat) : Nat := (uq_a9 c o).toNatClampNeg
def gi_s (c : St1) (n : Nat) : Nat := (uq_a10 c n).toNatClampNeg
def gi_F (c : St1) : Nat := (uq_fc c).toNatClampNeg
def gi_D (c : St1) (n : Nat) : Prop := bt (uq_nd c) n = true
/-- one node -/
def gi_node (c : St1) (n : Nat) : Prop :=
  uq_a3 c n = nI (gi_k c n) ∧ gi_k c n ≤ 10 ∧
  (gi_k c n ≠ 1 → uq_a4 c n = nI (gi_x c n)) ∧
  (gi_k c n = 0 → gi_x c n < 2) ∧
  (gi_k c n = 5 → gi_x c n ≤ n) ∧
  (2 ≤ gi_k c n → gi_k c n ≠ 5 → gi_x c n < n) ∧
  (gi_two (gi_k c n) → uq_a5 c n = nI (gi_y c n) ∧ gi_y c n < n) ∧
  (gi_k c n = 6 → uq_a6 c n = nI (gi_f c n) ∧ gi_f c n < gi_F c)
def gi_G (c : St1) : Prop :=
  uq_nc c = nI (gi_N c) ∧ gi_N c ≤ 24 ∧ uq_fc c = nI (gi_F c) ∧ gi_F c ≤ 4 ∧
  (∀ n, n < gi_N c → gi_node c n) ∧
  (∀ n m, n < m → m < gi_N c → gi_k c n = 6 → gi_k c m = 6 → gi_f c n < gi_f c m) ∧
  (∀ f, f < gi_F c → uq_a7 c f = nI (gi_T c f) ∧ 1 ≤ gi_T c f ∧ gi_T c f ≤ 6) ∧
  (∀ o, o < 4 → uq_a9 c o = -1 ∨ (uq_a9 c o = nI (gi_o c o) ∧ gi_o c o < gi_N c))
/-- what findSame and findNeeded leave -/
def gi_C (c : St1) : Prop :=
  (∀ n, n < gi_N c → uq_a10 c n = nI (gi_s c n) ∧ gi_s c n ≤ n ∧ gi_k c (gi_s c n) = gi_k c n ∧ gi_s c (gi_s c n) = gi_s c n) ∧
  (∀ n, gi_D c n → n < gi_N c ∧ gi_s c n = n) ∧
  (∀ n, gi_D c n → 2 ≤ gi_k c n → gi_D c (gi_s c (gi_x c n)) ∧ (gi_two (gi_k c n) → gi_D c (gi_s c (gi_y c n)))) ∧
  (∀ o, o < 4 → uq_a9 c o ≠ -1 → gi_D c (gi_s c (gi_o c o)))
theorem gi_nc {c : St1} (G : gi_G c) : uq_nc c = nI (gi_N c) := G.1
theorem gi_n24 {c : St1} (G : gi_G c) : gi_N c ≤ 24 := G.2.1
theorem gi_nd {c : St1} (G : gi_G c) {n : Nat} (h : n < gi_N c) : gi_node c n := G.2.2.2.2.1 n h
theorem gi_k3 {c : St1} (G : gi_G c) {n : Nat} (h : n < gi_N c) : uq_a3 c n = nI (gi_k c n) := (gi_nd G h).1
theorem gi_k10 {c : St1} (G : gi_G c) {n : Nat} (h : n < gi_N c) : gi_k c n ≤ 10 := (gi_nd G h).2.1
theorem gi_x4 {c : St1} (G : gi_G c) {n : Nat} (h : n < gi_N c) (hk : gi_k c n ≠ 1) : uq_a4 c n = nI (gi_x c n) := (gi_nd G h).2.2.1 hk
theorem gi_xlt {c : St1} (G : gi_G c) {n : Nat} (h : n < gi_N c) (hk : 2 ≤ gi_k c n) : gi_x c n < gi_N c := by
  obtain ⟨_, _, _, _, h5, h2, _⟩ := gi_nd G h
  by_cases e : gi_k c n = 5
  · have := h5 e; omega
  · have := h2 hk e; omega
theorem gi_xln {c : St1} (G : gi_G c) {n : Nat} (h : n < gi_N c) (hk : 2 ≤ gi_k c n) (h5 : gi_k c n ≠ 5) : gi_x c n < n := (gi_nd G h).2.2.2.2.2.1 hk h5
theorem gi_y5 {c : St1} (G : gi_G c) {n : Nat} (h : n < gi_N c) (hk : gi_two (gi_k c n)) : uq_a5 c n = nI (gi_y c n) ∧ gi_y c n < n := (gi_nd G h).2.2.2.2.2.2.1 hk
theorem gi_s10 {c : St1} (C : gi_C c) {n : Nat} (h : n < gi_N c) : uq_a10 c n = nI (gi_s c n) := (C.1 n h).1
theorem gi_sle {c : St1} (C : gi_C c) {n : Nat} (h : n < gi_N c) : gi_s c n ≤ n := (C.1 n h).2.1
theorem gi_two2 {k : Nat} (h : gi_two k) : 2 ≤ k ∧ k ≠ 5 := by unfold gi_two at h; omega
/-! uses of a value -/
def em_use (c : St1) (n m : Nat) : Prop := gi_D c m ∧ 2 ≤ gi_k c m ∧ gi_k c m ≠ 5 ∧ (gi_s c (gi_x c m) = n ∨ (gi_two (gi_k c m) ∧ gi_s c (gi_y c m) = n))
def em_du (c : St1) (n m : Nat) : Prop := gi_D c m ∧ gi_k c m = 5 ∧ gi_s c (gi_x c m) = n
def em_live (c : St1) (n p : Nat) : Prop := (∃ m, p ≤ m ∧ m < gi_N c ∧ em_use c n m) ∨ (∃ m, p - 100 ≤ m ∧ m < gi_N c ∧ em_du c n m)
theorem em_live_le {c : St1} {n p q : Nat} (h : p ≤ q) (l : em_live c n q) : em_live c n p := by
  rcases l with ⟨m, a, b⟩ | ⟨m, a, b⟩
  · exact Or.inl ⟨m, by omega, b⟩
  · exact Or.inr ⟨m, by omega, b⟩
theorem gi_Dn {c : St1} {n : Nat} (h : bt (uq_nd c) n = false) : ¬ gi_D c n := by
  intro z
  unfold gi_D at z
  rw [h] at z
  exact absurd z (by decide)
/-! nextUse -/
theorem em_next110 {post : Int32 → Prop} {c : St1} {e : em_E} {v p : Nat} (G : gi_G c) (C : gi_C c) (hv : v < 24)
    (h1 : ¬ ∃ m, p ≤ m ∧ m < gi_N c ∧ em_use c v m)
    (hp : ∀ r : Nat, r ≤ 200 → (r = 200 → ¬ em_live c v p) → post (nI r)) (i : Nat) (hi : i ≤ 200) (hpi : p - 100 ≤ i) (hb : ∀ m, p - 100 ≤ m → m < i → m < gi_N c → ¬ em_du c v m) :
    ∃ n, wX_nextUse_110 post (nI v) (uq_nc c) (uq_fc c) (uq_lv c) (uq_cp c) (uq_nd c) (em_pn e) (em_le e) (uq_wc c) (uq_ac c) (uq_dc c) (uq_sc c) (uq_a1 c) (uq_a2 c) (uq_a3 c) (uq_a4 c) (uq_a5 c) (uq_a6 c) (uq_a7 c) (uq_a8 c) (uq_a9 c) (uq_a10 c) (em_ho e) (em_ro e) (em_sv e) (em_op e) (em_it e) (em_fs e) (em_sn e) (em_nu e) (uq_a19 c) (uq_a20 c) (uq_a21 c) (uq_a22 c) (uq_a23 c) (uq_a24 c) (uq_a25 c) (uq_a26 c) n (nI i) := by
  have hN := gi_n24 G
  refine loop_m (fun n i => wX_nextUse_110 post (nI v) (uq_nc c) (uq_fc c) (uq_lv c) (uq_cp c) (uq_nd c) (em_pn e) (em_le e) (uq_wc c) (uq_ac c) (uq_dc c) (uq_sc c) (uq_a1 c) (uq_a2 c) (uq_a3 c) (uq_a4 c) (uq_a5 c) (uq_a6 c) (uq_a7 c) (uq_a8 c) (uq_a9 c) (uq_a10 c) (em_ho e) (em_ro e) (em_sv e) (em_op e) (em_it e) (em_fs e) (em_sn e) (em_nu e) (uq_a19 c) (uq_a20 c) (uq_a21 c) (uq_a22 c) (uq_a23 c) (uq_a24 c) (uq_a25 c) (uq_a26 c) n (nI i)) (fun i => i ≤ 200 ∧ p - 100 ≤ i ∧ ∀ m, p - 100 ≤ m → m < i → m < gi_N c → ¬ em_du c v m) (fun i => gi_N c - i) ?_ i ⟨hi, hpi, hb⟩
  intro fu i ⟨hi, hpi, hb⟩ ih
  refine pk_le (gi_N c) i (fun z => ?_) (fun z => ?_) (gi_nc G)
  · refine hp 200 (by omega) (fun _ l => ?_)
    rcases l with l | ⟨m, a, b, d⟩
    · exact h1 l
    · exact hb m a (by omega) b d
  · have nx : ¬ em_du c v i → ∀ x, x = nI i + 1 → wX_nextUse_110 post (nI v) (uq_nc c) (uq_fc c) (uq_lv c) (uq_cp c) (uq_nd c) (em_pn e) (em_le e) (uq_wc c) (uq_ac c) (uq_dc c) (uq_sc c) (uq_a1 c) (uq_a2 c) (uq_a3 c) (uq_a4 c) (uq_a5 c) (uq_a6 c) (uq_a7 c) (uq_a8 c) (uq_a9 c) (uq_a10 c) (em_ho e) (em_ro e) (em_sv e) (em_op e) (em_it e) (em_fs e) (em_sn e) (em_nu e) (uq_a19 c) (uq_a20 c) (uq_a21 c) (uq_a22 c) (uq_a23 c) (uq_a24 c) (uq_a25 c) (uq_a26 c) fu x := by
      intro hd
      refine nm_r (nI_1 i) (ih (i + 1) ⟨by omega, by omega, ?_⟩ (by omega))
      intro m a b d
      by_cases e : m = i
      · rw [e]; exact hd
      · exact hb m a (by omega) d
    refine lf_isn i (uq_nd c) (by omega) (fun hb => ?_) (fun hb => ?_)
    · exact br_t rfl (nx (fun z => gi_Dn hb z.1))
    · refine br_f (by decide) ⟨pk_in i 24 (by omega), ?_⟩
      have k3 := gi_k3 G z
      have k10 := gi_k10 G z
      rw [pk_cl i]
      refine pk_eq (gi_k c i) 5 (fun h5 => ?_) (fun h5 => ?_) k3
      · have hx := gi_xlt G z (by omega)
        have x4 := gi_x4 G z (by omega)
        refine ⟨pk_in i 24 (by omega), pk_in (gi_x c i) 24 (by omega) x4, ?_⟩
        rw [x4, pk_cl (gi_x c i)]
        have s10 := gi_s10 C hx
        have sl := gi_sle C hx
        refine pk_eq (gi_s c (gi_x c i)) v (fun hs => ?_) (fun hs => ?_) s10
        · have := hp (100 + i) (by omega) (fun z => absurd z (by omega))
          rw [← nI_add] at this
          exact this
        · exact nx (fun z => hs z.2.2)
      · exact nx (fun z => h5 z.2.1)
theorem em_next2 {post : Int32 → Prop} {c : St1} {e : em_E} {v p : Nat} (G : gi_G c) (C : gi_C c) (hv : v < 24) (hpp : p ≤ 150)
    (hp : ∀ r : Nat, r ≤ 200 → (r = 200 → ¬ em_live c v p) → post (nI r)) :
    ∃ n, wX_nextUse_2 post (nI v) (nI p) (uq_nc c) (uq_fc c) (uq_lv c) (uq_cp c) (uq_nd c) (em_pn e) (em_le e) (uq_wc c) (uq_ac c) (uq_dc c) (uq_sc c) (uq_a1 c) (uq_a2 c) (uq_a3 c) (uq_a4 c) (uq_a5 c) (uq_a6 c) (uq_a7 c) (uq_a8 c) (uq_a9 c) (uq_a10 c) (em_ho e) (em_ro e) (em_sv e) (em_op e) (em_it e) (em_fs e) (em_sn e) (em_nu e) (uq_a19 c) (uq_a20 c) (uq_a21 c) (uq_a22 c) (uq_a23 c) (uq_a24 c) (uq_a25 c) (uq_a26 c) n (nI p) := by
  have hN := gi_n24 G
  refine loop_m (fun n i => wX_nextUse_2 post (nI v) (nI p) (uq_nc c) (uq_fc c) (uq_lv c) (uq_cp c) (uq_nd c) (em_pn e) (em_le e) (uq_wc c) (uq_ac c) (uq_dc c) (uq_sc c) (uq_a1 c) (uq_a2 c) (uq_a3 c) (uq_a4 c) (uq_a5 c) (uq_a6 c) (uq_a7 c) (uq_a8 c) (uq_a9 c) (uq_a10 c) (em_ho e) (em_ro e) (em_sv e) (em_op e) (em_it e) (em_fs e) (em_sn e) (em_nu e) (uq_a19 c) (uq_a20 c) (uq_a21 c) (uq_a22 c) (uq_a23 c) (uq_a24 c) (uq_a25 c) (uq_a26 c) n (nI i)) (fun i => i ≤ 200 ∧ p ≤ i ∧ ∀ m, p ≤ m → m < i → m < gi_N c → ¬ em_use c v m) (fun i => gi_N c - i) ?_ p ⟨by omega, by omega, fun m a b => absurd b (by omega)⟩
  intro fu i ⟨hi, hpi, hb⟩ ih
  refine pk_le (gi_N c) i (fun z => ?_) (fun z => ?_) (gi_nc G)
  · have h1 : ¬ ∃ m, p ≤ m ∧ m < gi_N c ∧ em_use c v m := by
      rintro ⟨m, a, b, d⟩
      exact hb m a (by omega) b d
    refine pk_le 100 p (fun y => ?_) (fun y => ?_)
    · exact nm_r (pk_sub (a := p) (b := 100) (by omega)) (em_next110 G C hv h1 hp (p - 100) (by omega) (by omega) (fun m a b => absurd b (by omega)))
    · exact em_next110 G C hv h1 hp 0 (by omega) (by omega) (fun m a b => absurd b (by omega))
  · have nx : ¬ em_use c v i → ∀ x, x = nI i + 1 → wX_nextUse_2 post (nI v) (nI p) (uq_nc c) (uq_fc c) (uq_lv c) (uq_cp c) (uq_nd c) (em_pn e) (em_le e) (uq_wc c) (uq_ac c) (uq_dc c) (uq_sc c) (uq_a1 c) (uq_a2 c) (uq_a3 c) (uq_a4 c) (uq_a5 c) (uq_a6 c) (uq_a7 c) (uq_a8 c) (uq_a9 c) (uq_a10 c) (em_ho e) (em_ro e) (em_sv e) (em_op e) (em_it e) (em_fs e) (em_sn e) (em_nu e) (uq_a19 c) (uq_a20 c) (uq_a21 c) (uq_a22 c) (uq_a23 c) (uq_a24 c) (uq_a25 c) (uq_a26 c) fu x := by
      intro hd
      refine nm_r (nI_1 i) (ih (i + 1) ⟨by omega, by omega, ?_⟩ (by omega))
      intro m a b d
      by_cases e : m = i
      · rw [e]; exact hd
      · exact hb m a (by omega) d
    refine lf_isn i (uq_nd c) (by omega) (fun hb => ?_) (fun hb => ?_)
    · exact br_t rfl (nx (fun z => gi_Dn hb z.1))
    · refine br_f (by decide) ⟨pk_in i 24 (by omega), ?_⟩
      have k3 := gi_k3 G z
      have k10 := gi_k10 G z
      rw [pk_cl i]
      refine pk_lt (gi_k c i) 2 (fun h2 => nx (fun z => absurd z.2.1 (by omega))) (fun h2 => ⟨pk_in i 24 (by omega), ?_⟩) k3
      refine pk_eq (gi_k c i) 5 (fun h5 => nx (fun z => z.2.2.1 h5)) (fun h5 => ?_) k3
      have hx := gi_xlt G z (by omega)
      have x4 := gi_x4 G z (by omega)
      refine ⟨pk_in i 24 (by omega), pk_in (gi_x c i) 24 (by omega) x4, ?_⟩
      rw [x4, pk_cl (gi_x c i)]
      have s10 := gi_s10 C hx
      have sl := gi_sle C hx
      have yes : post (nI i) := hp i (by omega) (fun z => absurd z (by omega))
      refine pk_eq (gi_s c (gi_x c i)) v (fun hs => yes) (fun hs => ⟨pk_in i 24 (by omega), ?_⟩) s10
      refine lf_two (gi_k c i) (by omega) (fun h2 => ?_) (fun h2 => ?_) k3
      · obtain ⟨y5, hy⟩ := gi_y5 G z h2
        refine br_f (by decide) ⟨pk_in i 24 (by omega), pk_in (gi_y c i) 24 (by omega) y5, ?_⟩
        rw [y5, pk_cl (gi_y c i)]
        have s10 := gi_s10 C (show gi_y c i < gi_N c by omega)
        have sl := gi_sle C (show gi_y c i < gi_N c by omega)
        refine pk_eq (gi_s c (gi_y c i)) v (fun hs => yes) (fun hs2 => nx (fun z => ?_)) s10
        rcases z.2.2.2 with q | q
        · exact hs q
        · exact hs2 q.2
      · refine br_t rfl (nx (fun z => ?_))
        rcases z.2.2.2 with q | q
        · exact hs q
        · exact h2 q.1
theorem em_next {post : Int32 → Prop} {c : St1} {e : em_E} {x y : Int32} (v p : Nat) (G : gi_G c) (C : gi_C c) (hv : v < 24) (hpp : p ≤ 150)
    (hp : ∀ r : Nat, r ≤ 200 → (r = 200 → ¬ em_live c v p) → post (nI r)) (hx : x = nI v) (hy : y = nI p) : wpX_nextUse post (em_mk c e) x y := by
  subst hx hy
  exact em_next2 G C hv hpp hp
end
section
/-! the value of a node out of its parts' values -/
def rf_facc (c : St1) (me : Nat → Int32) (ri : Nat → Nat) (f : Nat) : Nat → Int64
  | 0 => 0
  | k + 1 => rf_facc c me ri f k + (me (sx_pl (gi_T c) ri (8 * f + k)) * uq_a8 c (6 * f + k)).toInt64
def rf_filt (c : St1) (me : Nat → Int32) (ri : Nat → Nat) (f : Nat) (x : Int32) : Int32 :=
  sx_clip ((rf_facc c (upd me (sx_pl (gi_T c) ri (8 * f)) x) ri f (gi_T c f) + 16384) >>> ((15 : Int32).toInt64 &&& 63))
def rf_fv (c : St1) (me : Nat → Int32) (ri : Nat → Nat) (n : Nat) (x y : Int32) : Int32 :=
  if gi_k c n = 0 then me (gi_x c n)
  else if gi_k c n = 1 then uq_a4 c n
  else if gi_k c n = 5 then me (8 + n)
  else if gi_k c n = 6 then rf_filt c me ri (gi_f c n) x
  else if gi_k c n = 4 then sx_calc 10 (uq_a5 c n) x (uq_a5 c n) 0
  else sx_calc (gi_k c n) (uq_a5 c n) x y 0
/-- v is right on all needed nodes -/
def em_good (c : St1) (s0 : sx_S) (v : Nat → Int32) : Prop :=
  ∀ n, gi_D c n → v n = rf_fv c (sx_me s0) (sx_ri s0) n (v (gi_s c (gi_x c n))) (v (gi_s c (gi_y c n)))
/-! the emitting state -/
def em_rep (e : em_E) (L : List sx_N) : Prop := em_le e = nI L.length ∧ sx_rep (em_op e) (em_it e) (em_fs e) (em_sn e) (em_nu e) L
def em_hold (c : St1) (ho ro sv : Nat → Int32) : Prop :=
  (∀ r, r < 8 → ho r = -1 ∨ ∃ n, n < 24 ∧ gi_D c n ∧ ho r = nI n ∧ ro n = nI r) ∧
  (∀ n, n < 24 → ro n = -1 ∨ ∃ r, r < 8 ∧ ro n = nI r ∧ ho r = nI n) ∧
  (∀ n, n < 24 → sv n = 0 ∨ sv n = 1)
def em_av (c : St1) (cur p : Nat) (ro sv : Nat → Int32) : Prop := (∀ n, cur ≤ n → n < 24 → ro n = -1) ∧ ∀ n, n < cur → gi_D c n → em_live c n p → gi_k c n = 1 ∨ ro n ≠ -1 ∨ sv n = 1
def em_sem (c : St1) (ho sv : Nat → Int32) (L : List sx_N) : Prop := ∀ s0 v, em_good c s0 v →
  (∀ r n, r < 8 → n < 24 → ho r = nI n → sx_rg (sx_run (gi_T c) L s0) r = v n) ∧
  (∀ n, n < 24 → sv n = 1 → sx_me (sx_run (gi_T c) L s0) (64 + n) = v n)
def em_B (c : St1) (cur p : Nat) (ho ro sv : Nat → Int32) (L : List sx_N) : Prop :=
  (∀ x, x ∈ L → sx_wf (gi_T c) x) ∧ em_hold c ho ro sv ∧ em_av c cur p ro sv ∧ em_sem c ho sv L
def em_A (c : St1) (cur p : Nat) (e : em_E) (L : List sx_N) : Prop := em_rep e L ∧ em_B c cur p (em_ho e) (em_ro e) (em_sv e) L
/-- what an instruction list that only puts values away leaves as it was -/
def em_fr (c : St1) (P : Nat → Prop) (L L' : List sx_N) : Prop := ∀ s0,
  (∀ r, P r → sx_rg (sx_run (gi_T c) L' s0) r = sx_rg (sx_run (gi_T c) L s0) r) ∧ sx_ac (sx_run (gi_T c) L' s0) = sx_ac (sx_run (gi_T c) L s0) ∧
  sx_ri (sx_run (gi_T c) L' s0) = sx_ri (sx_run (gi_T c) L s0) ∧ (∀ a, a < 64 → sx_me (sx_run (gi_T c) L' s0) a = sx_me (sx_run (gi_T c) L s0) a)
theorem em_fr_refl (c : St1) (P : Nat → Prop) (L : List sx_N) : em_fr c P L L := fun s0 => ⟨fun r _ => rfl, rfl, rfl, fun a _ => rfl⟩
theorem em_fr_trans {c : St1} {P Q : Nat → Prop} {L L' L'' : List sx_N} (h : em_fr c P L L') (g : em_fr c Q L' L'') (hPQ : ∀ r, P r → Q r) : em_fr c P L L'' := by
  intro s0
  obtain ⟨h1, h2, h3, h4⟩ := h s0
  obtain ⟨g1, g2, g3, g4⟩ := g s0
  exact ⟨fun r hr => (g1 r (hPQ r hr)).trans (h1 r hr), g2.trans h2, g3.trans h3, fun a ha => (g4 a ha).trans (h4 a ha)⟩
/-! emit -/
theorem em_emit {post : St1 → Prop} {c : St1} {e : em_E} {L : List sx_N} (o d a b : Nat) (n : Int32) {p0 p1 p2 p3 p4 : Int32}
    (h : em_rep e L) (hL : L.length < 300) (ho : o < 128) (e0 : p0 = nI o) (e1 : p1 = sx_r d) (e2 : p2 = sx_r a) (e3 : p3 = sx_r b) (e4 : p4 = n)
    (hp : ∀ e', em_rep e' (L ++ [(o, d, a, b, n)]) → em_pn e' = em_pn e → em_ho e' = em_ho e → em_ro e' = em_ro e → em_sv e' = em_sv e → post (em_mk c e')) :
    wpX_emit post (em_mk c e) p0 p1 p2 p3 p4 := by
  subst e0 e1 e2 e3 e4
  obtain ⟨hl, hr⟩ := h
  have E : em_rep (em_pn e, nI (L.length + 1), em_ho e, em_ro e, em_sv e, upd (em_op e) L.length (nI o), upd (em_it e) L.length (sx_r d), upd (em_fs e) L.length (sx_r a), upd (em_sn e) L.length (sx_r b), upd (em_nu e) L.length p4) (L ++ [(o, d, a, b, p4)]) :=
    ⟨by rw [List.length_append]; rfl, sx_rep_put hr o d a b p4⟩
  have H := hp _ E rfl rfl rfl rfl
  have I := pk_in (x := em_le e) L.length 300 hL hl
  unfold wpX_emit em_mk
  dsimp only
  rw [hl] at I
  rw [hl, pk_cl L.length, nu_b8 o ho, sx_r8, sx_r8, sx_r8]
  exact ⟨I, nm_e ⟨I, nm_e ⟨I, nm_e ⟨I, nm_e ⟨I, nm_e (nm_r (nI_1 _) H)⟩⟩⟩⟩⟩
/-! putting a value away; dropping a value from its register -/
theorem em_D24 {c : St1} (G : gi_G c) (C : gi_C c) {n : Nat} (h : gi_D c n) : n < gi_N c ∧ n < 24 := by
  have := (C.2.1 n h).1
  have := gi_n24 G
  omega
theorem em_store {c : St1} {cur p : Nat} {ho ro sv : Nat → Int32} {L : List sx_N} {b n : Nat} (h : em_B c cur p ho ro sv L) (hb : b < 8) (hn : n < 24) (hh : ho b = nI n) :
    em_B c cur p ho ro (upd sv n 1) (L ++ [(17, 100, b, 100, nI (64 + n))]) ∧ em_fr c (fun _ => True) L (L ++ [(17, 100, b, 100, nI (64 + n))]) := by
  obtain ⟨w, ⟨h1, h2, h3⟩, av, sm⟩ := h
  refine ⟨⟨?_, ⟨h1, h2, ?_⟩, ?_, ?_⟩, ?_⟩
  · intro x hx
    rcases List.mem_append.mp hx with g | g
    · exact w x g
    · rw [List.mem_singleton.mp g]
      exact Or.inr (Or.inr (Or.inr (Or.inr (Or.inr (Or.inr (Or.inr (Or.inl ⟨rfl, rfl, hb, rfl, 64 + n, rfl, by omega, by omega⟩)))))))
  · intro m hm
    by_cases e : m = n
    · exact Or.inr (nu_us e)
    · rw [pk_un e]; exact h3 m hm
  · refine ⟨av.1, ?_⟩
    intro m a b d
    rcases av.2 m a b d with q | q | q
    · exact Or.inl q
    · exact Or.inr (Or.inl q)
    · refine Or.inr (Or.inr ?_)
      by_cases e : m = n
      · exact nu_us e
      · rw [pk_un e]; exact q
  · intro s0 v hg
    obtain ⟨a1, a2⟩ := sm s0 v hg
    rw [sx_run_app, sx_e17 _ (by omega)]
    refine ⟨a1, fun m hm hs => ?_⟩
    show upd _ _ _ _ = _
    by_cases e : m = n
    · rw [nu_us (by omega), e]
      exact a1 b n hb hn hh
    · rw [pk_un (by omega)]
      rw [pk_un e] at hs
      exact a2 m hm hs
  · intro s0
    rw [sx_run_app, sx_e17 _ (by omega)]
    exact ⟨fun r _ => rfl, rfl, rfl, fun a ha => pk_un (by omega)⟩
theorem em_ro_of {c : St1} {ho ro sv : Nat → Int32} (h : em_hold c ho ro sv) {r m : Nat} (hr : r < 8) (hm : m < 24) (e : ho r = nI m) : ro m = nI r ∧ gi_D c m := by
  rcases h.1 r hr with z | ⟨k, hk, hd, z, y⟩
  · exact absurd (e.symm.trans z) (nu_m1 (by omega))
  · have : k = m := nu_inj (by omega) (by omega) (z.symm.trans e)
    subst this
    exact ⟨y, hd⟩
theorem em_evict {c : St1} {cur p : Nat} {ho ro sv : Nat → Int32} {L : List sx_N} {b n : Nat} (h : em_B c cur p ho ro sv L) (hb : b < 8) (hn : n < 24) (hh : ho b = nI n) (hl : ¬ em_live c n p ∨ gi_k c n = 1 ∨ sv n = 1) :
    em_B c cur p (upd ho b (-1)) (upd ro n (-1)) sv L := by
  obtain ⟨w, hd, av, sm⟩ := h
  have rb := (em_ro_of hd hb hn hh).1
  obtain ⟨h1, h2, h3⟩ := hd
  refine ⟨w, ⟨?_, ?_, h3⟩, ?_, ?_⟩
  · intro r hr
    by_cases e : r = b
    · exact Or.inl (nu_us e)
    · rw [pk_un e]
      rcases h1 r hr with z | ⟨k, hk, hd, z, y⟩
      · exact Or.inl z
      · refine Or.inr ⟨k, hk, hd, z, ?_⟩
        rw [pk_un]
        · exact y
        · intro q
          subst q
          exact e (nu_inj (by omega) (by omega) (y.symm.trans rb))
  · intro m hm
    by_cases e : m = n
    · exact Or.inl (nu_us e)
    · rw [pk_un e]
      rcases h2 m hm with z | ⟨r, hr, z, y⟩
      · exact Or.inl z
      · refine Or.inr ⟨r, hr, z, ?_⟩
        rw [pk_un]
        · exact y
        · intro q
          subst q
          exact e (nu_inj (by omega) (by omega) (y.symm.trans hh))
  · refine ⟨fun m hm h24 => ?_, ?_⟩
    · by_cases e : m = n
      · exact nu_us e
      · rw [pk_un e]; exact av.1 m hm h24
    intro m hm hd hlv
    by_cases e : m = n
    · subst e
      rcases hl with q | q | q
      · exact absurd hlv q
      · exact Or.inl q
      · exact Or.inr (Or.inr q)
    · rw [pk_un e]
      exact av.2 m hm hd hlv
  · intro s0 v hg
    obtain ⟨a1, a2⟩ := sm s0 v hg
    refine ⟨fun r m hr hm hrm => ?_, a2⟩
    by_cases e : r = b
    · rw [nu_us e] at hrm
      exact absurd hrm.symm (nu_m1 (by omega))
    · rw [pk_un e] at hrm
      exact a1 r m hr hm hrm
/-! freeRegister -/
/-- the state behind freeRegister: register b is free and pinned -/
def em_freed (c : St1) (cur p : Nat) (e : em_E) (L : List sx_N) (b : Nat) (e' : em_E) (L' : List sx_N) : Prop :=
  b < 8 ∧ bt (em_pn e) b = false ∧ em_A c cur p e' L' ∧ L'.length ≤ L.length + 1 ∧ em_ho e' b = -1 ∧
  (∀ r, r < 8 → bt (em_pn e') r = (bt (em_pn e) r || decide (r = b))) ∧ (∀ r, r ≠ b → em_ho e' r = em_ho e r) ∧
  (∀ n, em_sv e n = 1 → em_sv e' n = 1) ∧ (∀ n, em_ro e n = -1 → em_ro e' n = -1) ∧ em_fr c (fun _ => True) L L'
theorem em_free158 {post : Int32 → St1 → Prop} {c : St1} {e : em_E} {b : Nat} (hp : ∀ e', em_le e' = em_le e → em_ho e' = em_ho e → em_ro e' = em_ro e → em_sv e' = em_sv e → em_op e' = em_op e → em_it e' = em_it e → em_fs e' = em_fs e → em_sn e' = em_sn e → em_nu e' = em_nu e → em_pn e' = em_pn e ||| ((1 : Int32) <<< (nI b &&& 31)) → post (nI b) (em_mk c e')) :
    wX_freeRegister_158 post (nI b) (uq_nc c) (uq_fc c) (uq_lv c) (uq_cp c) (uq_nd c) (em_pn e) (em_le e) (uq_wc c) (uq_ac c) (uq_dc c) (uq_sc c) (uq_a1 c) (uq_a2 c) (uq_a3 c) (uq_a4 c) (uq_a5 c) (uq_a6 c) (uq_a7 c) (uq_a8 c) (uq_a9 c) (uq_a10 c) (em_ho e) (em_ro e) (em_sv e) (em_op e) (em_it e) (em_fs e) (em_sn e) (em_nu e) (uq_a19 c) (uq_a20 c) (uq_a21 c) (uq_a22 c) (uq_a23 c) (uq_a24 c) (uq_a25 c) (uq_a26 c) :=
  nm_e (hp (em_pn e ||| ((1 : Int32) <<< (nI b &&& 31)), em_le e, em_ho e, em_ro e, em_sv e, em_op e, em_it e, em_fs e, em_sn e, em_nu e) rfl rfl rfl rfl rfl rfl rfl rfl rfl rfl)
theorem em_free143 {post : Int32 → St1 → Prop} {c : St1} {e : em_E} {b n : Nat} (hb : b < 8) (hn : n < 24) (hp : ∀ e', em_le e' = em_le e → em_ho e' = upd (em_ho e) b (-1) → em_ro e' = upd (em_ro e) n (-1) → em_sv e' = em_sv e → em_op e' = em_op e → em_it e' = em_it e → em_fs e' = em_fs e → em_sn e' = em_sn e → em_nu e' = em_nu e → em_pn e' = em_pn e ||| ((1 : Int32) <<< (nI b &&& 31)) → post (nI b) (em_mk c e')) :
    wX_freeRegister_143 post (nI b) (nI n) (uq_nc c) (uq_fc c) (uq_lv c) (uq_cp c) (uq_nd c) (em_pn e) (em_le e) (uq_wc c) (uq_ac c) (uq_dc c) (uq_sc c) (uq_a1 c) (uq_a2 c) (uq_a3 c) (uq_a4 c) (uq_a5 c) (uq_a6 c) (uq_a7 c) (uq_a8 c) (uq_a9 c) (uq_a10 c) (em_ho e) (em_ro e) (em_sv e) (em_op e) (em_it e) (em_fs e) (em_sn e) (em_nu e) (uq_a19 c) (uq_a20 c) (uq_a21 c) (uq_a22 c) (uq_a23 c) (uq_a24 c) (uq_a25 c) (uq_a26 c) := by
  refine ⟨pk_in n 24 hn, nm_r (by rw [pk_cl n]) ⟨pk_in b 8 hb, nm_r (by rw [pk_cl b]) ?_⟩⟩
  exact em_free158 (e := (em_pn e, em_le e, upd (em_ho e) b (-1), upd (em_ro e) n (-1), em_sv e, em_op e, em_it e, em_fs e, em_sn e, em_nu e)) hp
theorem em_rep_of {e e' : em_E} {L : List sx_N} (h : em_rep e L) (h0 : em_le e' = em_le e) (h1 : em_op e' = em_op e) (h2 : em_it e' = em_it e) (h3 : em_fs e' = em_fs e) (h4 : em_sn e' = em_sn e) (h5 : em_nu e' = em_nu e) : em_rep e' L := by
  unfold em_rep
  rw [h0, h1, h2, h3, h4, h5]
  exact h
/-- the search: best and latest so far -/
def em_J (c : St1) (p : Nat) (e : em_E) (i : Nat) (x2 x3 : Int32) : Prop :=
  (x2 = -1 ∧ x3 = -1 ∧ ∀ r, r < i → bt (em_pn e) r = true) ∨
  (∃ b l, b < i ∧ b < 8 ∧ bt (em_pn e) b = false ∧ x2 = nI b ∧ x3 = nI l ∧ l ≤ 300 ∧ (em_ho e b = -1 ∨ ∃ n, n < 24 ∧ em_ho e b = nI n ∧ (200 ≤ l → ¬ em_live c n p)))
theorem em_free_out {post : Int32 → St1 → Prop} {c : St1} {e : em_E} {L : List sx_N} {cur p b l : Nat} (G : gi_G c) (C : gi_C c) (h : em_A c cur p e L) (hL : L.length < 300)
    (hb : b < 8) (hpb : bt (em_pn e) b = false) (hl : l ≤ 300) (hh : em_ho e b = -1 ∨ ∃ n, n < 24 ∧ em_ho e b = nI n ∧ (200 ≤ l → ¬ em_live c n p))
    (hp : ∀ b e' L', em_freed c cur p e L b e' L' → post (nI b) (em_mk c e')) {fu : Nat} {x4 : Int32} (h8 : 8 ≤ x4) :
    wX_freeRegister_7 post (nI p) (uq_nc c) (uq_fc c) (uq_lv c) (uq_cp c) (uq_nd c) (em_pn e) (em_le e) (uq_wc c) (uq_ac c) (uq_dc c) (uq_sc c) (uq_a1 c) (uq_a2 c) (uq_a3 c) (uq_a4 c) (uq_a5 c) (uq_a6 c) (uq_a7 c) (uq_a8 c) (uq_a9 c) (uq_a10 c) (em_ho e) (em_ro e) (em_sv e) (em_op e) (em_it e) (em_fs e) (em_sn e) (em_nu e) (uq_a19 c) (uq_a20 c) (uq_a21 c) (uq_a22 c) (uq_a23 c) (uq_a24 c) (uq_a25 c) (uq_a26 c) (fu + 1) (nI b) (nI l) x4 := by
  have pin : ∀ e' : em_E, em_pn e' = em_pn e ||| ((1 : Int32) <<< (nI b &&& 31)) → ∀ r, r < 8 → bt (em_pn e') r = (bt (em_pn e) r || decide (r = b)) := by
    intro e' he r hr
    rw [he]
    exact nu_or _ (by omega) (by omega)
  obtain ⟨hr, hB⟩ := h
  refine br_t h8 ⟨pk_in b 8 hb, ?_⟩
  rw [pk_cl b]
  refine nm_e ?_
  rcases hh with hh | ⟨n, hn, hh, hlv⟩
  · refine br_t (by rw [hh]; decide) (em_free158 ?_)
    intro e' q0 q1 q2 q3 q4 q5 q6 q7 q8 q9
    refine hp b e' L ⟨hb, hpb, ⟨em_rep_of hr q0 q4 q5 q6 q7 q8, ?_⟩, by omega, by rw [q1]; exact hh, pin e' q9, fun r _ => by rw [q1], fun n hn => by rw [q3]; exact hn, fun n hn => by rw [q2]; exact hn, em_fr_refl _ _ _⟩
    rw [q1, q2, q3]
    exact hB
  · have ev : ∀ (e1 : em_E) (L1 : List sx_N), em_rep e1 L1 → em_B c cur p (em_ho e) (em_ro e) (em_sv e1) L1 → em_pn e1 = em_pn e → em_ho e1 = em_ho e → em_ro e1 = em_ro e → L1.length ≤ L.length + 1 → (∀ n, em_sv e n = 1 → em_sv e1 n = 1) → em_fr c (fun _ => True) L L1 → (¬ em_live c n p ∨ gi_k c n = 1 ∨ em_sv e1 n = 1) → wX_freeRegister_143 post (nI b) (nI n) (uq_nc c) (uq_fc c) (uq_lv c) (uq_cp c) (uq_nd c) (em_pn e1) (em_le e1) (uq_wc c) (uq_ac c) (uq_dc c) (uq_sc c) (uq_a1 c) (uq_a2 c) (uq_a3 c) (uq_a4 c) (uq_a5 c) (uq_a6 c) (uq_a7 c) (uq_a8 c) (uq_a9 c) (uq_a10 c) (em_ho e1) (em_ro e1) (em_sv e1) (em_op e1) (em_it e1) (em_fs e1) (em_sn e1) (em_nu e1) (uq_a19 c) (uq_a20 c) (uq_a21 c) (uq_a22 c) (uq_a23 c) (uq_a24 c) (uq_a25 c) (uq_a26 c) := by
      intro e1 L1 r1 B1 p1 o1 o2 l1 s1 f1 g1
      refine em_free143 hb hn ?_
      intro e' q0 q1 q2 q3 q4 q5 q6 q7 q8 q9
      rw [p1] at q9
      rw [o1] at q1
      rw [o2] at q2
      refine hp b e' L1 ⟨hb, hpb, ⟨em_rep_of r1 q0 q4 q5 q6 q7 q8, ?_⟩, l1, by rw [q1, pk_us], pin e' q9, fun r hr => by rw [q1, pk_un hr], fun m hm => by rw [q3]; exact s1 m hm, fun m hm => ?_, f1⟩
      · rw [q1, q2, q3]
        exact em_evict B1 hb hn hh g1
      · rw [q2]
        by_cases e : m = n
        · exact nu_us e
        · rw [pk_un e]; exact hm
    have hD := (em_ro_of hB.2.1 hb hn hh).2
    refine br_f (by rw [hh]; exact nI_pos (by omega)) ?_
    refine pk_le 200 l (fun z => ?_) (fun z => ?_)
    · rw [hh]
      exact ev e L hr hB rfl rfl rfl (by omega) (fun _ q => q) (em_fr_refl _ _ _) (Or.inl (hlv z))
    · rw [hh]
      refine ⟨pk_in n 24 hn, ?_⟩
      rw [pk_cl n]
      refine pk_eq (gi_k c n) 1 (fun z1 => ev e L hr hB rfl rfl rfl (by omega) (fun _ q => q) (em_fr_refl _ _ _) (Or.inr (Or.inl z1))) (fun z1 => ⟨pk_in n 24 hn, ?_⟩) (gi_k3 G (em_D24 G C hD).1) rfl (by have := gi_k10 G (em_D24 G C hD).1; omega)
      rcases hB.2.1.2.2 n hn with hs | hs
      · refine br_t hs (em_emit 17 100 b 100 (nI (64 + n)) hr hL (by omega) rfl rfl (by rw [sx_r_lt (by omega)]) rfl (by rw [← nI_add]; rfl) ?_)
        intro e1 r1 p1 o1 o2 s1
        obtain ⟨B1, F1⟩ := em_store hB hb hn hh
        dsimp only [em_mk]
        refine ⟨pk_in n 24 hn, nm_e ?_⟩
        refine ev (em_pn e1, em_le e1, em_ho e1, em_ro e1, upd (em_sv e1) n 1, em_op e1, em_it e1, em_fs e1, em_sn e1, em_nu e1) _ r1 ?_ p1 o1 o2 (by rw [List.length_append]; exact Nat.le_refl _) ?_ F1 (Or.inr (Or.inr pk_us))
        · show em_B c cur p (em_ho e) (em_ro e) (upd (em_sv e1) n 1) _
          rw [s1]
          exact B1
        · intro m hm
          show upd (em_sv e1) n 1 m = 1
          rw [s1]
          by_cases e : m = n
          · exact nu_us e
          · rw [pk_un e]; exact hm
      · exact br_f (by rw [hs]; decide) (ev e L hr hB rfl rfl rfl (by omega) (fun _ q => q) (em_fr_refl _ _ _) (Or.inr (Or.inr hs)))
theorem em_m1lt {z : Nat} (h : z < 2 ^ 31) : (-1 : Int32) < nI z := by
  rw [nu_lt, nI_toInt h]
  have : (-1 : Int32).toInt = -1 := by decide
  omega
theorem em_free {post : Int32 → St1 → Prop} {c : St1} {e : em_E} {L : List sx_N} {cur : Nat} (p : Nat) {x : Int32} (G : gi_G c) (C : gi_C c) (h : em_A c cur p e L) (hL : L.length < 300)
    (hpp : p ≤ 150) (hf : ∃ r, r < 8 ∧ bt (em_pn e) r = false) (hx : x = nI p)
    (hp : ∀ b e' L', em_freed c cur p e L b e' L' → post (nI b) (em_mk c e')) : wpX_freeRegister post (em_mk c e) x := by
  subst hx
  have main : ∃ n, wX_freeRegister_7 post (nI p) (uq_nc c) (uq_fc c) (uq_lv c) (uq_cp c) (uq_nd c) (em_pn e) (em_le e) (uq_wc c) (uq_ac c) (uq_dc c) (uq_sc c) (uq_a1 c) (uq_a2 c) (uq_a3 c) (uq_a4 c) (uq_a5 c) (uq_a6 c) (uq_a7 c) (uq_a8 c) (uq_a9 c) (uq_a10 c) (em_ho e) (em_ro e) (em_sv e) (em_op e) (em_it e) (em_fs e) (em_sn e) (em_nu e) (uq_a19 c) (uq_a20 c) (uq_a21 c) (uq_a22 c) (uq_a23 c) (uq_a24 c) (uq_a25 c) (uq_a26 c) n (-1) (-1) 0 := by
    refine loop_m (fun n (s : Int32 × Int32 × Nat) => wX_freeRegister_7 post (nI p) (uq_nc c) (uq_fc c) (uq_lv c) (uq_cp c) (uq_nd c) (em_pn e) (em_le e) (uq_wc c) (uq_ac c) (uq_dc c) (uq_sc c) (uq_a1 c) (uq_a2 c) (uq_a3 c) (uq_a4 c) (uq_a5 c) (uq_a6 c) (uq_a7 c) (uq_a8 c) (uq_a9 c) (uq_a10 c) (em_ho e) (em_ro e) (em_sv e) (em_op e) (em_it e) (em_fs e) (em_sn e) (em_nu e) (uq_a19 c) (uq_a20 c) (uq_a21 c) (uq_a22 c) (uq_a23 c) (uq_a24 c) (uq_a25 c) (uq_a26 c) n s.1 s.2.1 (nI s.2.2)) (fun s => s.2.2 ≤ 8 ∧ em_J c p e s.2.2 s.1 s.2.1) (fun s => 8 - s.2.2) ?_ (-1, -1, 0) ⟨Nat.zero_le _, Or.inl ⟨rfl, rfl, fun r hr => absurd hr (Nat.not_lt_zero _)⟩⟩
    rintro fu ⟨x2, x3, i⟩ ⟨hi, hJ⟩ ih
    dsimp only at hi hJ ih ⊢
    rcases Nat.lt_or_ge i 8 with h8 | h8
    · refine br_f (nI_ge (a := i) (b := 8) h8 (by omega)) ?_
      have nx : ∀ y2 y3, em_J c p e (i + 1) y2 y3 → ∀ x, x = nI i + 1 → wX_freeRegister_7 post (nI p) (uq_nc c) (uq_fc c) (uq_lv c) (uq_cp c) (uq_nd c) (em_pn e) (em_le e) (uq_wc c) (uq_ac c) (uq_dc c) (uq_sc c) (uq_a1 c) (uq_a2 c) (uq_a3 c) (uq_a4 c) (uq_a5 c) (uq_a6 c) (uq_a7 c) (uq_a8 c) (uq_a9 c) (uq_a10 c) (em_ho e) (em_ro e) (em_sv e) (em_op e) (em_it e) (em_fs e) (em_sn e) (em_nu e) (uq_a19 c) (uq_a20 c) (uq_a21 c) (uq_a22 c) (uq_a23 c) (uq_a24 c) (uq_a25 c) (uq_a26 c) fu y2 y3 x := by
        intro y2 y3 hJ'
        exact nm_r (nI_1 i) (ih (y2, y3, i + 1) ⟨h8, hJ'⟩ (by dsimp only; omega))
      have keep : em_J c p e i x2 x3 → (bt (em_pn e) i = true ∨ x2 ≠ -1) → em_J c p e (i + 1) x2 x3 := by
        intro hJ hc
        rcases hJ with ⟨q1, q2, q3⟩ | ⟨b, l, q1, q2⟩
        · refine Or.inl ⟨q1, q2, fun r hr => ?_⟩
          by_cases er : r = i
          · rcases hc with hc | hc
            · rw [er]; exact hc
            · exact absurd q1 hc
          · exact q3 r (by omega)
        · exact Or.inr ⟨b, l, by omega, q2⟩
      refine ek_if (nu_bit (em_pn e) (by omega)) (fun hb => ⟨pk_in i 8 h8, ?_⟩) (fun hb => ?_)
      · rw [pk_cl i]
        have go : ∀ z : Nat, z ≤ 300 → (em_ho e i = -1 ∨ ∃ n, n < 24 ∧ em_ho e i = nI n ∧ (200 ≤ z → ¬ em_live c n p)) → wX_freeRegister_57 post (wX_freeRegister_7 post (nI p) (uq_nc c) (uq_fc c) (uq_lv c) (uq_cp c) (uq_nd c) (em_pn e) (em_le e) (uq_wc c) (uq_ac c) (uq_dc c) (uq_sc c) (uq_a1 c) (uq_a2 c) (uq_a3 c) (uq_a4 c) (uq_a5 c) (uq_a6 c) (uq_a7 c) (uq_a8 c) (uq_a9 c) (uq_a10 c) (em_ho e) (em_ro e) (em_sv e) (em_op e) (em_it e) (em_fs e) (em_sn e) (em_nu e) (uq_a19 c) (uq_a20 c) (uq_a21 c) (uq_a22 c) (uq_a23 c) (uq_a24 c) (uq_a25 c) (uq_a26 c) fu) (nI p) x2 x3 (nI i) (nI z) (uq_nc c) (uq_fc c) (uq_lv c) (uq_cp c) (uq_nd c) (em_pn e) (em_le e) (uq_wc c) (uq_ac c) (uq_dc c) (uq_sc c) (uq_a1 c) (uq_a2 c) (uq_a3 c) (uq_a4 c) (uq_a5 c) (uq_a6 c) (uq_a7 c) (uq_a8 c) (uq_a9 c) (uq_a10 c) (em_ho e) (em_ro e) (em_sv e) (em_op e) (em_it e) (em_fs e) (em_sn e) (em_nu e) (uq_a19 c) (uq_a20 c) (uq_a21 c) (uq_a22 c) (uq_a23 c) (uq_a24 c) (uq_a25 c) (uq_a26 c) := by
          intro z hz hh
          refine br_c (fun hc => nx _ _ (Or.inr ⟨i, z, by omega, h8, hb, rfl, rfl, hz, hh⟩)) (fun hc => nx _ _ (keep hJ (Or.inr ?_)))
          intro q
          rcases hJ with ⟨q1, q2, q3⟩ | ⟨b, l, q1, q2, q3, q4, q5⟩
          · rw [q2] at hc
            exact hc (em_m1lt (by omega))
          · rw [q4] at q
            exact nu_m1 (by omega) q
        rcases h.2.2.1.1 i h8 with hh | ⟨n, hn, hD, hh, _⟩
        · exact br_f (by rw [hh]; decide) (go 300 (by omega) (Or.inl hh))
        · refine br_t (by rw [hh]; exact nI_pos' (by omega)) ⟨pk_in i 8 h8, ?_⟩
          refine em_next n p G C hn hpp (fun r hr hl => ?_) hh rfl
          exact go r (by omega) (Or.inr ⟨n, hn, hh, fun z => hl (by omega)⟩)
      · refine nx _ _ (keep hJ (Or.inl ?_))
        cases hq : bt (em_pn e) i
        · exact absurd hq hb
        · rfl
    · have e8 : i = 8 := by omega
      subst e8
      rcases hJ with ⟨q1, q2, q3⟩ | ⟨b, l, q1, q2, q3, q4, q5, q6, q7⟩
      · obtain ⟨r, hr, hbr⟩ := hf
        rw [q3 r hr] at hbr
        exact absurd hbr (by decide)
      · rw [q4, q5]
        exact em_free_out G C h hL q2 q3 q6 q7 hp (by decide)
  exact main
end
section
/-! one more instruction -/
theorem em_app {c : St1} {cur p : Nat} {ho ro sv : Nat → Int32} {L : List sx_N} {x : sx_N} (h : em_B c cur p ho ro sv L) (w : sx_wf (gi_T c) x)
    (hr : ∀ s r, r < 8 → ho r ≠ -1 → sx_rg (sx_ex (gi_T c) x s) r = sx_rg s r) (hm : ∀ s n, n < 24 → sx_me (sx_ex (gi_T c) x s) (64 + n) = sx_me s (64 + n)) :
    em_B c cur p ho ro sv (L ++ [x]) := by
  obtain ⟨w0, hd, av, sm⟩ := h
  refine ⟨?_, hd, av, ?_⟩
  · intro y hy
    rcases List.mem_append.mp hy with g | g
    · exact w0 y g
    · rw [List.mem_singleton.mp g]; exact w
  · intro s0 v hg
    obtain ⟨a1, a2⟩ := sm s0 v hg
    rw [sx_run_app]
    refine ⟨fun r n h8 hn hh => ?_, fun n hn hs => ?_⟩
    · rw [hr _ r h8 (by rw [hh]; exact nu_m1 (by omega))]
      exact a1 r n h8 hn hh
    · rw [hm _ n hn]
      exact a2 n hn hs
theorem em_mono {c : St1} {cur p q : Nat} {ho ro sv : Nat → Int32} {L : List sx_N} (h : em_B c cur p ho ro sv L) (hpq : p ≤ q) : em_B c cur q ho ro sv L := by
  obtain ⟨w0, hd, av, sm⟩ := h
  exact ⟨w0, hd, ⟨av.1, fun n a b l => av.2 n a b (em_live_le hpq l)⟩, sm⟩
theorem em_skip {c : St1} {cur p : Nat} {ho ro sv : Nat → Int32} {L : List sx_N} (h : em_B c cur p ho ro sv L) (hc : ¬ gi_D c cur ∨ gi_k c cur = 1) : em_B c (cur + 1) p ho ro sv L := by
  obtain ⟨w0, hd, av, sm⟩ := h
  refine ⟨w0, hd, ⟨fun n a b => av.1 n (by omega) b, fun n a b l => ?_⟩, sm⟩
  by_cases e : n = cur
  · subst e
    rcases hc with q | q
    · exact absurd b q
    · exact Or.inl q
  · exact av.2 n (by omega) b l
/-! keepIn -/
theorem em_keepB {c : St1} {cur cur' p : Nat} {ho ro sv : Nat → Int32} {L : List sx_N} {r n : Nat} (h : em_B c cur p ho ro sv L) (hr : r < 8) (hn : n < 24) (hD : gi_D c n)
    (hh : ho r = -1) (hro : ro n = -1) (hnc : n < cur') (hcc : cur ≤ cur') (hc : ∀ m, m < cur' → m < cur ∨ m = n)
    (hv : ∀ s0 v, em_good c s0 v → sx_rg (sx_run (gi_T c) L s0) r = v n) : em_B c cur' p (upd ho r (nI n)) (upd ro n (nI r)) sv L := by
  obtain ⟨w0, ⟨h1, h2, h3⟩, av, sm⟩ := h
  refine ⟨w0, ⟨?_, ?_, h3⟩, ?_, ?_⟩
  · intro q hq
    by_cases e : q = r
    · subst e
      exact Or.inr ⟨n, hn, hD, pk_us, pk_us⟩
    · rw [pk_un e]
      rcases h1 q hq with z | ⟨k, hk, hd, z, y⟩
      · exact Or.inl z
      · refine Or.inr ⟨k, hk, hd, z, ?_⟩
        rw [pk_un]
        · exact y
        · intro ek
          subst ek
          rw [y] at hro
          exact nu_m1 (by omega) hro
  · intro m hm
    by_cases e : m = n
    · subst e
      exact Or.inr ⟨r, hr, pk_us, pk_us⟩
    · rw [pk_un e]
      rcases h2 m hm with z | ⟨q, hq, z, y⟩
      · exact Or.inl z
      · refine Or.inr ⟨q, hq, z, ?_⟩
        rw [pk_un]
        · exact y
        · intro eq
          subst eq
          rw [y] at hh
          exact nu_m1 (by omega) hh
  · refine ⟨fun m hm h24 => by rw [pk_un (by omega)]; exact av.1 m (by omega) h24, ?_⟩
    intro m hm hd hl
    by_cases e : m = n
    · refine Or.inr (Or.inl ?_)
      rw [nu_us e]
      exact nu_m1 (by omega)
    · rw [pk_un e]
      rcases hc m hm with q | q
      · exact av.2 m q hd hl
      · exact absurd q e
  · intro s0 v hg
    obtain ⟨a1, a2⟩ := sm s0 v hg
    refine ⟨fun q m hq hm hqm => ?_, a2⟩
    by_cases e : q = r
    · subst e
      rw [pk_us] at hqm
      have : n = m := nu_inj (by omega) (by omega) hqm
      subst this
      exact hv s0 v hg
    · rw [pk_un e] at hqm
      exact a1 q m hq hm hqm
theorem em_keep {post : St1 → Prop} {c : St1} {e : em_E} {n r : Nat} {x y : Int32} (hn : n < 24) (hr : r < 8) (hx : x = nI n) (hy : y = nI r)
    (hp : ∀ e', em_pn e' = em_pn e → em_le e' = em_le e → em_ho e' = upd (em_ho e) r (nI n) → em_ro e' = upd (em_ro e) n (nI r) → em_sv e' = em_sv e → em_op e' = em_op e → em_it e' = em_it e → em_fs e' = em_fs e → em_sn e' = em_sn e → em_nu e' = em_nu e → post (em_mk c e')) :
    wpX_keepIn post (em_mk c e) x y := by
  subst hx hy
  have H := hp (em_pn e, em_le e, upd (em_ho e) r (nI n), upd (em_ro e) n (nI r), em_sv e, em_op e, em_it e, em_fs e, em_sn e, em_nu e) rfl rfl rfl rfl rfl rfl rfl rfl rfl rfl
  unfold wpX_keepIn em_mk
  dsimp only
  rw [pk_cl r, pk_cl n, nu_b8 n (by omega), nu_b8 r (by omega)]
  exact ⟨pk_in r 8 hr, nm_e ⟨pk_in n 24 hn, nm_e H⟩⟩
/-! bring -/
/-- the state behind bring: register r holds node n and is pinned -/
def em_brought (c : St1) (cur p : Nat) (e : em_E) (L : List sx_N) (n r : Nat) (e' : em_E) (L' : List sx_N) : Prop :=
  r < 8 ∧ em_A c cur p e' L' ∧ L'.length ≤ L.length + 2 ∧ em_ho e' r = nI n ∧
  (∀ q, q < 8 → bt (em_pn e') q = (bt (em_pn e) q || decide (q = r))) ∧ (∀ q, q < 8 → bt (em_pn e) q = true → em_ho e' q = em_ho e q) ∧
  em_fr c (fun q => q < 8 ∧ bt (em_pn e) q = true) L L'
theorem em_bring76 {post : Int32 → St1 → Prop} {c : St1} {e : em_E} {b : Nat} (hp : ∀ e', em_le e' = em_le e → em_ho e' = em_ho e → em_ro e' = em_ro e → em_sv e' = em_sv e → em_op e' = em_op e → em_it e' = em_it e → em_fs e' = em_fs e → em_sn e' = em_sn e → em_nu e' = em_nu e → em_pn e' = em_pn e ||| ((1 : Int32) <<< (nI b &&& 31)) → post (nI b) (em_mk c e')) :
    wX_bring_76 post (nI b) (uq_nc c) (uq_fc c) (uq_lv c) (uq_cp c) (uq_nd c) (em_pn e) (em_le e) (uq_wc c) (uq_ac c) (uq_dc c) (uq_sc c) (uq_a1 c) (uq_a2 c) (uq_a3 c) (uq_a4 c) (uq_a5 c) (uq_a6 c) (uq_a7 c) (uq_a8 c) (uq_a9 c) (uq_a10 c) (em_ho e) (em_ro e) (em_sv e) (em_op e) (em_it e) (em_fs e) (em_sn e) (em_nu e) (uq_a19 c) (uq_a20 c) (uq_a21 c) (uq_a22 c) (uq_a23 c) (uq_a24 c) (uq_a25 c) (uq_a26 c) :=
  nm_e (hp (em_pn e ||| ((1 : Int32) <<< (nI b &&& 31)), em_le e, em_ho e, em_ro e, em_sv e, em_op e, em_it e, em_fs e, em_sn e, em_nu e) rfl rfl rfl rfl rfl rfl rfl rfl rfl rfl)
theorem em_bring {post : Int32 → St1 → Prop} {c : St1} {e : em_E} {L : List sx_N} {cur : Nat} (node p : Nat) {x y : Int32} (G : gi_G c) (C : gi_C c) (h : em_A c cur p e L) (hL : L.length + 2 ≤ 300)
    (hpp : p ≤ 150) (hf : ∃ r, r < 8 ∧ bt (em_pn e) r = false) (hx : x = nI node) (hy : y = nI p) (hnode : node < gi_N c) (hcur : gi_s c node < cur) (hD : gi_D c (gi_s c node))
    (ha : gi_k c (gi_s c node) = 1 ∨ em_ro e (gi_s c node) ≠ -1 ∨ em_sv e (gi_s c node) = 1)
    (hp : ∀ r e' L', em_brought c cur p e L (gi_s c node) r e' L' → post (nI r) (em_mk c e')) : wpX_bring post (em_mk c e) x y := by
  subst hx hy
  have hN := gi_n24 G
  have s10 := gi_s10 C hnode
  obtain ⟨hnN, hn⟩ := em_D24 G C hD
  have pin : ∀ (b : Nat) (e1 e2 : em_E), b < 8 → em_pn e2 = em_pn e1 ||| ((1 : Int32) <<< (nI b &&& 31)) → ∀ r, r < 8 → bt (em_pn e2) r = (bt (em_pn e1) r || decide (r = b)) := by
    intro b e1 e2 hb he r hr
    rw [he]
    exact nu_or _ (by omega) (by omega)
  unfold wpX_bring em_mk
  dsimp only
  rw [pk_cl node]
  refine ⟨pk_in node 24 (by omega), nm_r s10 ⟨pk_in _ 24 hn, ?_⟩⟩
  rw [pk_cl (gi_s c node)]
  generalize gi_s c node = n at *
  obtain ⟨hr, hB⟩ := h
  rcases hB.2.1.2.1 n hn with z | ⟨r, h8, z, zh⟩
  · refine nm_r z (br_f (by decide) ?_)
    have ha' : gi_k c n = 1 ∨ em_sv e n = 1 := by
      rcases ha with q | q | q
      · exact Or.inl q
      · exact absurd z q
      · exact Or.inr q
    refine em_free p G C ⟨hr, hB⟩ (by omega) hpp hf rfl ?_
    intro b e1 L1 ⟨f1, f2, ⟨fr, fB⟩, f4, f5, f6, f7, f8, f9, f10⟩
    have fin : ∀ (x : sx_N) (e2 : em_E), sx_wf (gi_T c) x → em_rep e2 (L1 ++ [x]) → em_pn e2 = em_pn e1 → em_ho e2 = em_ho e1 → em_ro e2 = em_ro e1 → em_sv e2 = em_sv e1 →
        (∀ s, ∃ val, sx_ex (gi_T c) x s = (upd (sx_rg s) b val, sx_ac s, sx_me s, sx_ri s)) → (∀ s0 v, em_good c s0 v → sx_rg (sx_run (gi_T c) (L1 ++ [x]) s0) b = v n) →
        wX_bring_69 post (nI n) (nI b) (uq_nc c) (uq_fc c) (uq_lv c) (uq_cp c) (uq_nd c) (em_pn e2) (em_le e2) (uq_wc c) (uq_ac c) (uq_dc c) (uq_sc c) (uq_a1 c) (uq_a2 c) (uq_a3 c) (uq_a4 c) (uq_a5 c) (uq_a6 c) (uq_a7 c) (uq_a8 c) (uq_a9 c) (uq_a10 c) (em_ho e2) (em_ro e2) (em_sv e2) (em_op e2) (em_it e2) (em_fs e2) (em_sn e2) (em_nu e2) (uq_a19 c) (uq_a20 c) (uq_a21 c) (uq_a22 c) (uq_a23 c) (uq_a24 c) (uq_a25 c) (uq_a26 c) := by
      intro x e2 wx r2 p2 o2 q2 s2 hx hv
      have B2 : em_B c cur p (em_ho e1) (em_ro e1) (em_sv e1) (L1 ++ [x]) := by
        refine em_app fB wx (fun s r _ hne => ?_) (fun s m _ => ?_)
        · obtain ⟨val, hval⟩ := hx s
          rw [hval]
          exact pk_un (fun er => hne (by rw [er]; exact f5))
        · obtain ⟨val, hval⟩ := hx s
          rw [hval]
          rfl
      have B3 := em_keepB (cur' := cur) B2 f1 hn hD f5 (f9 n z) hcur (Nat.le_refl _) (fun m hm => Or.inl hm) hv
      refine em_keep hn f1 rfl rfl ?_
      intro e3 k0 k1 k2 k3 k4 k5 k6 k7 k8 k9
      refine em_bring76 (e := e3) ?_
      intro e4 j0 j1 j2 j3 j4 j5 j6 j7 j8 j9
      refine hp b e4 (L1 ++ [x]) ⟨f1, ⟨em_rep_of (em_rep_of r2 k1 k5 k6 k7 k8 k9) j0 j4 j5 j6 j7 j8, ?_⟩, by rw [List.length_append, List.length_singleton]; omega, ?_, ?_, ?_, ?_⟩
      · rw [j1, j2, j3, k2, k3, k4, o2, q2, s2]
        exact B3
      · rw [j1, k2, pk_us]
      · intro q hq
        rw [pin b e3 e4 f1 j9 q hq, k0, p2, f6 q hq, Bool.or_assoc, Bool.or_self]
      · intro q hq hb
        have qb : q ≠ b := by
          intro eq
          rw [eq, f2] at hb
          exact absurd hb (by decide)
        rw [j1, k2, pk_un qb, o2, f7 q qb]
      · intro s0
        obtain ⟨a1, a2, a3, a4⟩ := f10 s0
        obtain ⟨val, hval⟩ := hx (sx_run (gi_T c) L1 s0)
        rw [sx_run_app, hval]
        refine ⟨fun q hq => ?_, a2, a3, a4⟩
        have qb : q ≠ b := by
          intro eq
          rw [eq, f2] at hq
          exact absurd hq.2 (by decide)
        rw [← a1 q trivial]
        exact pk_un qb
    dsimp only [em_mk]
    refine ⟨pk_in n 24 hn, ?_⟩
    have k10 := gi_k10 G hnN
    refine pk_eq (gi_k c n) 1 (fun k1 => ⟨pk_in n 24 hn, ?_⟩) (fun k1 => ?_) (gi_k3 G hnN)
    · refine em_emit (e := e1) 1 b 100 100 (uq_a4 c n) fr (by omega) (by omega) rfl (by rw [sx_r_lt (by omega)]) rfl rfl rfl ?_
      intro e2 r2 p2 o2 q2 s2
      refine fin (1, b, 100, 100, uq_a4 c n) e2 (Or.inl ⟨rfl, f1, rfl, rfl⟩) r2 p2 o2 q2 s2 (fun s => ⟨_, sx_e1 _ f1 _ s⟩) ?_
      intro s0 v hg
      rw [sx_run_app, sx_e1 _ f1]
      show upd _ _ _ _ = _
      rw [pk_us, hg n hD]
      unfold rf_fv
      rw [if_neg (by omega), if_pos k1]
    · have hs : em_sv e1 n = 1 := by
        rcases ha' with q | q
        · exact absurd q k1
        · exact f8 n q
      refine em_emit (e := e1) 16 b 100 100 (nI (64 + n)) fr (by omega) (by omega) rfl (by rw [sx_r_lt (by omega)]) rfl rfl (by rw [← nI_add]; rfl) ?_
      intro e2 r2 p2 o2 q2 s2
      refine fin (16, b, 100, 100, nI (64 + n)) e2 (Or.inr (Or.inr (Or.inr (Or.inr (Or.inr (Or.inr (Or.inl ⟨rfl, f1, rfl, rfl, 64 + n, rfl, by omega, by omega⟩))))))) r2 p2 o2 q2 s2 (fun s => ⟨_, sx_e16 _ f1 (by omega) s⟩) ?_
      intro s0 v hg
      rw [sx_run_app, sx_e16 _ f1 (by omega)]
      show upd _ _ _ _ = _
      rw [pk_us]
      exact (fB.2.2.2 s0 v hg).2 n hn hs
  · refine nm_r z (br_t (nI_pos' (by omega)) ?_)
    refine em_bring76 ?_
    intro e4 j0 j1 j2 j3 j4 j5 j6 j7 j8 j9
    refine hp r e4 L ⟨h8, ⟨em_rep_of hr j0 j4 j5 j6 j7 j8, ?_⟩, by omega, by rw [j1]; exact zh, pin r e e4 h8 j9, fun q _ _ => by rw [j1], em_fr_refl _ _ _⟩
    rw [j1, j2, j3]
    exact hB
end
section
/-! emitPlain -/
/-- the state behind the making of node n: register r has its value, nobody holds r -/
def em_new (c : St1) (n k : Nat) (e : em_E) (L : List sx_N) (r : Nat) (e' : em_E) (L' : List sx_N) : Prop :=
  r < 8 ∧ em_A c n (n + 1) e' L' ∧ L'.length ≤ L.length + k ∧ em_ho e' r = -1 ∧
  (∀ s0 v, em_good c s0 v → sx_rg (sx_run (gi_T c) L' s0) r = v n) ∧ em_fr c (fun _ => False) L L'
theorem em_fr_weak {c : St1} {P Q : Nat → Prop} {L L' : List sx_N} (h : em_fr c P L L') (hPQ : ∀ r, Q r → P r) : em_fr c Q L L' := by
  intro s0
  obtain ⟨h1, h2⟩ := h s0
  exact ⟨fun r hr => h1 r (hPQ r hr), h2⟩
theorem em_wf_plain {T : Nat → Nat} {o d a b : Nat} {n : Int32} (ho : sx_plain o) (hd : d < 8) (ha : a < 8) (hb : ((o = 7 ∨ o = 8) ∧ b = 100) ∨ (¬ (o = 7 ∨ o = 8) ∧ b < 8)) : sx_wf T (o, d, a, b, n) := by
  rcases hb with ⟨h1, h2⟩ | ⟨h1, h2⟩
  · exact Or.inr (Or.inr (Or.inr (Or.inr (Or.inl ⟨h1, hd, ha, h2⟩))))
  · refine Or.inr (Or.inr (Or.inr (Or.inr (Or.inr (Or.inl ⟨?_, hd, ha, h2⟩)))))
    unfold sx_plain at ho
    show o = 2 ∨ o = 3 ∨ o = 9 ∨ o = 10
    omega
theorem em_plain63 {post : Int32 → St1 → Prop} {c : St1} {e : em_E} {L : List sx_N} {n k o ra rb : Nat} (G : gi_G c) (C : gi_C c) (hN : n < gi_N c) (h : em_A c n n e L) (hL : L.length + 2 ≤ 300)
    (hf : ∃ r, r < 8 ∧ bt (em_pn e) r = false) (hk : k < 100) (ho : o = if k = 4 then 10 else k) (hpl : sx_plain o) (hra : ra < 8) (hrb : ((o = 7 ∨ o = 8) ∧ rb = 100) ∨ (¬ (o = 7 ∨ o = 8) ∧ rb < 8))
    (hv : ∀ s0 v, em_good c s0 v → sx_calc o (uq_a5 c n) (sx_rg (sx_run (gi_T c) L s0) ra) (sx_rg (sx_run (gi_T c) L s0) rb) 0 = v n)
    (hp : ∀ r e' L', em_new c n 2 e L r e' L' → post (nI r) (em_mk c e')) :
    wX_emitPlain_63 post (nI n) (nI k) (nI ra) (sx_r rb) (uq_nc c) (uq_fc c) (uq_lv c) (uq_cp c) (uq_nd c) (em_pn e) (em_le e) (uq_wc c) (uq_ac c) (uq_dc c) (uq_sc c) (uq_a1 c) (uq_a2 c) (uq_a3 c) (uq_a4 c) (uq_a5 c) (uq_a6 c) (uq_a7 c) (uq_a8 c) (uq_a9 c) (uq_a10 c) (em_ho e) (em_ro e) (em_sv e) (em_op e) (em_it e) (em_fs e) (em_sn e) (em_nu e) (uq_a19 c) (uq_a20 c) (uq_a21 c) (uq_a22 c) (uq_a23 c) (uq_a24 c) (uq_a25 c) (uq_a26 c) := by
  have hN24 := gi_n24 G
  unfold wX_emitPlain_63
  refine em_free (e := e) (n + 1) G C ⟨h.1, em_mono h.2 (by omega)⟩ (by omega) (by omega) hf (nI_1 n) ?_
  intro b e1 L1 ⟨f1, f2, ⟨fr, fB⟩, f4, f5, f6, f7, f8, f9, f10⟩
  have fin : wX_emitPlain_84 post (nI n) (nI ra) (sx_r rb) (nI b) (nI o) (uq_nc c) (uq_fc c) (uq_lv c) (uq_cp c) (uq_nd c) (em_pn e1) (em_le e1) (uq_wc c) (uq_ac c) (uq_dc c) (uq_sc c) (uq_a1 c) (uq_a2 c) (uq_a3 c) (uq_a4 c) (uq_a5 c) (uq_a6 c) (uq_a7 c) (uq_a8 c) (uq_a9 c) (uq_a10 c) (em_ho e1) (em_ro e1) (em_sv e1) (em_op e1) (em_it e1) (em_fs e1) (em_sn e1) (em_nu e1) (uq_a19 c) (uq_a20 c) (uq_a21 c) (uq_a22 c) (uq_a23 c) (uq_a24 c) (uq_a25 c) (uq_a26 c) := by
    unfold wX_emitPlain_84
    refine ⟨pk_in n 24 (by omega), ?_⟩
    rw [pk_cl n]
    have o128 : o < 128 := by unfold sx_plain at hpl; omega
    refine em_emit (e := e1) o b ra rb (uq_a5 c n) fr (by omega) o128 rfl (by rw [sx_r_lt (by omega)]) (by rw [sx_r_lt (by omega)]) rfl rfl ?_
    intro e2 r2 p2 o2 q2 s2
    refine hp b e2 (L1 ++ [(o, b, ra, rb, uq_a5 c n)]) ⟨f1, ⟨r2, ?_⟩, by rw [List.length_append, List.length_singleton]; omega, by rw [o2]; exact f5, ?_, ?_⟩
    · rw [o2, q2, s2]
      refine em_app fB (em_wf_plain hpl f1 hra hrb) (fun s r _ hne => ?_) (fun s m _ => ?_)
      · rw [sx_ep _ hpl f1]
        exact pk_un (fun er => hne (by rw [er]; exact f5))
      · rw [sx_ep _ hpl f1]
        rfl
    · intro s0 v hg
      obtain ⟨a1, a2, a3, a4⟩ := f10 s0
      rw [sx_run_app, sx_ep _ hpl f1]
      show upd _ _ _ _ = _
      rw [pk_us, a1 ra trivial, a1 rb trivial, ← hv s0 v hg]
      exact sx_calc_ac hpl _ _ _ _ _
    · intro s0
      obtain ⟨a1, a2, a3, a4⟩ := f10 s0
      rw [sx_run_app, sx_ep _ hpl f1]
      exact ⟨fun r hr => absurd hr id, a2, a3, a4⟩
  dsimp only [em_mk]
  refine pk_eq k 4 (fun z => ?_) (fun z => ?_)
  · rw [if_pos z] at ho
    rw [ho] at fin
    exact fin
  · rw [if_neg z] at ho
    rw [ho] at fin
    exact fin
/-- parts of a needed plain node are at hand -/
theorem em_at {c : St1} {e : em_E} {L : List sx_N} {n m : Nat} (G : gi_G c) (C : gi_C c) (hN : n < gi_N c) (hD : gi_D c n) (h : em_A c n n e L) (hm : m < n) (hu : em_use c (gi_s c m) n) (hd : gi_D c (gi_s c m)) :
    gi_k c (gi_s c m) = 1 ∨ em_ro e (gi_s c m) ≠ -1 ∨ em_sv e (gi_s c m) = 1 := by
  have := gi_sle C (show m < gi_N c by omega)
  exact h.2.2.2.1.2 (gi_s c m) (by omega) hd (Or.inl ⟨n, Nat.le_refl _, hN, hu⟩)
theorem em_free1 {p : Int32} {q : Int32} {r : Nat} (h0 : ∀ r, r < 8 → bt p r = false) (h : ∀ x, x < 8 → bt q x = (bt p x || decide (x = r))) : ∃ x, x < 8 ∧ bt q x = false := by
  by_cases e : r = 0
  · exact ⟨1, by omega, by rw [h 1 (by omega), h0 1 (by omega), decide_eq_false (by omega)]; rfl⟩
  · exact ⟨0, by omega, by rw [h 0 (by omega), h0 0 (by omega), decide_eq_false (by omega)]; rfl⟩
theorem em_free2 {p q1 q2 : Int32} {a b : Nat} (h0 : ∀ r, r < 8 → bt p r = false) (h1 : ∀ x, x < 8 → bt q1 x = (bt p x || decide (x = a))) (h2 : ∀ x, x < 8 → bt q2 x = (bt q1 x || decide (x = b))) : ∃ x, x < 8 ∧ bt q2 x = false := by
  have : ∃ x, x < 8 ∧ x ≠ a ∧ x ≠ b := by
    by_cases e0 : 0 ≠ a ∧ 0 ≠ b
    · exact ⟨0, by omega, e0.1, e0.2⟩
    · by_cases e1 : 1 ≠ a ∧ 1 ≠ b
      · exact ⟨1, by omega, e1.1, e1.2⟩
      · exact ⟨2, by omega, by omega, by omega⟩
  obtain ⟨x, hx, xa, xb⟩ := this
  exact ⟨x, hx, by rw [h2 x hx, h1 x hx, h0 x hx, decide_eq_false xa, decide_eq_false xb]; rfl⟩
theorem em_free3 {p q1 q2 q3 : Int32} {a b d : Nat} (h0 : ∀ r, r < 8 → bt p r = false) (h1 : ∀ x, x < 8 → bt q1 x = (bt p x || decide (x = a))) (h2 : ∀ x, x < 8 → bt q2 x = (bt q1 x || decide (x = b))) (h3 : ∀ x, x < 8 → bt q3 x = (bt q2 x || decide (x = d))) : ∃ x, x < 8 ∧ bt q3 x = false := by
  have : ∃ x, x < 8 ∧ x ≠ a ∧ x ≠ b ∧ x ≠ d := by
    by_cases e0 : 0 ≠ a ∧ 0 ≠ b ∧ 0 ≠ d
    · exact ⟨0, by omega, e0⟩
    · by_cases e1 : 1 ≠ a ∧ 1 ≠ b ∧ 1 ≠ d
      · exact ⟨1, by omega, e1⟩
      · by_cases e2 : 2 ≠ a ∧ 2 ≠ b ∧ 2 ≠ d
        · exact ⟨2, by omega, e2⟩
        · exact ⟨3, by omega, by omega, by omega, by omega⟩
  obtain ⟨x, hx, xa, xb, xd⟩ := this
  exact ⟨x, hx, by rw [h3 x hx, h2 x hx, h1 x hx, h0 x hx, decide_eq_false xa, decide_eq_false xb, decide_eq_false xd]; rfl⟩
theorem em_plain {post : Int32 → St1 → Prop} {c : St1} {e : em_E} {L : List sx_N} (n : Nat) {x y : Int32} (G : gi_G c) (C : gi_C c) (hN : n < gi_N c) (hD : gi_D c n) (h : em_A c n n e L) (hL : L.length + 6 ≤ 300)
    (h0 : ∀ r, r < 8 → bt (em_pn e) r = false) (hx : x = nI n) (hy : y = nI (gi_k c n)) (k2 : 2 ≤ gi_k c n) (k5 : gi_k c n ≠ 5) (k6 : gi_k c n ≠ 6)
    (hp : ∀ r e' L', em_new c n 6 e L r e' L' → post (nI r) (em_mk c e')) : wpX_emitPlain post (em_mk c e) x y := by
  subst hx hy
  have hN24 := gi_n24 G
  have k10 := gi_k10 G hN
  have xl := gi_xln G hN k2 k5
  have x4 := gi_x4 G hN (by omega)
  obtain ⟨dx, dy⟩ := C.2.2.1 n hD k2
  have cx := gi_sle C (show gi_x c n < gi_N c by omega)
  have vn : ∀ s0 v, em_good c s0 v → v n = if gi_k c n = 4 then sx_calc 10 (uq_a5 c n) (v (gi_s c (gi_x c n))) (uq_a5 c n) 0 else sx_calc (gi_k c n) (uq_a5 c n) (v (gi_s c (gi_x c n))) (v (gi_s c (gi_y c n))) 0 := by
    intro s0 v hg
    rw [hg n hD]
    unfold rf_fv
    rw [if_neg (by omega), if_neg (by omega), if_neg k5, if_neg k6]
  unfold wpX_emitPlain em_mk
  dsimp only
  rw [pk_cl n]
  refine ⟨pk_in n 24 (by omega), ?_⟩
  refine em_bring (e := e) (gi_x c n) n G C h (by omega) (by omega) ⟨0, by omega, h0 0 (by omega)⟩ x4 rfl (by omega) (by omega) dx (em_at G C hN hD h xl ⟨hD, k2, k5, Or.inl rfl⟩ dx) ?_
  intro ra e1 L1 ⟨b1, b2, b3, b4, b5, b6, b7⟩
  dsimp only [em_mk]
  refine lf_two (gi_k c n) (by omega) (fun t => br_f (by decide) ⟨pk_in n 24 (by omega), ?_⟩) (fun t => br_t rfl ?_)
  · obtain ⟨y5, yl⟩ := gi_y5 G hN t
    have cy := gi_sle C (show gi_y c n < gi_N c by omega)
    have dy' := dy t
    refine em_bring (e := e1) (gi_y c n) n G C b2 (by omega) (by omega) (em_free1 h0 b5) y5 rfl (by omega) (by omega) dy' (em_at G C hN hD b2 yl ⟨hD, k2, k5, Or.inr ⟨t, rfl⟩⟩ dy') ?_
    intro rb e2 L2 ⟨d1, d2, d3, d4, d5, d6, d7⟩
    have k4 : gi_k c n ≠ 4 := by unfold gi_two at t; omega
    have pa : bt (em_pn e1) ra = true := by rw [b5 ra b1, decide_eq_true rfl, Bool.or_true]
    have hopl : sx_plain (gi_k c n) := by unfold gi_two at t; unfold sx_plain; omega
    have no78 : ¬ (gi_k c n = 7 ∨ gi_k c n = 8) := by unfold gi_two at t; omega
    dsimp only [em_mk]
    refine br_f (fun z => k4 (nu_inj (by omega) (by omega) z)) ?_
    rw [show nI rb = sx_r rb from (sx_r_lt (by omega)).symm]
    refine em_plain63 (o := gi_k c n) G C hN d2 (by omega) (em_free2 h0 b5 d5) (by omega) (by rw [if_neg k4]) hopl b1 (Or.inr ⟨no78, d1⟩) ?_ ?_
    · intro s0 v hg
      have va : em_ho e2 ra = nI (gi_s c (gi_x c n)) := by rw [d6 ra b1 pa]; exact b4
      have sm := (d2.2.2.2.2 s0 v hg).1
      rw [sm ra _ b1 (by omega) va, sm rb _ d1 (by omega) d4, vn s0 v hg, if_neg k4]
    · intro r e' L' ⟨n1, n2, n3, n4, n5, n6⟩
      refine hp r e' L' ⟨n1, n2, by omega, n4, n5, ?_⟩
      exact em_fr_trans (em_fr_weak b7 (fun r hr => absurd hr id)) (em_fr_trans (em_fr_weak d7 (fun r hr => absurd hr id)) n6 (fun r hr => hr)) (fun r hr => hr)
  · have pa : bt (em_pn e1) ra = true := by rw [b5 ra b1, decide_eq_true rfl, Bool.or_true]
    refine pk_eq (gi_k c n) 4 (fun k4 => ?_) (fun k4 => ?_)
    · refine em_free (e := e1) n G C b2 (by omega) (by omega) (em_free1 h0 b5) rfl ?_
      intro rb e2 L2 ⟨f1, f2, ⟨fr, fB⟩, f4, f5, f6, f7, f8, f9, f10⟩
      dsimp only [em_mk]
      refine ⟨pk_in n 24 (by omega), ?_⟩
      rw [pk_cl n]
      refine em_emit (e := e2) 1 rb 100 100 (uq_a5 c n) fr (by omega) (by omega) rfl (by rw [sx_r_lt (by omega)]) rfl rfl rfl ?_
      intro e3 r3 p3 o3 q3 s3
      have rab : ra ≠ rb := by
        intro er
        rw [er, f2] at pa
        exact absurd pa (by decide)
      have A3 : em_A c n n e3 (L2 ++ [(1, rb, 100, 100, uq_a5 c n)]) := by
        refine ⟨r3, ?_⟩
        rw [o3, q3, s3]
        refine em_app fB (Or.inl ⟨rfl, f1, rfl, rfl⟩) (fun s r _ hne => ?_) (fun s m _ => ?_)
        · rw [sx_e1 _ f1]
          exact pk_un (fun er => hne (by rw [er]; exact f5))
        · rw [sx_e1 _ f1]
          rfl
      dsimp only [em_mk]
      rw [show nI rb = sx_r rb from (sx_r_lt (by omega)).symm]
      refine em_plain63 (o := 10) G C hN A3 (by rw [List.length_append, List.length_singleton]; omega) ?_ (by omega) (by rw [if_pos k4]) (by unfold sx_plain; omega) b1 (Or.inr ⟨by omega, f1⟩) ?_ ?_
      · rw [p3]
        exact em_free2 h0 b5 f6
      · intro s0 v hg
        have sm := (fB.2.2.2 s0 v hg).1
        have va : em_ho e2 ra = nI (gi_s c (gi_x c n)) := by rw [f7 ra rab]; exact b4
        rw [sx_run_app, sx_e1 _ f1]
        show sx_calc 10 _ (upd _ _ _ _) (upd _ _ _ _) 0 = _
        rw [pk_us, pk_un rab, sm ra _ b1 (by omega) va, vn s0 v hg, if_pos k4]
      · intro r e' L' ⟨n1, n2, n3, n4, n5, n6⟩
        rw [List.length_append, List.length_singleton] at n3
        refine hp r e' L' ⟨n1, n2, by omega, n4, n5, ?_⟩
        refine em_fr_trans (em_fr_weak b7 (fun r hr => absurd hr id)) (em_fr_trans (Q := fun _ => False) (em_fr_weak f10 (fun r hr => absurd hr id)) ?_ (fun r hr => hr)) (fun r hr => hr)
        intro s0
        obtain ⟨m1, m2, m3, m4⟩ := n6 s0
        rw [sx_run_app, sx_e1 _ f1] at m2 m3 m4
        exact ⟨fun r hr => absurd hr id, m2, m3, m4⟩
    · have o78 : gi_k c n = 7 ∨ gi_k c n = 8 := by unfold gi_two at t; omega
      rw [show (-1 : Int32) = sx_r 100 from rfl]
      refine em_plain63 (o := gi_k c n) G C hN b2 (by omega) (em_free1 h0 b5) (by omega) (by rw [if_neg k4]) (by unfold sx_plain; omega) b1 (Or.inl ⟨o78, rfl⟩) ?_ ?_
      · intro s0 v hg
        have sm := (b2.2.2.2.2 s0 v hg).1
        rw [sm ra _ b1 (by omega) b4, vn s0 v hg, if_neg k4]
        exact sx_calc_y o78 _ _ _ _ _ _
      · intro r e' L' ⟨n1, n2, n3, n4, n5, n6⟩
        refine hp r e' L' ⟨n1, n2, by omega, n4, n5, ?_⟩
        exact em_fr_trans (em_fr_weak b7 (fun r hr => absurd hr id)) n6 (fun r hr => hr)
end
section
/-! emitFilter -/
theorem em_put {post : St1 → Prop} {c : St1} {e : em_E} {L : List sx_N} {cur p : Nat} (o d a b : Nat) (n : Int32) {p0 p1 p2 p3 p4 : Int32}
    (h : em_A c cur p e L) (hL : L.length < 300) (ho : o < 128) (e0 : p0 = nI o) (e1 : p1 = sx_r d) (e2 : p2 = sx_r a) (e3 : p3 = sx_r b) (e4 : p4 = n) (w : sx_wf (gi_T c) (o, d, a, b, n))
    (hr : ∀ s r, r < 8 → em_ho e r ≠ -1 → sx_rg (sx_ex (gi_T c) (o, d, a, b, n) s) r = sx_rg s r) (hm : ∀ s n', n' < 24 → sx_me (sx_ex (gi_T c) (o, d, a, b, n) s) (64 + n') = sx_me s (64 + n'))
    (hp : ∀ e', em_A c cur p e' (L ++ [(o, d, a, b, n)]) → em_pn e' = em_pn e → em_ho e' = em_ho e → em_ro e' = em_ro e → em_sv e' = em_sv e → post (em_mk c e')) :
    wpX_emit post (em_mk c e) p0 p1 p2 p3 p4 := by
  refine em_emit o d a b n h.1 hL ho e0 e1 e2 e3 e4 ?_
  intro e' r1 p1 o1 q1 s1
  refine hp e' ⟨r1, ?_⟩ p1 o1 q1 s1
  rw [o1, q1, s1]
  exact em_app h.2 w hr hm
theorem em_pl_in {T ri : Nat → Nat} {f k : Nat} (hk : k < 8) (hT : 1 ≤ T f) (hT6 : T f ≤ 6) : 32 + 8 * f ≤ sx_pl T ri (8 * f + k) ∧ sx_pl T ri (8 * f + k) < 38 + 8 * f := by
  rw [sx_pl_fk hk]
  have := Nat.mod_lt (ri f + T f - k) (show T f > 0 by omega)
  omega
theorem rf_facc_congr {c : St1} {me me' : Nat → Int32} {ri ri' : Nat → Nat} {f : Nat} (hT : 1 ≤ gi_T c f) (hT6 : gi_T c f ≤ 6) (hr : ri f = ri' f) (hm : ∀ a, 32 + 8 * f ≤ a → a < 40 + 8 * f → me a = me' a) :
    ∀ k, k ≤ 8 → rf_facc c me ri f k = rf_facc c me' ri' f k := by
  intro k
  induction k with
  | zero => intro _; rfl
  | succ k ih =>
    intro hk
    have e : sx_pl (gi_T c) ri (8 * f + k) = sx_pl (gi_T c) ri' (8 * f + k) := by rw [sx_pl_fk (by omega), sx_pl_fk (by omega), hr]
    have := em_pl_in (ri := ri') (k := k) (by omega) hT hT6
    show rf_facc c me ri f k + _ = rf_facc c me' ri' f k + _
    rw [ih (by omega), e, hm _ this.1 (by omega)]
/-- what the loop over the taps needs and leaves -/
def em_fl (c : St1) (f k : Nat) (LB L : List sx_N) : Prop := ∀ s0,
  sx_ac (sx_run (gi_T c) L s0) = rf_facc c (sx_me (sx_run (gi_T c) LB s0)) (sx_ri (sx_run (gi_T c) LB s0)) f k ∧
  sx_ri (sx_run (gi_T c) L s0) = sx_ri (sx_run (gi_T c) LB s0) ∧ ∀ a, a < 64 → sx_me (sx_run (gi_T c) L s0) a = sx_me (sx_run (gi_T c) LB s0) a
theorem em_filt64 {post : Int32 → St1 → Prop} {c : St1} {e : em_E} {LB : List sx_N} {cur p f t u : Nat} (h : em_A c cur p e LB) (hf : f < 4) (hT7 : uq_a7 c f = nI (gi_T c f)) (hT : 1 ≤ gi_T c f) (hT6 : gi_T c f ≤ 6) (hL : LB.length + 3 * gi_T c f + 2 ≤ 300)
    (ht : t < 8) (hu : u < 8) (htu : t ≠ u) (hht : em_ho e t = -1) (hhu : em_ho e u = -1) (h0 : ∀ s0, sx_ac (sx_run (gi_T c) LB s0) = 0)
    (hp : ∀ e' L', em_A c cur p e' L' → L'.length ≤ LB.length + 3 * gi_T c f + 2 → em_ho e' t = -1 →
      (∀ s0, sx_rg (sx_run (gi_T c) L' s0) t = sx_clip ((rf_facc c (sx_me (sx_run (gi_T c) LB s0)) (sx_ri (sx_run (gi_T c) LB s0)) f (gi_T c f) + 16384) >>> ((15 : Int32).toInt64 &&& 63)) ∧
        sx_ri (sx_run (gi_T c) L' s0) = sx_un (sx_ri (sx_run (gi_T c) LB s0)) f ((sx_ri (sx_run (gi_T c) LB s0) f + 1) % gi_T c f) ∧
        ∀ a, a < 64 → sx_me (sx_run (gi_T c) L' s0) a = sx_me (sx_run (gi_T c) LB s0) a) → post (nI t) (em_mk c e')) :
    ∃ n, wX_emitFilter_64 post (nI f) (nI t) (nI u) n 0 (uq_nc c) (uq_fc c) (uq_lv c) (uq_cp c) (uq_nd c) (em_pn e) (em_le e) (uq_wc c) (uq_ac c) (uq_dc c) (uq_sc c) (uq_a1 c) (uq_a2 c) (uq_a3 c) (uq_a4 c) (uq_a5 c) (uq_a6 c) (uq_a7 c) (uq_a8 c) (uq_a9 c) (uq_a10 c) (em_ho e) (em_ro e) (em_sv e) (em_op e) (em_it e) (em_fs e) (em_sn e) (em_nu e) (uq_a19 c) (uq_a20 c) (uq_a21 c) (uq_a22 c) (uq_a23 c) (uq_a24 c) (uq_a25 c) (uq_a26 c) := by
  refine loop_m (fun n (s : em_E × Nat) => wX_emitFilter_64 post (nI f) (nI t) (nI u) n (nI s.2) (uq_nc c) (uq_fc c) (uq_lv c) (uq_cp c) (uq_nd c) (em_pn s.1) (em_le s.1) (uq_wc c) (uq_ac c) (uq_dc c) (uq_sc c) (uq_a1 c) (uq_a2 c) (uq_a3 c) (uq_a4 c) (uq_a5 c) (uq_a6 c) (uq_a7 c) (uq_a8 c) (uq_a9 c) (uq_a10 c) (em_ho s.1) (em_ro s.1) (em_sv s.1) (em_op s.1) (em_it s.1) (em_fs s.1) (em_sn s.1) (em_nu s.1) (uq_a19 c) (uq_a20 c) (uq_a21 c) (uq_a22 c) (uq_a23 c) (uq_a24 c) (uq_a25 c) (uq_a26 c)) (fun s => s.2 ≤ gi_T c f ∧ em_ho s.1 t = -1 ∧ em_ho s.1 u = -1 ∧ ∃ L, em_A c cur p s.1 L ∧ L.length ≤ LB.length + 3 * s.2 ∧ em_fl c f s.2 LB L) (fun s => gi_T c f - s.2) ?_ (e, 0) ⟨by dsimp only; omega, hht, hhu, LB, h, by dsimp only; omega, fun s0 => ⟨h0 s0, rfl, fun a _ => rfl⟩⟩
  rintro fu ⟨e1, k⟩ ⟨hk, h1t, h1u, L, hA, hl, hS⟩ ih
  dsimp only at hk h1t h1u hA hl hS ih ⊢
  have hr : ∀ (d : Nat) (e : em_E), em_ho e d = -1 → ∀ r, em_ho e r ≠ -1 → r ≠ d := fun d e q r hne er => hne (by rw [er]; exact q)
  rw [wX_emitFilter_64]
  rw [pk_cl f]
  refine ⟨pk_in f 4 hf, pk_le (gi_T c f) k (fun z => ?_) (fun z => ?_) hT7⟩
  · have ek : k = gi_T c f := by omega
    subst ek
    refine em_put (e := e1) 13 t 8 100 0 hA (by omega) (by omega) rfl (by rw [sx_r_lt (by omega)]) rfl rfl rfl (Or.inr (Or.inr (Or.inr (Or.inl ⟨rfl, ht, rfl, rfl⟩)))) (fun s r _ hne => ?_) (fun s m _ => ?_) ?_
    · rw [sx_e13 _ ht]
      exact pk_un (hr t e1 h1t r hne)
    · rw [sx_e13 _ ht]; rfl
    intro e2 A2 p2 o2 q2 s2
    dsimp only [em_mk]
    refine em_put (e := e2) 20 100 100 100 (nI (8 * f)) A2 (by rw [List.length_append, List.length_singleton]; omega) (by omega) rfl rfl rfl rfl (by rw [← pk_mul]; rfl) ?_ (fun s r _ hne => ?_) (fun s m _ => ?_) ?_
    · exact Or.inr (Or.inr (Or.inr (Or.inr (Or.inr (Or.inr (Or.inr (Or.inr (Or.inr (Or.inr ⟨rfl, rfl, rfl, rfl, f, 0, rfl, hf, by omega, hT6⟩)))))))))
    · rw [sx_e20 _ (by omega)]; rfl
    · rw [sx_e20 _ (by omega)]; rfl
    intro e3 A3 p3 o3 q3 s3
    refine hp e3 _ A3 (by rw [List.length_append, List.length_append, List.length_singleton, List.length_singleton]; omega) (by rw [o3, o2]; exact h1t) ?_
    intro s0
    obtain ⟨S1, S2, S3⟩ := hS s0
    rw [sx_run_app, sx_run_app, sx_e13 _ ht, sx_e20 _ (by omega), show 8 * f / 8 = f by omega]
    refine ⟨?_, ?_, S3⟩
    · show upd _ _ _ _ = _
      rw [pk_us, S1]
    · show sx_un (sx_ri (sx_run (gi_T c) L s0)) f ((sx_ri (sx_run (gi_T c) L s0) f + 1) % gi_T c f) = _
      rw [S2]
  · refine em_put (e := e1) 18 t 100 100 (nI (8 * f + k)) hA (by omega) (by omega) rfl (by rw [sx_r_lt (by omega)]) rfl rfl (by rw [← nI_add, ← pk_mul]; rfl) ?_ (fun s r _ hne => ?_) (fun s m _ => ?_) ?_
    · exact Or.inr (Or.inr (Or.inr (Or.inr (Or.inr (Or.inr (Or.inr (Or.inr (Or.inl ⟨rfl, ht, rfl, rfl, f, k, rfl, hf, z, hT6⟩))))))))
    · rw [sx_e18 _ ht (by omega)]
      exact pk_un (hr t e1 h1t r hne)
    · rw [sx_e18 _ ht (by omega)]; rfl
    intro e2 A2 p2 o2 q2 s2
    dsimp only [em_mk]
    have i6 : 6 * nI f + nI k = nI (6 * f + k) := by rw [← nI_add, ← pk_mul]; rfl
    rw [i6, pk_cl (6 * f + k)]
    refine ⟨pk_in (6 * f + k) 24 (by omega), ?_⟩
    refine em_put (e := e2) 1 u 100 100 (uq_a8 c (6 * f + k)) A2 (by rw [List.length_append, List.length_singleton]; omega) (by omega) rfl (by rw [sx_r_lt (by omega)]) rfl rfl rfl (Or.inl ⟨rfl, hu, rfl, rfl⟩) (fun s r _ hne => ?_) (fun s m _ => ?_) ?_
    · rw [sx_e1 _ hu]
      exact pk_un (hr u e2 (by rw [o2]; exact h1u) r hne)
    · rw [sx_e1 _ hu]; rfl
    intro e3 A3 p3 o3 q3 s3
    dsimp only [em_mk]
    refine em_put (e := e3) 12 8 t u 0 A3 (by rw [List.length_append, List.length_append, List.length_singleton, List.length_singleton]; omega) (by omega) rfl rfl (by rw [sx_r_lt (by omega)]) (by rw [sx_r_lt (by omega)]) rfl (Or.inr (Or.inr (Or.inl ⟨rfl, rfl, ht, hu⟩))) (fun s r _ hne => ?_) (fun s m _ => ?_) ?_
    · rw [sx_e12]; rfl
    · rw [sx_e12]; rfl
    intro e4 A4 p4 o4 q4 s4
    dsimp only [em_mk]
    refine nm_r (nI_1 k) (ih (e4, k + 1) ⟨by dsimp only; omega, by dsimp only; rw [o4, o3, o2]; exact h1t, by dsimp only; rw [o4, o3, o2]; exact h1u, _, A4, by simp only [List.length_append, List.length_singleton]; omega, ?_⟩ (by dsimp only; omega))
    intro s0
    obtain ⟨S1, S2, S3⟩ := hS s0
    rw [sx_run_app, sx_run_app, sx_run_app, sx_e18 _ ht (by omega), sx_e1 _ hu, sx_e12]
    refine ⟨?_, S2, S3⟩
    have hpl := em_pl_in (T := gi_T c) (ri := sx_ri (sx_run (gi_T c) LB s0)) (k := k) (by omega) hT hT6
    show sx_ac (sx_run (gi_T c) L s0) + (upd (upd _ _ _) _ _ _ * upd (upd _ _ _) _ _ _).toInt64 = _
    rw [pk_us, pk_un htu, pk_us, S1, S2, S3 _ (by omega)]
    rfl
def em_newF (c : St1) (n : Nat) (e : em_E) (L : List sx_N) (r : Nat) (e' : em_E) (L' : List sx_N) : Prop :=
  r < 8 ∧ em_A c n (n + 1) e' L' ∧ L'.length ≤ L.length + 26 ∧ em_ho e' r = -1 ∧
  (∀ s0 v, em_good c s0 v → sx_rg (sx_run (gi_T c) L' s0) r = v n) ∧
  (∀ s0 v, em_good c s0 v → sx_ri (sx_run (gi_T c) L' s0) = sx_un (sx_ri (sx_run (gi_T c) L s0)) (gi_f c n) ((sx_ri (sx_run (gi_T c) L s0) (gi_f c n) + 1) % gi_T c (gi_f c n)) ∧
    ∀ a, a < 64 → sx_me (sx_run (gi_T c) L' s0) a = upd (sx_me (sx_run (gi_T c) L s0)) (sx_pl (gi_T c) (sx_ri (sx_run (gi_T c) L s0)) (8 * gi_f c n)) (v (gi_s c (gi_x c n))) a)
theorem em_filter {post : Int32 → St1 → Prop} {c : St1} {e : em_E} {L : List sx_N} (n : Nat) {x : Int32} (G : gi_G c) (C : gi_C c) (hN : n < gi_N c) (hD : gi_D c n) (h : em_A c n n e L) (hL : L.length + 26 ≤ 300)
    (h0 : ∀ r, r < 8 → bt (em_pn e) r = false) (hx : x = nI n) (k6 : gi_k c n = 6)
    (hR : ∀ s0 v, em_good c s0 v → sx_ri (sx_run (gi_T c) L s0) (gi_f c n) = sx_ri s0 (gi_f c n) ∧ ∀ a, 32 + 8 * gi_f c n ≤ a → a < 40 + 8 * gi_f c n → sx_me (sx_run (gi_T c) L s0) a = sx_me s0 a)
    (hp : ∀ r e' L', em_newF c n e L r e' L' → post (nI r) (em_mk c e')) : wpX_emitFilter post (em_mk c e) x := by
  subst hx
  have hN24 := gi_n24 G
  have xl := gi_xln G hN (by omega) (by omega)
  have x4 := gi_x4 G hN (by omega)
  obtain ⟨dx, _⟩ := C.2.2.1 n hD (by omega)
  have cx := gi_sle C (show gi_x c n < gi_N c by omega)
  obtain ⟨f6, fF⟩ := (gi_nd G hN).2.2.2.2.2.2.2 k6
  have F4 : gi_F c ≤ 4 := G.2.2.2.1
  obtain ⟨T7, T1, T6⟩ := G.2.2.2.2.2.2.1 (gi_f c n) fF
  have hf4 : gi_f c n < 4 := by omega
  unfold wpX_emitFilter em_mk
  dsimp only
  rw [pk_cl n]
  refine ⟨pk_in n 24 (by omega), nm_r f6 ⟨pk_in n 24 (by omega), ?_⟩⟩
  refine em_bring (e := e) (gi_x c n) n G C h (by omega) (by omega) ⟨0, by omega, h0 0 (by omega)⟩ x4 rfl (by omega) (by omega) dx (em_at G C hN hD h xl ⟨hD, by omega, by omega, Or.inl rfl⟩ dx) ?_
  intro ra e1 L1 ⟨b1, b2, b3, b4, b5, b6, b7⟩
  have pl64 : ∀ ri : Nat → Nat, sx_pl (gi_T c) ri (8 * gi_f c n) < 64 := by
    intro ri
    have := em_pl_in (T := gi_T c) (ri := ri) (f := gi_f c n) (k := 0) (by omega) T1 T6
    rw [Nat.add_zero] at this
    omega
  dsimp only [em_mk]
  refine em_put (e := e1) 19 100 ra 100 (nI (8 * gi_f c n)) b2 (by omega) (by omega) rfl rfl (by rw [sx_r_lt (by omega)]) rfl (by rw [← pk_mul]; rfl) ?_ (fun s r _ hne => ?_) (fun s m _ => ?_) ?_
  · exact Or.inr (Or.inr (Or.inr (Or.inr (Or.inr (Or.inr (Or.inr (Or.inr (Or.inr (Or.inl ⟨rfl, rfl, b1, rfl, gi_f c n, 0, rfl, hf4, by omega, T6⟩)))))))))
  · rw [sx_e19 _ (by omega)]; rfl
  · rw [sx_e19 _ (by omega)]
    have := pl64 (sx_ri s)
    exact pk_un (by omega)
  intro e2 A2 p2 o2 q2 s2
  dsimp only [em_mk]
  refine em_put (e := e2) 11 8 100 100 0 A2 (by rw [List.length_append, List.length_singleton]; omega) (by omega) rfl rfl rfl rfl rfl (Or.inr (Or.inl ⟨rfl, rfl, rfl, rfl⟩)) (fun s r _ hne => ?_) (fun s m _ => ?_) ?_
  · rw [sx_e11]; rfl
  · rw [sx_e11]; rfl
  intro e3 A3 p3 o3 q3 s3
  dsimp only [em_mk]
  refine em_free (e := e3) (n + 1) G C ⟨A3.1, em_mono A3.2 (by omega)⟩ (by simp only [List.length_append, List.length_singleton]; omega) (by omega) (by rw [p3, p2]; exact em_free1 h0 b5) (nI_1 n) ?_
  intro t e4 L4 ⟨t1, t2, t3, t4, t5, t6, t7, t8, t9, t10⟩
  dsimp only [em_mk]
  simp only [List.length_append, List.length_singleton] at t4
  rw [p3, p2] at t6
  refine em_free (e := e4) (n + 1) G C t3 (by omega) (by omega) (em_free2 h0 b5 t6) (nI_1 n) ?_
  intro u e5 L5 ⟨u1, u2, u3, u4, u5, u6, u7, u8, u9, u10⟩
  have tu : t ≠ u := by
    intro er
    have pt : bt (em_pn e4) t = true := by rw [t6 t t1, decide_eq_true rfl, Bool.or_true]
    rw [er, u2] at pt
    exact absurd pt (by decide)
  have base : ∀ s0, sx_ac (sx_run (gi_T c) L5 s0) = 0 ∧ sx_ri (sx_run (gi_T c) L5 s0) = sx_ri (sx_run (gi_T c) L s0) ∧
      ∀ a, a < 64 → sx_me (sx_run (gi_T c) L5 s0) a = upd (sx_me (sx_run (gi_T c) L s0)) (sx_pl (gi_T c) (sx_ri (sx_run (gi_T c) L s0)) (8 * gi_f c n)) (sx_rg (sx_run (gi_T c) L1 s0) ra) a := by
    intro s0
    obtain ⟨_, w2, w3, w4⟩ := u10 s0
    obtain ⟨_, v2, v3, v4⟩ := t10 s0
    obtain ⟨_, y2, y3, y4⟩ := b7 s0
    rw [sx_run_app, sx_run_app, sx_e19 _ (by omega), sx_e11] at v2 v3 v4
    refine ⟨w2.trans v2, w3.trans (v3.trans y3), fun a ha => ?_⟩
    rw [w4 a ha, v4 a ha]
    show upd (sx_me (sx_run (gi_T c) L1 s0)) (sx_pl (gi_T c) (sx_ri (sx_run (gi_T c) L1 s0)) (8 * gi_f c n)) _ a = _
    rw [y3, nu_upd, nu_upd, y4 a ha]
  dsimp only [em_mk]
  refine em_filt64 (e := e5) u3 hf4 T7 T1 T6 (by omega) t1 u1 tu (by rw [u7 t tu]; exact t5) u5 (fun s0 => (base s0).1) ?_
  intro e' L' A' l' ht' S'
  refine hp t e' L' ⟨t1, A', by omega, ht', ?_, ?_⟩
  · intro s0 v hg
    obtain ⟨R1, R2⟩ := hR s0 v hg
    obtain ⟨S1, _, _⟩ := S' s0
    obtain ⟨_, B2, B3⟩ := base s0
    have va := (b2.2.2.2.2 s0 v hg).1 ra _ b1 (by omega) b4
    rw [S1, hg n hD]
    unfold rf_fv
    rw [if_neg (by omega), if_neg (by omega), if_neg (by omega), if_pos k6]
    unfold rf_filt
    rw [rf_facc_congr (ri' := sx_ri s0) (me' := upd (sx_me s0) (sx_pl (gi_T c) (sx_ri s0) (8 * gi_f c n)) (v (gi_s c (gi_x c n)))) T1 T6 (by rw [B2]; exact R1) ?_ _ (by omega)]
    intro a h1 h2
    have pe : sx_pl (gi_T c) (sx_ri (sx_run (gi_T c) L s0)) (8 * gi_f c n) = sx_pl (gi_T c) (sx_ri s0) (8 * gi_f c n) := by
      rw [← Nat.add_zero (8 * gi_f c n), sx_pl_fk (by omega), sx_pl_fk (by omega), R1]
    rw [B3 a (by omega), va, pe, nu_upd, nu_upd, R2 a h1 h2]
  · intro s0 v hg
    obtain ⟨_, S2, S3⟩ := S' s0
    obtain ⟨_, B2, B3⟩ := base s0
    have va := (b2.2.2.2.2 s0 v hg).1 ra _ b1 (by omega) b4
    rw [S2, B2]
    refine ⟨rfl, fun a ha => ?_⟩
    rw [S3 a ha, B3 a ha, va]
end
section
/-! memory while nodes are emitted -/
def em_M (c : St1) (P : Nat → Prop) (cr : Nat) (L : List sx_N) : Prop := ∀ s0 v, em_good c s0 v →
  (sx_me (sx_run (gi_T c) L s0) 0 = sx_me s0 0 ∧ sx_me (sx_run (gi_T c) L s0) 1 = sx_me s0 1) ∧
  (∀ o, o < 4 → uq_a9 c o ≠ -1 → P o → sx_me (sx_run (gi_T c) L s0) (2 + o) = v (gi_s c (gi_o c o))) ∧
  (∀ n, n < 24 → sx_me (sx_run (gi_T c) L s0) (8 + n) = sx_me s0 (8 + n)) ∧
  (∀ n, gi_D c n → gi_k c n = 6 → n < cr → sx_ri (sx_run (gi_T c) L s0) (gi_f c n) = (sx_ri s0 (gi_f c n) + 1) % gi_T c (gi_f c n) ∧
    ∀ a, 32 + 8 * gi_f c n ≤ a → a < 40 + 8 * gi_f c n → sx_me (sx_run (gi_T c) L s0) a = upd (sx_me s0) (sx_pl (gi_T c) (sx_ri s0) (8 * gi_f c n)) (v (gi_s c (gi_x c n))) a) ∧
  (∀ n, gi_D c n → gi_k c n = 6 → cr ≤ n → sx_ri (sx_run (gi_T c) L s0) (gi_f c n) = sx_ri s0 (gi_f c n) ∧
    ∀ a, 32 + 8 * gi_f c n ≤ a → a < 40 + 8 * gi_f c n → sx_me (sx_run (gi_T c) L s0) a = sx_me s0 a)
theorem gi_f4 {c : St1} (G : gi_G c) {n : Nat} (h : n < gi_N c) (k6 : gi_k c n = 6) : gi_f c n < 4 ∧ 1 ≤ gi_T c (gi_f c n) ∧ gi_T c (gi_f c n) ≤ 6 := by
  obtain ⟨f6, fF⟩ := (gi_nd G h).2.2.2.2.2.2.2 k6
  have F4 : gi_F c ≤ 4 := G.2.2.2.1
  obtain ⟨T7, T1, T6⟩ := G.2.2.2.2.2.2.1 (gi_f c n) fF
  exact ⟨by omega, T1, T6⟩
theorem em_M_fr {c : St1} {P Q : Nat → Prop} {cr : Nat} {L L' : List sx_N} (G : gi_G c) (C : gi_C c) (h : em_M c P cr L) (f : em_fr c Q L L') : em_M c P cr L' := by
  intro s0 v hg
  obtain ⟨⟨h0, h1⟩, h2, h3, h4, h5⟩ := h s0 v hg
  obtain ⟨_, _, f3, f4⟩ := f s0
  rw [f3]
  refine ⟨⟨by rw [f4 0 (by omega)]; exact h0, by rw [f4 1 (by omega)]; exact h1⟩, fun o ho a b => by rw [f4 _ (by omega)]; exact h2 o ho a b, fun n hn => by rw [f4 _ (by omega)]; exact h3 n hn, fun n a b d => ?_, fun n a b d => ?_⟩
  · have := gi_f4 G (em_D24 G C a).1 b
    exact ⟨(h4 n a b d).1, fun x x1 x2 => by rw [f4 x (by omega)]; exact (h4 n a b d).2 x x1 x2⟩
  · have := gi_f4 G (em_D24 G C a).1 b
    exact ⟨(h5 n a b d).1, fun x x1 x2 => by rw [f4 x (by omega)]; exact (h5 n a b d).2 x x1 x2⟩
theorem em_M_skip {c : St1} {P : Nat → Prop} {n : Nat} {L : List sx_N} (h : em_M c P n L) (hk : ¬ gi_D c n ∨ gi_k c n ≠ 6) : em_M c P (n + 1) L := by
  intro s0 v hg
  obtain ⟨h0, h2, h3, h4, h5⟩ := h s0 v hg
  refine ⟨h0, h2, h3, fun m a b d => ?_, fun m a b d => h5 m a b (by omega)⟩
  by_cases e : m = n
  · subst e
    rcases hk with q | q
    · exact absurd a q
    · exact absurd b q
  · exact h4 m a b (by omega)
theorem em_M_P {c : St1} {P Q : Nat → Prop} {cr : Nat} {L : List sx_N} (h : em_M c P cr L) (hPQ : ∀ o, o < 4 → uq_a9 c o ≠ -1 → Q o → P o) : em_M c Q cr L := by
  intro s0 v hg
  obtain ⟨h0, h2, h3⟩ := h s0 v hg
  exact ⟨h0, fun o ho a b => h2 o ho a (hPQ o ho a b), h3⟩
theorem gi_fne {c : St1} (G : gi_G c) {n m : Nat} (hn : n < gi_N c) (hm : m < gi_N c) (kn : gi_k c n = 6) (km : gi_k c m = 6) (h : m ≠ n) : gi_f c m ≠ gi_f c n := by
  rcases Nat.lt_or_gt_of_ne h with g | g
  · have := G.2.2.2.2.2.1 m n g hn km kn
    omega
  · have := G.2.2.2.2.2.1 n m g hm kn km
    omega
theorem em_M_filter {c : St1} {P : Nat → Prop} {n r : Nat} {e e' : em_E} {L L' : List sx_N} (G : gi_G c) (C : gi_C c) (hD : gi_D c n) (k6 : gi_k c n = 6) (h : em_M c P n L) (f : em_newF c n e L r e' L') : em_M c P (n + 1) L' := by
  obtain ⟨hN, h24⟩ := em_D24 G C hD
  obtain ⟨f4, T1, T6⟩ := gi_f4 G hN k6
  intro s0 v hg
  obtain ⟨⟨h0, h1⟩, h2, h3, h4, h5⟩ := h s0 v hg
  obtain ⟨_, _, _, _, _, F⟩ := f
  obtain ⟨F1, F2⟩ := F s0 v hg
  have pl := em_pl_in (T := gi_T c) (ri := sx_ri (sx_run (gi_T c) L s0)) (f := gi_f c n) (k := 0) (by omega) T1 T6
  rw [Nat.add_zero] at pl
  have out : ∀ a, a < 64 → (a < 32 + 8 * gi_f c n ∨ 40 + 8 * gi_f c n ≤ a) → sx_me (sx_run (gi_T c) L' s0) a = sx_me (sx_run (gi_T c) L s0) a := by
    intro a ha hb
    rw [F2 a ha]
    exact pk_un (by omega)
  refine ⟨⟨by rw [out 0 (by omega) (by omega)]; exact h0, by rw [out 1 (by omega) (by omega)]; exact h1⟩, fun o ho a b => by rw [out _ (by omega) (by omega)]; exact h2 o ho a b, fun m hm => by rw [out _ (by omega) (by omega)]; exact h3 m hm, fun m a b d => ?_, fun m a b d => ?_⟩
  · by_cases em : m = n
    · subst em
      obtain ⟨g1, g2⟩ := h5 m a b (Nat.le_refl _)
      refine ⟨by rw [F1, sx_uns, g1], fun x x1 x2 => ?_⟩
      have pe : sx_pl (gi_T c) (sx_ri (sx_run (gi_T c) L s0)) (8 * gi_f c m) = sx_pl (gi_T c) (sx_ri s0) (8 * gi_f c m) := by
        rw [← Nat.add_zero (8 * gi_f c m), sx_pl_fk (by omega), sx_pl_fk (by omega), g1]
      rw [F2 x (by omega), pe, nu_upd, nu_upd, g2 x x1 x2]
    · have mN := (em_D24 G C a).1
      have fm := gi_f4 G mN b
      have ne := gi_fne G hN mN k6 b em
      obtain ⟨g1, g2⟩ := h4 m a b (by omega)
      refine ⟨by rw [F1, sx_unn ne]; exact g1, fun x x1 x2 => by rw [out x (by omega) (by omega)]; exact g2 x x1 x2⟩
  · have mN := (em_D24 G C a).1
    have fm := gi_f4 G mN b
    have ne := gi_fne G hN mN k6 b (by omega)
    obtain ⟨g1, g2⟩ := h5 m a b (by omega)
    exact ⟨by rw [F1, sx_unn ne]; exact g1, fun x x1 x2 => by rw [out x (by omega) (by omega)]; exact g2 x x1 x2⟩
/-! how many outputs -/
def em_oc (c : St1) (n : Nat) : Nat → Nat
  | 0 => 0
  | j + 1 => em_oc c n j + (if uq_a9 c j ≠ -1 ∧ gi_s c (gi_o c j) = n then 1 else 0)
def em_ow (c : St1) (n : Nat) : Nat → Nat
  | 0 => 0
  | j + 1 => em_ow c n j + (if uq_a9 c j ≠ -1 ∧ gi_s c (gi_o c j) < n then 1 else 0)
theorem em_ow_s (c : St1) (n j : Nat) : em_ow c (n + 1) j = em_ow c n j + em_oc c n j := by
  induction j with
  | zero => rfl
  | succ j ih =>
    unfold em_ow em_oc
    rw [ih]
    by_cases a : uq_a9 c j ≠ -1 ∧ gi_s c (gi_o c j) < n
    · rw [if_pos a, if_pos ⟨a.1, by omega⟩, if_neg (by omega)]
      omega
    · by_cases b : uq_a9 c j ≠ -1 ∧ gi_s c (gi_o c j) = n
      · rw [if_neg a, if_pos b, if_pos ⟨b.1, by omega⟩]
        omega
      · rw [if_neg a, if_neg b, if_neg]
        · omega
        · intro z
          rcases Nat.lt_or_ge (gi_s c (gi_o c j)) n with g | g
          · exact a ⟨z.1, g⟩
          · exact b ⟨z.1, by omega⟩
theorem em_ow_le (c : St1) (n j : Nat) : em_ow c n j ≤ j := by
  induction j with
  | zero => exact Nat.le_refl _
  | succ j ih =>
    unfold em_ow
    split <;> omega
theorem em_oc_le (c : St1) (n j : Nat) : em_oc c n j ≤ j := by
  induction j with
  | zero => exact Nat.le_refl _
  | succ j ih =>
    unfold em_oc
    split <;> omega
theorem em_oc_mono (c : St1) (n : Nat) {i j : Nat} (h : i ≤ j) : em_oc c n i ≤ em_oc c n j := by
  induction j with
  | zero => rw [show i = 0 by omega]; exact Nat.le_refl _
  | succ j ih =>
    by_cases e : i = j + 1
    · rw [e]; exact Nat.le_refl _
    · have := ih (by omega)
      show em_oc c n i ≤ em_oc c n j + _
      omega
/-- what emitNode leaves -/
def em_done (c : St1) (n : Nat) (k : Nat) (L : List sx_N) (e' : em_E) (L' : List sx_N) : Prop :=
  em_A c (n + 1) (n + 1) e' L' ∧ em_pn e' = 0 ∧ em_M c (fun o => gi_s c (gi_o c o) < n + 1) (n + 1) L' ∧ L'.length ≤ L.length + k + em_oc c n 4
theorem gi_o9 {c : St1} (G : gi_G c) {o : Nat} (h : o < 4) : uq_a9 c o = -1 ∨ (uq_a9 c o = nI (gi_o c o) ∧ gi_o c o < gi_N c) := G.2.2.2.2.2.2.2 o h
theorem em_out121 {post : St1 → Prop} {c : St1} {e : em_E} {L : List sx_N} {n r : Nat} (G : gi_G c) (C : gi_C c) (hN : n < gi_N c) (hr : r < 8) (h : em_A c (n + 1) (n + 1) e L) (hL : L.length + 4 ≤ 300)
    (hv : ∀ s0 v, em_good c s0 v → sx_rg (sx_run (gi_T c) L s0) r = v n) (hM : em_M c (fun o => gi_s c (gi_o c o) < n) (n + 1) L)
    (hp : ∀ e' L', em_done c n 0 L e' L' → post (em_mk c e')) :
    ∃ fu, wX_emitNode_121 post (nI n) (nI r) fu 0 (uq_nc c) (uq_fc c) (uq_lv c) (uq_cp c) (uq_nd c) (em_pn e) (em_le e) (uq_wc c) (uq_ac c) (uq_dc c) (uq_sc c) (uq_a1 c) (uq_a2 c) (uq_a3 c) (uq_a4 c) (uq_a5 c) (uq_a6 c) (uq_a7 c) (uq_a8 c) (uq_a9 c) (uq_a10 c) (em_ho e) (em_ro e) (em_sv e) (em_op e) (em_it e) (em_fs e) (em_sn e) (em_nu e) (uq_a19 c) (uq_a20 c) (uq_a21 c) (uq_a22 c) (uq_a23 c) (uq_a24 c) (uq_a25 c) (uq_a26 c) := by
  have hN24 := gi_n24 G
  refine loop_m (fun fu (s : em_E × Nat) => wX_emitNode_121 post (nI n) (nI r) fu (nI s.2) (uq_nc c) (uq_fc c) (uq_lv c) (uq_cp c) (uq_nd c) (em_pn s.1) (em_le s.1) (uq_wc c) (uq_ac c) (uq_dc c) (uq_sc c) (uq_a1 c) (uq_a2 c) (uq_a3 c) (uq_a4 c) (uq_a5 c) (uq_a6 c) (uq_a7 c) (uq_a8 c) (uq_a9 c) (uq_a10 c) (em_ho s.1) (em_ro s.1) (em_sv s.1) (em_op s.1) (em_it s.1) (em_fs s.1) (em_sn s.1) (em_nu s.1) (uq_a19 c) (uq_a20 c) (uq_a21 c) (uq_a22 c) (uq_a23 c) (uq_a24 c) (uq_a25 c) (uq_a26 c)) (fun s => s.2 ≤ 4 ∧ ∃ L', em_A c (n + 1) (n + 1) s.1 L' ∧ L'.length ≤ L.length + em_oc c n s.2 ∧ (∀ s0 v, em_good c s0 v → sx_rg (sx_run (gi_T c) L' s0) r = v n) ∧ em_M c (fun o => gi_s c (gi_o c o) < n ∨ (gi_s c (gi_o c o) = n ∧ o < s.2)) (n + 1) L') (fun s => 4 - s.2) ?_ (e, 0) ⟨by dsimp only; omega, L, h, by dsimp only; omega, hv, em_M_P hM (fun o _ _ q => by dsimp only at q; omega)⟩
  rintro fu ⟨e1, j⟩ ⟨hj, L1, A1, l1, v1, M1⟩ ih
  dsimp only at hj A1 l1 v1 M1 ih ⊢
  refine pk_le 4 j (fun z => ?_) (fun z => ?_)
  · have e4 : j = 4 := by omega
    subst e4
    exact hp (0, em_le e1, em_ho e1, em_ro e1, em_sv e1, em_op e1, em_it e1, em_fs e1, em_sn e1, em_nu e1) L1 ⟨A1, rfl, em_M_P M1 (fun o ho _ q => by omega), l1⟩
  · have l4 := em_oc_le c n j
    have lm := em_oc_mono c n (i := j) (j := 4) (by omega)
    have ls : em_oc c n (j + 1) = em_oc c n j + (if uq_a9 c j ≠ -1 ∧ gi_s c (gi_o c j) = n then 1 else 0) := rfl
    rw [pk_cl j]
    refine ⟨pk_in j 4 z, ?_⟩
    have nx : ¬ (uq_a9 c j ≠ -1 ∧ gi_s c (gi_o c j) = n) → ∀ x, x = nI j + 1 → wX_emitNode_121 post (nI n) (nI r) fu x (uq_nc c) (uq_fc c) (uq_lv c) (uq_cp c) (uq_nd c) (em_pn e1) (em_le e1) (uq_wc c) (uq_ac c) (uq_dc c) (uq_sc c) (uq_a1 c) (uq_a2 c) (uq_a3 c) (uq_a4 c) (uq_a5 c) (uq_a6 c) (uq_a7 c) (uq_a8 c) (uq_a9 c) (uq_a10 c) (em_ho e1) (em_ro e1) (em_sv e1) (em_op e1) (em_it e1) (em_fs e1) (em_sn e1) (em_nu e1) (uq_a19 c) (uq_a20 c) (uq_a21 c) (uq_a22 c) (uq_a23 c) (uq_a24 c) (uq_a25 c) (uq_a26 c) := by
      intro hq
      rw [if_neg hq] at ls
      refine nm_r (nI_1 j) (ih (e1, j + 1) ⟨by dsimp only; omega, L1, A1, by dsimp only; omega, v1, em_M_P M1 (fun o ho h9 q => ?_)⟩ (by dsimp only; omega))
      dsimp only at q
      rcases q with q | ⟨q1, q2⟩
      · exact Or.inl q
      · by_cases eo : o = j
        · subst eo
          exact absurd ⟨h9, q1⟩ hq
        · exact Or.inr ⟨q1, by omega⟩
    rcases gi_o9 G z with h9 | ⟨h9, ho⟩
    · exact br_t (by rw [h9]; decide) (nx (fun q => q.1 h9))
    · refine br_f (by rw [h9]; exact nI_pos (by omega)) ⟨pk_in j 4 z, pk_in (gi_o c j) 24 (by omega) h9, ?_⟩
      rw [h9, pk_cl (gi_o c j)]
      have sl := gi_sle C ho
      have h9' : uq_a9 c j ≠ -1 := by rw [h9]; exact nu_m1 (by omega)
      refine pk_eq (gi_s c (gi_o c j)) n (fun es => ?_) (fun es => nx (fun q => es q.2)) (gi_s10 C ho)
      rw [if_pos ⟨h9', es⟩] at ls
      refine em_put (e := e1) 17 100 r 100 (nI (2 + j)) A1 (by omega) (by omega) rfl rfl (by rw [sx_r_lt (by omega)]) rfl (by rw [← nI_add]; rfl) ?_ (fun s q _ hne => ?_) (fun s m _ => ?_) ?_
      · exact Or.inr (Or.inr (Or.inr (Or.inr (Or.inr (Or.inr (Or.inr (Or.inl ⟨rfl, rfl, hr, rfl, 2 + j, rfl, by omega, by omega⟩)))))))
      · rw [sx_e17 _ (by omega)]; rfl
      · rw [sx_e17 _ (by omega)]
        exact pk_un (by omega)
      intro e2 A2 p2 o2 q2 s2
      dsimp only [em_mk]
      refine nm_r (nI_1 j) (ih (e2, j + 1) ⟨by dsimp only; omega, _, A2, by simp only [List.length_append, List.length_singleton]; omega, ?_, ?_⟩ (by dsimp only; omega))
      · intro s0 v hg
        rw [sx_run_app, sx_e17 _ (by omega)]
        exact v1 s0 v hg
      · intro s0 v hg
        obtain ⟨⟨h0, h1⟩, h2, h3, h4, h5⟩ := M1 s0 v hg
        rw [sx_run_app, sx_e17 _ (by omega)]
        have out : ∀ a, a ≠ 2 + j → upd (sx_me (sx_run (gi_T c) L1 s0)) (2 + j) (sx_rg (sx_run (gi_T c) L1 s0) r) a = sx_me (sx_run (gi_T c) L1 s0) a := fun a ha => pk_un ha
        refine ⟨⟨(out 0 (by omega)).trans h0, (out 1 (by omega)).trans h1⟩, fun o ho h9 q => ?_, fun m hm => (out _ (by omega)).trans (h3 m hm), fun m a b d => ⟨(h4 m a b d).1, fun x x1 x2 => (out x (by omega)).trans ((h4 m a b d).2 x x1 x2)⟩, fun m a b d => ⟨(h5 m a b d).1, fun x x1 x2 => (out x (by omega)).trans ((h5 m a b d).2 x x1 x2)⟩⟩
        by_cases eo : o = j
        · subst eo
          show upd _ _ _ _ = _
          rw [pk_us, es]
          exact v1 s0 v hg
        · refine (out _ (by omega)).trans (h2 o ho h9 ?_)
          dsimp only at q
          omega
theorem em_node112 {post : St1 → Prop} {c : St1} {e : em_E} {L : List sx_N} {n r : Nat} (G : gi_G c) (C : gi_C c) (hD : gi_D c n) (hr : r < 8) (hrep : em_rep e L) (hB : em_B c (n + 1) (n + 1) (upd (em_ho e) r (nI n)) (upd (em_ro e) n (nI r)) (em_sv e) L) (hL : L.length + 4 ≤ 300)
    (hv : ∀ s0 v, em_good c s0 v → sx_rg (sx_run (gi_T c) L s0) r = v n) (hM : em_M c (fun o => gi_s c (gi_o c o) < n) (n + 1) L)
    (hp : ∀ e' L', em_done c n 0 L e' L' → post (em_mk c e')) :
    wX_emitNode_112 post (nI n) (nI r) (uq_nc c) (uq_fc c) (uq_lv c) (uq_cp c) (uq_nd c) (em_pn e) (em_le e) (uq_wc c) (uq_ac c) (uq_dc c) (uq_sc c) (uq_a1 c) (uq_a2 c) (uq_a3 c) (uq_a4 c) (uq_a5 c) (uq_a6 c) (uq_a7 c) (uq_a8 c) (uq_a9 c) (uq_a10 c) (em_ho e) (em_ro e) (em_sv e) (em_op e) (em_it e) (em_fs e) (em_sn e) (em_nu e) (uq_a19 c) (uq_a20 c) (uq_a21 c) (uq_a22 c) (uq_a23 c) (uq_a24 c) (uq_a25 c) (uq_a26 c) := by
  obtain ⟨hN, h24⟩ := em_D24 G C hD
  unfold wX_emitNode_112
  refine em_keep (e := e) h24 hr rfl rfl ?_
  intro e1 k0 k1 k2 k3 k4 k5 k6 k7 k8 k9
  dsimp only [em_mk]
  refine em_out121 (e := e1) G C hN hr ⟨em_rep_of hrep k1 k5 k6 k7 k8 k9, ?_⟩ hL hv hM hp
  rw [k2, k3, k4]
  exact hB
end
section
/-! isOutput, emitNode -/
theorem em_isout {post : Int32 → Prop} {c : St1} {e : em_E} {n : Nat} {x : Int32} (G : gi_G c) (C : gi_C c) (hn : n < 24) (hx : x = nI n) (f : (∀ o, o < 4 → uq_a9 c o ≠ -1 → gi_s c (gi_o c o) ≠ n) → post 0) (g : post 1) : wpX_isOutput post (em_mk c e) x := by
  subst hx
  have hN24 := gi_n24 G
  have main : ∃ fu, wX_isOutput_2 post (nI n) (uq_nc c) (uq_fc c) (uq_lv c) (uq_cp c) (uq_nd c) (em_pn e) (em_le e) (uq_wc c) (uq_ac c) (uq_dc c) (uq_sc c) (uq_a1 c) (uq_a2 c) (uq_a3 c) (uq_a4 c) (uq_a5 c) (uq_a6 c) (uq_a7 c) (uq_a8 c) (uq_a9 c) (uq_a10 c) (em_ho e) (em_ro e) (em_sv e) (em_op e) (em_it e) (em_fs e) (em_sn e) (em_nu e) (uq_a19 c) (uq_a20 c) (uq_a21 c) (uq_a22 c) (uq_a23 c) (uq_a24 c) (uq_a25 c) (uq_a26 c) fu 0 := by
    refine loop_m (fun fu j => wX_isOutput_2 post (nI n) (uq_nc c) (uq_fc c) (uq_lv c) (uq_cp c) (uq_nd c) (em_pn e) (em_le e) (uq_wc c) (uq_ac c) (uq_dc c) (uq_sc c) (uq_a1 c) (uq_a2 c) (uq_a3 c) (uq_a4 c) (uq_a5 c) (uq_a6 c) (uq_a7 c) (uq_a8 c) (uq_a9 c) (uq_a10 c) (em_ho e) (em_ro e) (em_sv e) (em_op e) (em_it e) (em_fs e) (em_sn e) (em_nu e) (uq_a19 c) (uq_a20 c) (uq_a21 c) (uq_a22 c) (uq_a23 c) (uq_a24 c) (uq_a25 c) (uq_a26 c) fu (nI j)) (fun j => j ≤ 4 ∧ ∀ o, o < j → uq_a9 c o ≠ -1 → gi_s c (gi_o c o) ≠ n) (fun j => 4 - j) ?_ 0 ⟨by omega, fun o ho => absurd ho (by omega)⟩
    intro fu j ⟨hj, hq⟩ ih
    refine pk_le 4 j (fun z => f (fun o ho => hq o (by omega))) (fun z => ?_)
    rw [pk_cl j]
    refine ⟨pk_in j 4 z, ?_⟩
    have nx : ¬ (uq_a9 c j ≠ -1 ∧ gi_s c (gi_o c j) = n) → ∀ x, x = nI j + 1 → wX_isOutput_2 post (nI n) (uq_nc c) (uq_fc c) (uq_lv c) (uq_cp c) (uq_nd c) (em_pn e) (em_le e) (uq_wc c) (uq_ac c) (uq_dc c) (uq_sc c) (uq_a1 c) (uq_a2 c) (uq_a3 c) (uq_a4 c) (uq_a5 c) (uq_a6 c) (uq_a7 c) (uq_a8 c) (uq_a9 c) (uq_a10 c) (em_ho e) (em_ro e) (em_sv e) (em_op e) (em_it e) (em_fs e) (em_sn e) (em_nu e) (uq_a19 c) (uq_a20 c) (uq_a21 c) (uq_a22 c) (uq_a23 c) (uq_a24 c) (uq_a25 c) (uq_a26 c) fu x := by
      intro hc
      refine nm_r (nI_1 j) (ih (j + 1) ⟨by omega, fun o ho h9 => ?_⟩ (by omega))
      by_cases eo : o = j
      · subst eo
        exact fun q => hc ⟨h9, q⟩
      · exact hq o (by omega) h9
    rcases gi_o9 G z with h9 | ⟨h9, ho⟩
    · exact br_t (by rw [h9]; decide) (nx (fun q => q.1 h9))
    · refine br_f (by rw [h9]; exact nI_pos (by omega)) ⟨pk_in j 4 z, pk_in (gi_o c j) 24 (by omega) h9, ?_⟩
      rw [h9, pk_cl (gi_o c j)]
      have sl := gi_sle C ho
      exact pk_eq (gi_s c (gi_o c j)) n (fun es => g) (fun es => nx (fun q => es q.2)) (gi_s10 C ho)
  exact main
theorem em_node53 {post : St1 → Prop} {c : St1} {e : em_E} {L : List sx_N} {n : Nat} (G : gi_G c) (C : gi_C c) (hD : gi_D c n) (h : em_A c n n e L) (hL : L.length + 6 ≤ 300) (h0 : ∀ r, r < 8 → bt (em_pn e) r = false)
    (hk : gi_k c n = 0 ∨ gi_k c n = 5) (hM : em_M c (fun o => gi_s c (gi_o c o) < n) n L)
    (hp : ∀ e' L', em_done c n 2 L e' L' → post (em_mk c e')) :
    wX_emitNode_53 post (nI n) (nI (gi_k c n)) (uq_nc c) (uq_fc c) (uq_lv c) (uq_cp c) (uq_nd c) (em_pn e) (em_le e) (uq_wc c) (uq_ac c) (uq_dc c) (uq_sc c) (uq_a1 c) (uq_a2 c) (uq_a3 c) (uq_a4 c) (uq_a5 c) (uq_a6 c) (uq_a7 c) (uq_a8 c) (uq_a9 c) (uq_a10 c) (em_ho e) (em_ro e) (em_sv e) (em_op e) (em_it e) (em_fs e) (em_sn e) (em_nu e) (uq_a19 c) (uq_a20 c) (uq_a21 c) (uq_a22 c) (uq_a23 c) (uq_a24 c) (uq_a25 c) (uq_a26 c) := by
  obtain ⟨hN, h24⟩ := em_D24 G C hD
  unfold wX_emitNode_53
  refine em_free (e := e) (n + 1) G C ⟨h.1, em_mono h.2 (by omega)⟩ (by omega) (by omega) ⟨0, by omega, h0 0 (by omega)⟩ (nI_1 n) ?_
  intro b e1 L1 ⟨f1, f2, ⟨fr, fB⟩, f4, f5, f6, f7, f8, f9, f10⟩
  have M1 := em_M_fr G C hM f10
  have fin : ∀ (m : Nat) (z : Int32), z = nI m → m < 32 → (∀ s0 v, em_good c s0 v → sx_me (sx_run (gi_T c) L1 s0) m = v n) → wX_emitNode_84 post (nI n) (nI b) z (-1) (-1) (nI b) 16 (uq_nc c) (uq_fc c) (uq_lv c) (uq_cp c) (uq_nd c) (em_pn e1) (em_le e1) (uq_wc c) (uq_ac c) (uq_dc c) (uq_sc c) (uq_a1 c) (uq_a2 c) (uq_a3 c) (uq_a4 c) (uq_a5 c) (uq_a6 c) (uq_a7 c) (uq_a8 c) (uq_a9 c) (uq_a10 c) (em_ho e1) (em_ro e1) (em_sv e1) (em_op e1) (em_it e1) (em_fs e1) (em_sn e1) (em_nu e1) (uq_a19 c) (uq_a20 c) (uq_a21 c) (uq_a22 c) (uq_a23 c) (uq_a24 c) (uq_a25 c) (uq_a26 c) := by
    intro m z hz hm hv
    unfold wX_emitNode_84
    refine em_put (e := e1) 16 b 100 100 (nI m) ⟨fr, fB⟩ (by omega) (by omega) rfl (by rw [sx_r_lt (by omega)]) rfl rfl hz ?_ (fun s r _ hne => ?_) (fun s m _ => ?_) ?_
    · exact Or.inr (Or.inr (Or.inr (Or.inr (Or.inr (Or.inr (Or.inl ⟨rfl, f1, rfl, rfl, m, rfl, by omega, by omega⟩))))))
    · rw [sx_e16 _ f1 (by omega)]
      exact pk_un (fun er => hne (by rw [er]; exact f5))
    · rw [sx_e16 _ f1 (by omega)]; rfl
    intro e2 A2 p2 o2 q2 s2
    dsimp only [em_mk]
    have hv2 : ∀ s0 v, em_good c s0 v → sx_rg (sx_run (gi_T c) (L1 ++ [(16, b, 100, 100, nI m)]) s0) b = v n := by
      intro s0 v hg
      rw [sx_run_app, sx_e16 _ f1 (by omega)]
      show upd _ _ _ _ = _
      rw [pk_us]
      exact hv s0 v hg
    have M2 : em_M c (fun o => gi_s c (gi_o c o) < n) (n + 1) (L1 ++ [(16, b, 100, 100, nI m)]) := by
      refine em_M_skip (em_M_fr (Q := fun _ => False) G C M1 ?_) (Or.inr (by omega))
      intro s0
      rw [sx_run_app, sx_e16 _ f1 (by omega)]
      exact ⟨fun r hr => absurd hr id, rfl, rfl, fun a _ => rfl⟩
    refine em_node112 (e := e2) G C hD f1 A2.1 ?_ (by rw [List.length_append, List.length_singleton]; omega) hv2 M2 ?_
    · exact em_keepB A2.2 f1 h24 hD (by rw [o2]; exact f5) (A2.2.2.2.1.1 n (Nat.le_refl _) h24) (by omega) (by omega) (fun m hm => by omega) hv2
    · intro e' L' ⟨d1, d2, d3, d4⟩
      rw [List.length_append, List.length_singleton] at d4
      exact hp e' L' ⟨d1, d2, d3, by omega⟩
  dsimp only [em_mk]
  refine pk_eq (gi_k c n) 0 (fun z => ⟨pk_in n 24 h24, ?_⟩) (fun z => ?_)
  · rw [pk_cl n]
    obtain ⟨_, _, n3, n4, _⟩ := gi_nd G hN
    have hx2 := n4 z
    refine fin (gi_x c n) _ (n3 (by omega)) (by omega) ?_
    intro s0 v hg
    obtain ⟨⟨m0, m1⟩, _⟩ := M1 s0 v hg
    rw [hg n hD]
    unfold rf_fv
    rw [if_pos z]
    rcases (show gi_x c n = 0 ∨ gi_x c n = 1 by omega) with q | q
    · rw [q]; exact m0
    · rw [q]; exact m1
  · have k5 : gi_k c n = 5 := by omega
    refine fin (8 + n) _ (by rw [← nI_add]; rfl) (by omega) ?_
    intro s0 v hg
    obtain ⟨_, _, m3, _⟩ := M1 s0 v hg
    rw [hg n hD, m3 n h24]
    unfold rf_fv
    rw [if_neg (by omega), if_neg (by omega), if_pos k5]
theorem em_node {post : St1 → Prop} {c : St1} {e : em_E} {L : List sx_N} (n : Nat) {x : Int32} (G : gi_G c) (C : gi_C c) (hD : gi_D c n) (h : em_A c n n e L) (hL : L.length + 30 ≤ 300) (h0 : em_pn e = 0) (hx : x = nI n)
    (hM : em_M c (fun o => gi_s c (gi_o c o) < n) n L)
    (hp : ∀ e' L', em_done c n (if gi_k c n = 6 then 26 else 6) L e' L' → post (em_mk c e')) : wpX_emitNode post (em_mk c e) x := by
  subst hx
  obtain ⟨hN, h24⟩ := em_D24 G C hD
  have hN24 := gi_n24 G
  have k3 := gi_k3 G hN
  have k10 := gi_k10 G hN
  have sn := (C.2.1 n hD).2
  have h0' : ∀ r, r < 8 → bt (em_pn e) r = false := fun r _ => by rw [h0]; exact b_0 r
  have new112 : ∀ (k r : Nat) (e1 : em_E) (L1 : List sx_N), em_A c n (n + 1) e1 L1 → L1.length ≤ L.length + k → k ≤ 26 → k ≤ (if gi_k c n = 6 then 26 else 6) → r < 8 → em_ho e1 r = -1 → (∀ s0 v, em_good c s0 v → sx_rg (sx_run (gi_T c) L1 s0) r = v n) → em_M c (fun o => gi_s c (gi_o c o) < n) (n + 1) L1 → wX_emitNode_112 post (nI n) (nI r) (uq_nc c) (uq_fc c) (uq_lv c) (uq_cp c) (uq_nd c) (em_pn e1) (em_le e1) (uq_wc c) (uq_ac c) (uq_dc c) (uq_sc c) (uq_a1 c) (uq_a2 c) (uq_a3 c) (uq_a4 c) (uq_a5 c) (uq_a6 c) (uq_a7 c) (uq_a8 c) (uq_a9 c) (uq_a10 c) (em_ho e1) (em_ro e1) (em_sv e1) (em_op e1) (em_it e1) (em_fs e1) (em_sn e1) (em_nu e1) (uq_a19 c) (uq_a20 c) (uq_a21 c) (uq_a22 c) (uq_a23 c) (uq_a24 c) (uq_a25 c) (uq_a26 c) := by
    intro k r e1 L1 A1 l1 k26 kk r8 hr1 hv1 M1
    refine em_node112 (e := e1) G C hD r8 A1.1 ?_ (by omega) hv1 M1 ?_
    · exact em_keepB A1.2 r8 h24 hD hr1 (A1.2.2.2.1.1 n (Nat.le_refl _) h24) (by omega) (by omega) (fun m hm => by omega) hv1
    · intro e' L' ⟨d1, d2, d3, d4⟩
      exact hp e' L' ⟨d1, d2, d3, by omega⟩
  unfold wpX_emitNode em_mk
  dsimp only
  rw [pk_cl n]
  refine ⟨pk_in n 24 h24, nm_r k3 ⟨pk_in n 24 h24, br_t ?_ ?_⟩⟩
  · rw [gi_s10 C hN, sn]
  refine pk_eq (gi_k c n) 1 (fun k1 => ?_) (fun k1 => ?_)
  · refine em_isout (e := e) G C h24 rfl (fun ho => br_t rfl ?_) (br_f (by decide) ?_)
    · refine hp e L ⟨⟨h.1, em_skip (em_mono h.2 (by omega)) (Or.inr k1)⟩, h0, ?_, by omega⟩
      refine em_M_P (em_M_skip hM (Or.inr (by omega))) (fun o h4 h9 q => ?_)
      have := ho o h4 h9
      omega
    · refine em_bring (e := e) (cur := n + 1) n n G C ⟨h.1, em_skip h.2 (Or.inr k1)⟩ (by omega) (by omega) ⟨0, by omega, h0' 0 (by omega)⟩ rfl rfl hN (by omega) (by rw [sn]; exact hD) (by rw [sn]; exact Or.inl k1) ?_
      intro r e1 L1 ⟨b1, b2, b3, b4, b5, b6, b7⟩
      rw [sn] at b4
      have ro := (em_ro_of b2.2.2.1 b1 h24 b4).1
      dsimp only [em_mk]
      refine em_node112 (e := e1) G C hD b1 b2.1 ?_ (by omega) ?_ (em_M_skip (em_M_fr G C hM b7) (Or.inr (by omega))) ?_
      · have e1' : upd (em_ho e1) r (nI n) = em_ho e1 := by
          funext j
          by_cases ej : j = r
          · rw [ej, pk_us, b4]
          · rw [pk_un ej]
        have e2' : upd (em_ro e1) n (nI r) = em_ro e1 := by
          funext j
          by_cases ej : j = n
          · rw [ej, pk_us, ro]
          · rw [pk_un ej]
        rw [e1', e2']
        exact em_mono b2.2 (by omega)
      · intro s0 v hg
        exact (b2.2.2.2.2 s0 v hg).1 r n b1 h24 b4
      · intro e' L' ⟨d1, d2, d3, d4⟩
        refine hp e' L' ⟨d1, d2, d3, ?_⟩
        rw [if_neg (by omega)]
        omega
  · have done2 : ∀ e' L', em_done c n 2 L e' L' → post (em_mk c e') := by
      intro e' L' ⟨d1, d2, d3, d4⟩
      refine hp e' L' ⟨d1, d2, d3, ?_⟩
      split <;> omega
    refine pk_eq (gi_k c n) 0 (fun k0 => em_node53 G C hD h (by omega) h0' (Or.inl k0) hM done2) (fun k0 => ?_)
    refine pk_eq (gi_k c n) 5 (fun k5 => em_node53 G C hD h (by omega) h0' (Or.inr k5) hM done2) (fun k5 => ?_)
    refine pk_eq (gi_k c n) 6 (fun k6 => ?_) (fun k6 => ?_)
    · refine em_filter (e := e) n G C hN hD h (by omega) h0' rfl k6 ?_ ?_
      · intro s0 v hg
        obtain ⟨_, _, _, _, m5⟩ := hM s0 v hg
        exact m5 n hD k6 (Nat.le_refl _)
      · intro r e1 L1 F
        have M1 := em_M_filter G C hD k6 hM F
        obtain ⟨g1, g2, g3, g4, g5, g6⟩ := F
        dsimp only [em_mk]
        exact new112 26 r e1 L1 g2 g3 (by omega) (by rw [if_pos k6]; exact Nat.le_refl _) g1 g4 g5 M1
    · refine em_plain (e := e) n G C hN hD h (by omega) h0' rfl rfl (by omega) k5 k6 ?_
      intro r e1 L1 ⟨g1, g2, g3, g4, g5, g6⟩
      dsimp only [em_mk]
      exact new112 6 r e1 L1 g2 g3 (by omega) (by rw [if_neg k6]; exact Nat.le_refl _) g1 g4 g5 (em_M_skip (em_M_fr G C hM g6) (Or.inr k6))
end
section
theorem nu_in {n N : Nat} (h : n < N) (hN : N < 2 ^ 31 := by omega) : vp_in (nI n) N := vp_in_nI h hN
theorem nu_cl (n : Nat) (h : n < 2 ^ 31 := by omega) : (nI n).toNatClampNeg = n := nI_clamp h
/-! how far instructions must stand apart -/
def sx_at (L : List sx_N) (j : Nat) : sx_N := L.getD j (0, 100, 100, 100, 0)
theorem sx_at_get {L : List sx_N} {j : Nat} (h : j < L.length) : L[j]? = some (sx_at L j) := by
  unfold sx_at
  rw [List.getD_eq_getElem?_getD, List.getElem?_eq_getElem h]
  rfl
theorem sx_at_mem {L : List sx_N} {j : Nat} (h : j < L.length) : sx_at L j ∈ L := List.mem_of_getElem? (sx_at_get h)
def sx_rd (x : sx_N) (r : Nat) : Prop := r < 9 ∧ (sx_a x = r ∨ sx_b x = r ∨ (sx_o x = 12 ∧ r = 8))
def sx_ts (x y : sx_N) : Prop := (18 ≤ sx_o x ∧ 18 ≤ sx_o y ∧ sx_m x / 8 = sx_m y / 8) ∨ (sx_o x < 18 ∧ sx_o y < 18 ∧ sx_n x = sx_n y)
/-- instruction x at word w, a later one y at word w' -/
def sd_c (x y : sx_N) (w w' : Nat) : Prop :=
  (sx_rd y (sx_d x) → w + sx_dl (sx_o x) ≤ w') ∧ (sx_rd x (sx_d y) → w ≤ w') ∧
  (sx_d y < 9 → sx_d y = sx_d x → w + sx_dl (sx_o x) + 1 ≤ w' + sx_dl (sx_o y)) ∧
  (16 ≤ sx_o y → 16 ≤ sx_o x → sx_ts y x → w + 1 ≤ w')
theorem sd_c_mono {x y : sx_N} {w a b : Nat} (h : sd_c x y w a) (hab : a ≤ b) : sd_c x y w b := by
  obtain ⟨h1, h2, h3, h4⟩ := h
  exact ⟨fun z => by have := h1 z; omega, fun z => by have := h2 z; omega, fun z z' => by have := h3 z z'; omega, fun z z' z'' => by have := h4 z z' z''; omega⟩
theorem sd_c_two (x y : sx_N) {w w' : Nat} (h : w + 2 ≤ w') : sd_c x y w w' := by
  have := sx_dl_in (sx_o x)
  have := sx_dl_in (sx_o y)
  exact ⟨fun _ => by omega, fun _ => by omega, fun _ _ => by omega, fun _ _ _ => by omega⟩
/-! distance -/
def sd_x (o : Option Nat) : Int32 := match o with | none => -1000 | some d => nI d
def sd_s (o : Option Nat) (w w' : Nat) : Prop := match o with | none => True | some d => w + d ≤ w'
/-- what the walks over code read: instruction i of the arrays is x -/
def sd_ins (u : St1) (i : Nat) (x : sx_N) : Prop :=
  uq_a14 u i = nI (sx_o x) ∧ uq_a15 u i = sx_r (sx_d x) ∧ uq_a16 u i = sx_r (sx_a x) ∧ uq_a17 u i = sx_r (sx_b x) ∧ uq_a18 u i = sx_n x ∧ i < 300 ∧ sx_o x < 21 ∧
  (sx_d x < 9 ∨ sx_d x = 100) ∧ (sx_a x < 9 ∨ sx_a x = 100) ∧ (sx_b x < 9 ∨ sx_b x = 100) ∧ (16 ≤ sx_o x → ∃ m, sx_n x = nI m ∧ m < 96)
theorem sx_r_eq {a b : Nat} (ha : a < 9 ∨ a = 100) (hb : b < 9 ∨ b = 100) : sx_r a = sx_r b ↔ a = b := by
  constructor
  · intro h
    rcases ha with ha | ha <;> rcases hb with hb | hb
    · rw [sx_r_lt ha, sx_r_lt hb] at h
      exact nu_inj (by omega) (by omega) h
    · subst hb
      rw [sx_r_lt ha] at h
      exact absurd h (nu_m1 (by omega))
    · subst ha
      rw [sx_r_lt hb] at h
      exact absurd h.symm (nu_m1 (by omega))
    · omega
  · intro h; rw [h]
theorem lf_reads {post : Int32 → Prop} {u : St1} {i : Nat} {x : sx_N} {r : Nat} {p q : Int32} (h : sd_ins u i x) (hr : r < 9 ∨ r = 100) (f : sx_rd x r → post 1) (g : ¬ sx_rd x r → post 0) (hp : p = nI i) (hq : q = sx_r r) : wpX_reads post u p q := by
  subst hp hq
  obtain ⟨h14, h15, h16, h17, h18, h3, ho, hd, ha, hb, hm⟩ := h
  unfold sx_rd at f g
  obtain ⟨nc, fc, lv, cp, nd, pn, le, wc, ac, dc, sc, a1, a2, a3, a4, a5, a6, a7, a8, a9, a10, a11, a12, a13, a14, a15, a16, a17, a18, a19, a20, a21, a22, a23, a24, a25, a26⟩ := u
  change a14 i = _ at h14
  change a16 i = _ at h16
  change a17 i = _ at h17
  unfold wpX_reads
  dsimp only
  rw [nu_cl i, h14, h16, h17]
  rcases hr with hr | hr
  · have hr' := sx_r_lt hr
    refine br_f (by rw [hr']; exact nI_pos (by omega)) ⟨pk_in i 300 h3, ?_⟩
    refine ek_if (sx_r_eq ha (Or.inl hr)) (fun z => f ⟨hr, Or.inl z⟩) (fun z => ⟨pk_in i 300 h3, ?_⟩)
    refine ek_if (sx_r_eq hb (Or.inl hr)) (fun z => f ⟨hr, Or.inr (Or.inl z)⟩) (fun z2 => ⟨pk_in i 300 h3, ?_⟩)
    refine pk_eq (sx_o x) 12 (fun z3 => ?_) (fun z3 => g (fun q => ?_))
    · refine pk_eq r 8 (fun z4 => f ⟨hr, Or.inr (Or.inr ⟨z3, z4⟩)⟩) (fun z4 => g (fun q => ?_)) hr'
      rcases q.2 with q | q | q
      · exact z q
      · exact z2 q
      · exact z4 q.2
    · rcases q.2 with q | q | q
      · exact z q
      · exact z2 q
      · exact z3 q.1
  · subst hr
    exact br_t (by decide) (g (fun q => absurd q.1 (by omega)))
theorem lf_same {post : Int32 → Prop} {u : St1} {i j : Nat} {x y : sx_N} {p q : Int32} (h : sd_ins u i x) (h' : sd_ins u j y) (kx : 16 ≤ sx_o x) (ky : 16 ≤ sx_o y) (f : sx_ts x y → post 1) (g : ¬ sx_ts x y → post 0) (hp : p = nI i) (hq : q = nI j) : wpX_touchSame post u p q := by
  subst hp hq
  obtain ⟨h14, h15, h16, h17, h18, h3, ho, hd, ha, hb, hm⟩ := h
  obtain ⟨g14, g15, g16, g17, g18, g3, go, gd, ga, gb, gm⟩ := h'
  obtain ⟨m, hm, m96⟩ := hm kx
  obtain ⟨l, hl, l96⟩ := gm ky
  have em : sx_m x = m := by unfold sx_m; rw [hm, nu_cl m]
  have el : sx_m y = l := by unfold sx_m; rw [hl, nu_cl l]
  unfold sx_ts at f g
  rw [em, el, hm, hl] at f g
  obtain ⟨nc, fc, lv, cp, nd, pn, le, wc, ac, dc, sc, a1, a2, a3, a4, a5, a6, a7, a8, a9, a10, a11, a12, a13, a14, a15, a16, a17, a18, a19, a20, a21, a22, a23, a24, a25, a26⟩ := u
  change a14 i = _ at h14
  change a14 j = _ at g14
  change a18 i = _ at h18
  change a18 j = _ at g18
  unfold wpX_touchSame
  dsimp only
  rw [nu_cl i, nu_cl j, h14, g14, h18, g18, hm, hl]
  refine ⟨pk_in i 300 h3, ?_⟩
  refine lf_ring (sx_o x) (by omega) (fun r1 => ⟨pk_in j 300 g3, ?_⟩) (fun r1 => ⟨pk_in j 300 g3, ?_⟩)
  · refine lf_ring (sx_o y) (by omega) (fun r2 => br_t rfl ⟨pk_in i 300 h3, ?_⟩) (fun r2 => br_f (by decide) (g (fun q => by omega)))
    refine lf_ring (sx_o x) (by omega) (fun _ => br_t rfl ⟨pk_in i 300 h3, pk_in j 300 g3, ?_⟩) (fun r3 => absurd r3 (by omega))
    exact br_c (fun z => f (Or.inr ⟨r1, r2, z⟩)) (fun z => g (fun q => by rcases q with q | q; omega; exact z q.2.2))
  · refine lf_ring (sx_o y) (by omega) (fun r2 => br_f (by decide) (g (fun q => by omega))) (fun r2 => br_t rfl ⟨pk_in i 300 h3, ?_⟩)
    refine lf_ring (sx_o x) (by omega) (fun r3 => absurd r3 (by omega)) (fun _ => br_f (by decide) ⟨pk_in i 300 h3, by decide, pk_in j 300 g3, by decide, ?_⟩)
    have d1 : nI m / 8 = nI (m / 8) := pk_div (d := 8) (by omega) (by omega) (by omega)
    have d2 : nI l / 8 = nI (l / 8) := pk_div (d := 8) (by omega) (by omega) (by omega)
    refine pk_eq (m / 8) (l / 8) (fun z => f (Or.inl ⟨r1, r2, z⟩)) (fun z => g (fun q => by omega)) d1 d2
theorem sd_le {a : Nat} {o : Option Nat} (ha : a < 1000) (ho : ∀ d, o = some d → d < 1000) : nI a ≤ sd_x o ↔ ∃ d, o = some d ∧ a ≤ d := by
  cases o with
  | none =>
    refine ⟨fun z => ?_, fun ⟨d, e, _⟩ => absurd e (by simp)⟩
    have z' : nI a ≤ (-1000 : Int32) := z
    rw [nu_le, nI_toInt (by omega)] at z'
    have : (-1000 : Int32).toInt = -1000 := by decide
    omega
  | some d =>
    have := ho d rfl
    refine (nI_leI (by omega) (by omega)).trans ⟨fun z => ⟨d, rfl, z⟩, fun ⟨d', e, z⟩ => ?_⟩
    rw [Option.some.inj e]
    exact z
/-- the running distance o is small and covers what is known so far -/
def sd_ok (o : Option Nat) (P : Nat → Nat → Prop) : Prop := (∀ d, o = some d → d ≤ 2) ∧ ∀ w w', sd_s o w w' → P w w'
theorem sd_107 {post : Int32 → Prop} {u : St1} {i j : Nat} {x y : sx_N} {o : Option Nat} (hx : sd_ins u j x) (hy : sd_ins u i y)
    (ho : sd_ok o (fun w w' => (sx_rd y (sx_d x) → w + sx_dl (sx_o x) ≤ w') ∧ (sx_rd x (sx_d y) → w ≤ w') ∧ (sx_d y < 9 → sx_d y = sx_d x → w + sx_dl (sx_o x) + 1 ≤ w' + sx_dl (sx_o y))))
    (hp : ∀ o, sd_ok o (fun w w' => sd_c x y w w') → post (sd_x o)) :
    wX_distance_107 post (nI j) (nI i) (sd_x o) (uq_nc u) (uq_fc u) (uq_lv u) (uq_cp u) (uq_nd u) (uq_pn u) (uq_le u) (uq_wc u) (uq_ac u) (uq_dc u) (uq_sc u) (uq_a1 u) (uq_a2 u) (uq_a3 u) (uq_a4 u) (uq_a5 u) (uq_a6 u) (uq_a7 u) (uq_a8 u) (uq_a9 u) (uq_a10 u) (uq_a11 u) (uq_a12 u) (uq_a13 u) (uq_a14 u) (uq_a15 u) (uq_a16 u) (uq_a17 u) (uq_a18 u) (uq_a19 u) (uq_a20 u) (uq_a21 u) (uq_a22 u) (uq_a23 u) (uq_a24 u) (uq_a25 u) (uq_a26 u) := by
  obtain ⟨h14, _, _, _, _, h3, ho20, _⟩ := id hx
  obtain ⟨g14, _, _, _, _, g3, go20, _⟩ := id hy
  unfold wX_distance_107
  rw [nu_cl i, nu_cl j, h14, g14]
  have keep : (16 ≤ sx_o y → 16 ≤ sx_o x → sx_ts y x → ∃ d, o = some d ∧ 1 ≤ d) → post (sd_x o) := by
    intro hk
    refine hp o ⟨ho.1, fun w w' hs => ?_⟩
    obtain ⟨c1, c2, c3⟩ := ho.2 w w' hs
    refine ⟨c1, c2, c3, fun z1 z2 z3 => ?_⟩
    obtain ⟨d, e, hd⟩ := hk z1 z2 z3
    subst e
    have : w + d ≤ w' := hs
    omega
  refine ⟨pk_in i 300 g3, ?_⟩
  refine lf_mem (sx_o y) (by omega) (fun z => br_t rfl (keep (fun q => absurd q (by omega)))) (fun z => br_f (by decide) ⟨pk_in j 300 h3, ?_⟩)
  refine lf_mem (sx_o x) (by omega) (fun z => br_t rfl (keep (fun _ q => absurd q (by omega)))) (fun z2 => br_f (by decide) ?_)
  refine lf_same hy hx z z2 (fun z3 => br_f (by decide) ?_) (fun z3 => br_t rfl (keep (fun _ _ q => absurd q z3))) rfl rfl
  refine ek_if (sd_le (a := 1) (by omega) (fun d hd => by have := ho.1 d hd; omega)) (fun q => keep (fun _ _ _ => q)) (fun q => ?_)
  refine hp (some 1) ⟨fun d hd => by have := Option.some.inj hd; omega, fun w w' hs => ?_⟩
  have hs' : w + 1 ≤ w' := hs
  have : sd_s o w w' := by
    cases o with
    | none => exact trivial
    | some d =>
      show w + d ≤ w'
      have : ¬ 1 ≤ d := fun z => q ⟨d, rfl, z⟩
      omega
  obtain ⟨c1, c2, c3⟩ := ho.2 w w' this
  exact ⟨c1, c2, c3, fun _ _ _ => hs'⟩
theorem sd_49 {post : Int32 → Prop} {u : St1} {i j : Nat} {x y : sx_N} {o : Option Nat} (hx : sd_ins u j x) (hy : sd_ins u i y)
    (ho : sd_ok o (fun w w' => (sx_rd y (sx_d x) → w + sx_dl (sx_o x) ≤ w') ∧ (sx_rd x (sx_d y) → w ≤ w')))
    (hp : ∀ o, sd_ok o (fun w w' => sd_c x y w w') → post (sd_x o)) :
    wX_distance_49 post (nI j) (nI i) (sd_x o) (uq_nc u) (uq_fc u) (uq_lv u) (uq_cp u) (uq_nd u) (uq_pn u) (uq_le u) (uq_wc u) (uq_ac u) (uq_dc u) (uq_sc u) (uq_a1 u) (uq_a2 u) (uq_a3 u) (uq_a4 u) (uq_a5 u) (uq_a6 u) (uq_a7 u) (uq_a8 u) (uq_a9 u) (uq_a10 u) (uq_a11 u) (uq_a12 u) (uq_a13 u) (uq_a14 u) (uq_a15 u) (uq_a16 u) (uq_a17 u) (uq_a18 u) (uq_a19 u) (uq_a20 u) (uq_a21 u) (uq_a22 u) (uq_a23 u) (uq_a24 u) (uq_a25 u) (uq_a26 u) := by
  obtain ⟨h14, h15, _, _, _, h3, ho20, hd, _⟩ := id hx
  obtain ⟨g14, g15, _, _, _, g3, go20, gd, _⟩ := id hy
  unfold wX_distance_49
  rw [nu_cl i, nu_cl j, h14, g14, h15, g15]
  have dx := sx_dl_in (sx_o x)
  have dy := sx_dl_in (sx_o y)
  have keep : (sx_d y < 9 → sx_d y = sx_d x → ∃ d, o = some d ∧ sx_dl (sx_o x) + 1 - sx_dl (sx_o y) ≤ d) → wX_distance_107 post (nI j) (nI i) (sd_x o) (uq_nc u) (uq_fc u) (uq_lv u) (uq_cp u) (uq_nd u) (uq_pn u) (uq_le u) (uq_wc u) (uq_ac u) (uq_dc u) (uq_sc u) (uq_a1 u) (uq_a2 u) (uq_a3 u) (uq_a4 u) (uq_a5 u) (uq_a6 u) (uq_a7 u) (uq_a8 u) (uq_a9 u) (uq_a10 u) (uq_a11 u) (uq_a12 u) (uq_a13 u) (uq_a14 u) (uq_a15 u) (uq_a16 u) (uq_a17 u) (uq_a18 u) (uq_a19 u) (uq_a20 u) (uq_a21 u) (uq_a22 u) (uq_a23 u) (uq_a24 u) (uq_a25 u) (uq_a26 u) := by
    intro hk
    refine sd_107 hx hy ⟨ho.1, fun w w' hs => ?_⟩ hp
    obtain ⟨c1, c2⟩ := ho.2 w w' hs
    refine ⟨c1, c2, fun z1 z2 => ?_⟩
    obtain ⟨d, e, hd⟩ := hk z1 z2
    subst e
    have : w + d ≤ w' := hs
    omega
  refine ⟨pk_in i 300 g3, ?_⟩
  rcases gd with gd | gd
  · rw [sx_r_lt gd]
    refine br_f (nI_pos (by omega)) ⟨pk_in i 300 g3, pk_in j 300 h3, ?_⟩
    rw [← sx_r_lt gd]
    refine ek_if (sx_r_eq (Or.inl gd) hd) (fun z => ⟨pk_in j 300 h3, ?_⟩) (fun z => keep (fun _ q => absurd q z))
    refine lf_delay (sx_o x) (by omega) ⟨pk_in i 300 g3, ?_⟩
    refine lf_delay (sx_o y) (by omega) ?_
    have el : nI (sx_dl (sx_o x)) - nI (sx_dl (sx_o y)) + 1 = nI (sx_dl (sx_o x) + 1 - sx_dl (sx_o y)) := by
      rcases (show sx_dl (sx_o x) = 1 ∨ sx_dl (sx_o x) = 2 by omega) with e1 | e1 <;> rcases (show sx_dl (sx_o y) = 1 ∨ sx_dl (sx_o y) = 2 by omega) with e2 | e2 <;> rw [e1, e2] <;> decide
    refine nm_r el ?_
    refine ek_if (sd_le (by omega) (fun d hd => by have := ho.1 d hd; omega)) (fun q => keep (fun _ _ => q)) (fun q => ?_)
    refine sd_107 (o := some (sx_dl (sx_o x) + 1 - sx_dl (sx_o y))) hx hy ⟨fun d hd => by have := Option.some.inj hd; omega, fun w w' hs => ?_⟩ hp
    have hs' : w + (sx_dl (sx_o x) + 1 - sx_dl (sx_o y)) ≤ w' := hs
    have : sd_s o w w' := by
      cases o with
      | none => exact trivial
      | some d =>
        show w + d ≤ w'
        have : ¬ sx_dl (sx_o x) + 1 - sx_dl (sx_o y) ≤ d := fun z => q ⟨d, rfl, z⟩
        omega
    obtain ⟨c1, c2⟩ := ho.2 w w' this
    exact ⟨c1, c2, fun _ _ => by omega⟩
  · rw [gd]
    exact br_t (by decide) (keep (fun q => absurd q (by omega)))
theorem sd_29 {post : Int32 → Prop} {u : St1} {i j : Nat} {x y : sx_N} {o : Option Nat} (hx : sd_ins u j x) (hy : sd_ins u i y)
    (ho : sd_ok o (fun w w' => (sx_rd y (sx_d x) → w + sx_dl (sx_o x) ≤ w')))
    (hp : ∀ o, sd_ok o (fun w w' => sd_c x y w w') → post (sd_x o)) :
    wX_distance_29 post (nI j) (nI i) (sd_x o) (uq_nc u) (uq_fc u) (uq_lv u) (uq_cp u) (uq_nd u) (uq_pn u) (uq_le u) (uq_wc u) (uq_ac u) (uq_dc u) (uq_sc u) (uq_a1 u) (uq_a2 u) (uq_a3 u) (uq_a4 u) (uq_a5 u) (uq_a6 u) (uq_a7 u) (uq_a8 u) (uq_a9 u) (uq_a10 u) (uq_a11 u) (uq_a12 u) (uq_a13 u) (uq_a14 u) (uq_a15 u) (uq_a16 u) (uq_a17 u) (uq_a18 u) (uq_a19 u) (uq_a20 u) (uq_a21 u) (uq_a22 u) (uq_a23 u) (uq_a24 u) (uq_a25 u) (uq_a26 u) := by
  obtain ⟨g14, g15, _, _, _, g3, go20, gd, _⟩ := id hy
  unfold wX_distance_29
  rw [nu_cl i, g15]
  refine ⟨pk_in i 300 g3, ?_⟩
  refine lf_reads hx gd (fun z => br_f (by decide) ?_) (fun z => br_t rfl ?_) rfl rfl
  · refine ek_if (sd_le (a := 0) (by omega) (fun d hd => by have := ho.1 d hd; omega)) (fun q => ?_) (fun q => ?_)
    · obtain ⟨d, e, _⟩ := q
      subst e
      refine sd_49 hx hy ⟨ho.1, fun w w' hs => ⟨ho.2 w w' hs, fun _ => ?_⟩⟩ hp
      have : w + d ≤ w' := hs
      omega
    · have hn : o = none := by
        cases o with
        | none => rfl
        | some d => exact absurd ⟨d, rfl, by omega⟩ q
      subst hn
      exact sd_49 (o := some 0) hx hy ⟨fun d hd => by have := Option.some.inj hd; omega, fun w w' hs => ⟨ho.2 w w' trivial, fun _ => hs⟩⟩ hp
  · exact sd_49 hx hy ⟨ho.1, fun w w' hs => ⟨ho.2 w w' hs, fun q => absurd q z⟩⟩ hp
theorem sd_dist {post : Int32 → Prop} {u : St1} {i j : Nat} {x y : sx_N} {p q : Int32} (hx : sd_ins u j x) (hy : sd_ins u i y)
    (hp : ∀ o, sd_ok o (fun w w' => sd_c x y w w') → post (sd_x o)) (e1 : p = nI j) (e2 : q = nI i) : wpX_distance post u p q := by
  subst e1 e2
  obtain ⟨h14, h15, _, _, _, h3, ho20, hd, _⟩ := id hx
  have main : vp_in (nI j) 300 ∧ wpX_reads (fun r_2 => (((r_2 = 0 → (wX_distance_29 post (nI j) (nI i) (-1000) (uq_nc u) (uq_fc u) (uq_lv u) (uq_cp u) (uq_nd u) (uq_pn u) (uq_le u) (uq_wc u) (uq_ac u) (uq_dc u) (uq_sc u) (uq_a1 u) (uq_a2 u) (uq_a3 u) (uq_a4 u) (uq_a5 u) (uq_a6 u) (uq_a7 u) (uq_a8 u) (uq_a9 u) (uq_a10 u) (uq_a11 u) (uq_a12 u) (uq_a13 u) (uq_a14 u) (uq_a15 u) (uq_a16 u) (uq_a17 u) (uq_a18 u) (uq_a19 u) (uq_a20 u) (uq_a21 u) (uq_a22 u) (uq_a23 u) (uq_a24 u) (uq_a25 u) (uq_a26 u))) ∧ (¬ r_2 = 0 → (vp_in (nI j) 300 ∧ (wpX_delayOf (fun r_29 => (wX_distance_29 post (nI j) (nI i) r_29 (uq_nc u) (uq_fc u) (uq_lv u) (uq_cp u) (uq_nd u) (uq_pn u) (uq_le u) (uq_wc u) (uq_ac u) (uq_dc u) (uq_sc u) (uq_a1 u) (uq_a2 u) (uq_a3 u) (uq_a4 u) (uq_a5 u) (uq_a6 u) (uq_a7 u) (uq_a8 u) (uq_a9 u) (uq_a10 u) (uq_a11 u) (uq_a12 u) (uq_a13 u) (uq_a14 u) (uq_a15 u) (uq_a16 u) (uq_a17 u) (uq_a18 u) (uq_a19 u) (uq_a20 u) (uq_a21 u) (uq_a22 u) (uq_a23 u) (uq_a24 u) (uq_a25 u) (uq_a26 u))) u (uq_a14 u (nI j).toNatClampNeg))))))) u (nI i) (uq_a15 u (nI j).toNatClampNeg) := by
    rw [nu_cl j, h14, h15]
    refine ⟨pk_in j 300 h3, ?_⟩
    refine lf_reads hy hd (fun z => br_f (by decide) ⟨pk_in j 300 h3, ?_⟩) (fun z => br_t rfl ?_) rfl rfl
    · refine lf_delay (sx_o x) (by omega) ?_
      have := sx_dl_in (sx_o x)
      exact sd_29 (o := some (sx_dl (sx_o x))) hx hy ⟨fun d hd => by have := Option.some.inj hd; omega, fun w w' hs _ => hs⟩ hp
    · exact sd_29 (o := none) hx hy ⟨fun d hd => absurd hd (by simp), fun w w' _ q => absurd q z⟩ hp
  exact main
end
section
/-! schedule -/
def sd_h (x : sx_N) : Nat := if 16 ≤ sx_o x then 1 else 0
def sd_W (wo : Nat → Int32) (j : Nat) : Nat := (wo j).toNatClampNeg
def sd_I (L : List sx_N) (i C : Nat) (wo ws : Nat → Int32) : Prop :=
  i ≤ L.length ∧ C ≤ 2 * i ∧
  (∀ j, j < i → wo j = nI (sd_W wo j) ∧ sd_W wo j < C ∧ sd_W wo j ≤ 2 * j) ∧
  (∀ j k, j < k → k < i → sd_c (sx_at L j) (sx_at L k) (sd_W wo j) (sd_W wo k)) ∧
  (∀ j, j < i → ws (2 * sd_W wo j + sd_h (sx_at L j)) = nI (j + 1)) ∧
  (∀ w h, w < 605 → h < 2 → ws (2 * w + h) = 0 ∨ ∃ j, j < i ∧ sd_W wo j = w ∧ sd_h (sx_at L j) = h ∧ ws (2 * w + h) = nI (j + 1))
/-- the code in the state is L -/
def sd_code (u : St1) (L : List sx_N) : Prop := uq_le u = nI L.length ∧ L.length ≤ 300 ∧ ∀ i, i < L.length → sd_ins u i (sx_at L i)
theorem sd_h2 (x : sx_N) : sd_h x < 2 := by unfold sd_h; split <;> omega
theorem sd_put {L : List sx_N} {i C w : Nat} {wo ws : Nat → Int32} (h : sd_I L i C wo ws) (hi : i < L.length) (hL : L.length ≤ 300) (hw : w ≤ 2 * i) (hc : ∀ j, j < i → sd_c (sx_at L j) (sx_at L i) (sd_W wo j) w)
    (hz : ws (2 * w + sd_h (sx_at L i)) = 0) (C' : Nat) (hC : (w < C ∧ C' = C) ∨ (C ≤ w ∧ C' = w + 1)) :
    sd_I L (i + 1) C' (upd wo i (nI w)) (upd ws (2 * w + sd_h (sx_at L i)) (nI (i + 1))) := by
  obtain ⟨h1, h2, h3, h4, h5, h6⟩ := h
  have hh := sd_h2 (sx_at L i)
  have Wi : sd_W (upd wo i (nI w)) i = w := by unfold sd_W; rw [pk_us, nu_cl w]
  have Wn : ∀ j, j ≠ i → sd_W (upd wo i (nI w)) j = sd_W wo j := fun j hj => by unfold sd_W; rw [pk_un hj]
  refine ⟨by omega, by omega, ?_, ?_, ?_, ?_⟩
  · intro j hj
    by_cases e : j = i
    · subst e
      rw [Wi, pk_us]
      exact ⟨rfl, by omega, by omega⟩
    · rw [Wn j e, pk_un e]
      have := h3 j (by omega)
      exact ⟨this.1, by omega, by omega⟩
  · intro j k hjk hk
    by_cases e : k = i
    · subst e
      rw [Wi, Wn j (by omega)]
      exact hc j hjk
    · rw [Wn j (by omega), Wn k e]
      exact h4 j k hjk (by omega)
  · intro j hj
    by_cases e : j = i
    · subst e
      rw [Wi, pk_us]
    · rw [Wn j e]
      have g := h5 j (by omega)
      by_cases e2 : 2 * sd_W wo j + sd_h (sx_at L j) = 2 * w + sd_h (sx_at L i)
      · rw [e2, hz] at g
        exact absurd g.symm (nI_ne0 (by omega) (by omega))
      · rw [pk_un e2]
        exact g
  · intro w' h' hw' hh'
    by_cases e : 2 * w' + h' = 2 * w + sd_h (sx_at L i)
    · right
      refine ⟨i, by omega, by rw [Wi]; omega, by omega, ?_⟩
      rw [e, pk_us]
    · rw [pk_un e]
      rcases h6 w' h' hw' hh' with g | ⟨j, g1, g2, g3, g4⟩
      · exact Or.inl g
      · exact Or.inr ⟨j, by omega, by rw [Wn j (by omega)]; exact g2, g3, g4⟩
theorem sd_106 {post : St1 → Prop} {J : Int32 → Int32 → (Nat → Int32) → (Nat → Int32) → (Nat → Int32) → (Nat → Int32) → (Nat → Int32) → (Nat → Int32) → (Nat → Int32) → (Nat → Int32) → (Nat → Int32) → (Nat → Int32) → (Nat → Int32) → (Nat → Int32) → (Nat → Int32) → (Nat → Int32) → (Nat → Int32) → (Nat → Int32) → (Nat → Int32) → (Nat → Int32) → (Nat → Int32) → (Nat → Int32) → (Nat → Int32) → (Nat → Int32) → (Nat → Int32) → (Nat → Int32) → (Nat → Int32) → (Nat → Int32) → Prop} {u : St1} {L : List sx_N} {i C w h : Nat} {wo ws : Nat → Int32} (hI : sd_I L i C wo ws) (hi : i < L.length) (hL : L.length ≤ 300) (hw : w ≤ 2 * i)
    (hc : ∀ j, j < i → sd_c (sx_at L j) (sx_at L i) (sd_W wo j) w) (hh : h = sd_h (sx_at L i))
    (hJ : ∀ C' wo' ws', sd_I L (i + 1) C' wo' ws' → J (nI (i + 1)) (nI C') (uq_a1 u) (uq_a2 u) (uq_a3 u) (uq_a4 u) (uq_a5 u) (uq_a6 u) (uq_a7 u) (uq_a8 u) (uq_a9 u) (uq_a10 u) (uq_a11 u) (uq_a12 u) (uq_a13 u) (uq_a14 u) (uq_a15 u) (uq_a16 u) (uq_a17 u) (uq_a18 u) (wo') (ws') (uq_a21 u) (uq_a22 u) (uq_a23 u) (uq_a24 u) (uq_a25 u) (uq_a26 u)) :
    ∃ fu, wX_schedule_106 post J (nI i) (nI h) (uq_nc u) (uq_fc u) (uq_lv u) (uq_cp u) (uq_nd u) (uq_pn u) (uq_le u) (nI C) (uq_ac u) (uq_dc u) (uq_sc u) (uq_a1 u) (uq_a2 u) (uq_a3 u) (uq_a4 u) (uq_a5 u) (uq_a6 u) (uq_a7 u) (uq_a8 u) (uq_a9 u) (uq_a10 u) (uq_a11 u) (uq_a12 u) (uq_a13 u) (uq_a14 u) (uq_a15 u) (uq_a16 u) (uq_a17 u) (uq_a18 u) (wo) (ws) (uq_a21 u) (uq_a22 u) (uq_a23 u) (uq_a24 u) (uq_a25 u) (uq_a26 u) fu (nI w) := by
  have h2 := sd_h2 (sx_at L i)
  refine loop_m (fun fu w => wX_schedule_106 post J (nI i) (nI h) (uq_nc u) (uq_fc u) (uq_lv u) (uq_cp u) (uq_nd u) (uq_pn u) (uq_le u) (nI C) (uq_ac u) (uq_dc u) (uq_sc u) (uq_a1 u) (uq_a2 u) (uq_a3 u) (uq_a4 u) (uq_a5 u) (uq_a6 u) (uq_a7 u) (uq_a8 u) (uq_a9 u) (uq_a10 u) (uq_a11 u) (uq_a12 u) (uq_a13 u) (uq_a14 u) (uq_a15 u) (uq_a16 u) (uq_a17 u) (uq_a18 u) (wo) (ws) (uq_a21 u) (uq_a22 u) (uq_a23 u) (uq_a24 u) (uq_a25 u) (uq_a26 u) fu (nI w)) (fun w => w ≤ 2 * i ∧ ∀ j, j < i → sd_c (sx_at L j) (sx_at L i) (sd_W wo j) w) (fun w => C - w) ?_ w ⟨hw, hc⟩
  intro fu w ⟨hw, hc⟩ ih
  rw [wX_schedule_106]
  dsimp only
  have ix : 2 * nI w + nI h = nI (2 * w + h) := by rw [← nI_add, ← pk_mul]; rfl
  have hC := hI.2.1
  rw [ix, nu_cl (2 * w + h), nu_cl i]
  refine ⟨pk_in (2 * w + h) 1210 (by omega), br_c (fun z => ⟨pk_in i 300 (by omega), ?_⟩) (fun z => ?_)⟩
  · rw [nI_1 i, nu_b16 w (by omega), nu_b16 (i + 1) (by omega)]
    rw [hh] at z ⊢
    refine nm_e ⟨nu_in (by omega), nm_e ?_⟩
    refine pk_lt w C (fun y => nm_e ?_) (fun y => nm_r (nI_1 w) (nm_e ?_))
    · exact hJ C _ _ (sd_put hI hi hL hw hc z C (Or.inl ⟨y, rfl⟩))
    · exact hJ (w + 1) _ _ (sd_put hI hi hL hw hc z (w + 1) (Or.inr ⟨y, rfl⟩))
  · rcases hI.2.2.2.2.2 w h (by omega) (by omega) with g | ⟨j, g1, g2, g3, g4⟩
    · exact absurd g z
    · have := (hI.2.2.1 j g1).2
      exact nm_r (nI_1 w) (ih (w + 1) ⟨by omega, fun j hj => sd_c_mono (hc j hj) (by omega)⟩ (by omega))
theorem sd_87 {post : St1 → Prop} {J : Int32 → Int32 → (Nat → Int32) → (Nat → Int32) → (Nat → Int32) → (Nat → Int32) → (Nat → Int32) → (Nat → Int32) → (Nat → Int32) → (Nat → Int32) → (Nat → Int32) → (Nat → Int32) → (Nat → Int32) → (Nat → Int32) → (Nat → Int32) → (Nat → Int32) → (Nat → Int32) → (Nat → Int32) → (Nat → Int32) → (Nat → Int32) → (Nat → Int32) → (Nat → Int32) → (Nat → Int32) → (Nat → Int32) → (Nat → Int32) → (Nat → Int32) → (Nat → Int32) → (Nat → Int32) → Prop} {u : St1} {L : List sx_N} {i C w : Nat} {wo ws : Nat → Int32} (hu : sd_code u L) (hI : sd_I L i C wo ws) (hi : i < L.length) (hw : w ≤ 2 * i)
    (hc : ∀ j, j < i → sd_c (sx_at L j) (sx_at L i) (sd_W wo j) w)
    (hJ : ∀ C' wo' ws', sd_I L (i + 1) C' wo' ws' → J (nI (i + 1)) (nI C') (uq_a1 u) (uq_a2 u) (uq_a3 u) (uq_a4 u) (uq_a5 u) (uq_a6 u) (uq_a7 u) (uq_a8 u) (uq_a9 u) (uq_a10 u) (uq_a11 u) (uq_a12 u) (uq_a13 u) (uq_a14 u) (uq_a15 u) (uq_a16 u) (uq_a17 u) (uq_a18 u) (wo') (ws') (uq_a21 u) (uq_a22 u) (uq_a23 u) (uq_a24 u) (uq_a25 u) (uq_a26 u)) :
    wX_schedule_87 post J (nI i) (nI w) (uq_nc u) (uq_fc u) (uq_lv u) (uq_cp u) (uq_nd u) (uq_pn u) (uq_le u) (nI C) (uq_ac u) (uq_dc u) (uq_sc u) (uq_a1 u) (uq_a2 u) (uq_a3 u) (uq_a4 u) (uq_a5 u) (uq_a6 u) (uq_a7 u) (uq_a8 u) (uq_a9 u) (uq_a10 u) (uq_a11 u) (uq_a12 u) (uq_a13 u) (uq_a14 u) (uq_a15 u) (uq_a16 u) (uq_a17 u) (uq_a18 u) (wo) (ws) (uq_a21 u) (uq_a22 u) (uq_a23 u) (uq_a24 u) (uq_a25 u) (uq_a26 u) := by
  obtain ⟨_, hL, hins⟩ := hu
  obtain ⟨h14, _, _, _, _, h3, ho20, _⟩ := hins i hi
  unfold wX_schedule_87
  rw [nu_cl i, h14]
  refine ⟨pk_in i 300 h3, ?_⟩
  refine lf_mem (sx_o (sx_at L i)) (by omega) (fun z => br_t rfl ?_) (fun z => br_f (by decide) ?_)
  · exact sd_106 (h := 0) hI hi hL hw hc (by unfold sd_h; rw [if_neg (by omega)]) hJ
  · exact sd_106 (h := 1) hI hi hL hw hc (by unfold sd_h; rw [if_pos z]) hJ
theorem sd_cmp {W w : Nat} {o : Option Nat} (hW : W < 1000) (hw : w < 1300) (ho : ∀ d, o = some d → d ≤ 2) : nI W + sd_x o ≤ nI w ↔ sd_s o W w := by
  cases o with
  | none =>
    refine ⟨fun _ => trivial, fun _ => ?_⟩
    have e : nI W + (-1000 : Int32) = nI W - nI 1000 := by
      rw [Int32.sub_eq_add_neg]
      rfl
    show nI W + (-1000 : Int32) ≤ nI w
    rw [e, nu_le, pk_sub_toInt (by omega) (by omega), nI_toInt (by omega)]
    omega
  | some d =>
    have := ho d rfl
    show nI W + nI d ≤ nI w ↔ W + d ≤ w
    rw [nI_add, nI_leI (by omega) (by omega)]
theorem sd_52 {post : St1 → Prop} {J : Int32 → Int32 → (Nat → Int32) → (Nat → Int32) → (Nat → Int32) → (Nat → Int32) → (Nat → Int32) → (Nat → Int32) → (Nat → Int32) → (Nat → Int32) → (Nat → Int32) → (Nat → Int32) → (Nat → Int32) → (Nat → Int32) → (Nat → Int32) → (Nat → Int32) → (Nat → Int32) → (Nat → Int32) → (Nat → Int32) → (Nat → Int32) → (Nat → Int32) → (Nat → Int32) → (Nat → Int32) → (Nat → Int32) → (Nat → Int32) → (Nat → Int32) → (Nat → Int32) → (Nat → Int32) → Prop} {u : St1} {L : List sx_N} {i C : Nat} {wo ws : Nat → Int32} (hu : sd_code u L) (hI : sd_I L i C wo ws) (hi : i < L.length)
    (hJ : ∀ C' wo' ws', sd_I L (i + 1) C' wo' ws' → J (nI (i + 1)) (nI C') (uq_a1 u) (uq_a2 u) (uq_a3 u) (uq_a4 u) (uq_a5 u) (uq_a6 u) (uq_a7 u) (uq_a8 u) (uq_a9 u) (uq_a10 u) (uq_a11 u) (uq_a12 u) (uq_a13 u) (uq_a14 u) (uq_a15 u) (uq_a16 u) (uq_a17 u) (uq_a18 u) (wo') (ws') (uq_a21 u) (uq_a22 u) (uq_a23 u) (uq_a24 u) (uq_a25 u) (uq_a26 u)) :
    ∃ fu, wX_schedule_52 post J (nI i) (uq_nc u) (uq_fc u) (uq_lv u) (uq_cp u) (uq_nd u) (uq_pn u) (uq_le u) (nI C) (uq_ac u) (uq_dc u) (uq_sc u) (uq_a1 u) (uq_a2 u) (uq_a3 u) (uq_a4 u) (uq_a5 u) (uq_a6 u) (uq_a7 u) (uq_a8 u) (uq_a9 u) (uq_a10 u) (uq_a11 u) (uq_a12 u) (uq_a13 u) (uq_a14 u) (uq_a15 u) (uq_a16 u) (uq_a17 u) (uq_a18 u) (wo) (ws) (uq_a21 u) (uq_a22 u) (uq_a23 u) (uq_a24 u) (uq_a25 u) (uq_a26 u) fu 0 0 := by
  have hL := hu.2.1
  have hC := hI.2.1
  refine loop_m (fun fu (s : Nat × Nat) => wX_schedule_52 post J (nI i) (uq_nc u) (uq_fc u) (uq_lv u) (uq_cp u) (uq_nd u) (uq_pn u) (uq_le u) (nI C) (uq_ac u) (uq_dc u) (uq_sc u) (uq_a1 u) (uq_a2 u) (uq_a3 u) (uq_a4 u) (uq_a5 u) (uq_a6 u) (uq_a7 u) (uq_a8 u) (uq_a9 u) (uq_a10 u) (uq_a11 u) (uq_a12 u) (uq_a13 u) (uq_a14 u) (uq_a15 u) (uq_a16 u) (uq_a17 u) (uq_a18 u) (wo) (ws) (uq_a21 u) (uq_a22 u) (uq_a23 u) (uq_a24 u) (uq_a25 u) (uq_a26 u) fu (nI s.1) (nI s.2)) (fun s => s.2 ≤ i ∧ s.1 ≤ 2 * i ∧ ∀ j, j < s.2 → sd_c (sx_at L j) (sx_at L i) (sd_W wo j) s.1) (fun s => i - s.2) ?_ (0, 0) ⟨by dsimp only; omega, by dsimp only; omega, fun j hj => absurd hj (by dsimp only; omega)⟩
  rintro fu ⟨w, k⟩ ⟨hk, hw, hc⟩ ih
  dsimp only at hk hw hc ih ⊢
  refine pk_le i k (fun z => ?_) (fun z => ⟨pk_in k 300 (by omega), ?_⟩)
  · exact sd_87 hu hI hi hw (fun j hj => hc j (by omega)) hJ
  · rw [nu_cl k]
    obtain ⟨hwo, hWC, hW2⟩ := hI.2.2.1 k z
    refine sd_dist (u := (uq_nc u, uq_fc u, uq_lv u, uq_cp u, uq_nd u, uq_pn u, uq_le u, nI C, uq_ac u, uq_dc u, uq_sc u, uq_a1 u, uq_a2 u, uq_a3 u, uq_a4 u, uq_a5 u, uq_a6 u, uq_a7 u, uq_a8 u, uq_a9 u, uq_a10 u, uq_a11 u, uq_a12 u, uq_a13 u, uq_a14 u, uq_a15 u, uq_a16 u, uq_a17 u, uq_a18 u, wo, ws, uq_a21 u, uq_a22 u, uq_a23 u, uq_a24 u, uq_a25 u, uq_a26 u)) (hu.2.2 k (by omega)) (hu.2.2 i hi) (fun o ho => ?_) rfl rfl
    rw [hwo]
    refine nm_e (ek_if (sd_cmp (by omega) (by omega) ho.1) (fun q => ?_) (fun q => ?_))
    · refine nm_r (nI_1 k) (ih (w, k + 1) ⟨by dsimp only; omega, hw, fun j hj => ?_⟩ (by dsimp only; omega))
      by_cases e : j = k
      · subst e
        exact ho.2 _ _ q
      · exact hc j (by dsimp only at hj; omega)
    · cases o with
      | none => exact absurd trivial q
      | some d =>
        have hd := ho.1 d rfl
        have q' : ¬ sd_W wo k + d ≤ w := q
        show ∀ x, x = nI k + 1 → wX_schedule_52 post J (nI i) _ _ _ _ _ _ _ _ _ _ _ _ _ _ _ _ _ _ _ _ _ _ _ _ _ _ _ _ _ _ _ _ _ _ _ _ _ fu (nI (sd_W wo k) + nI d) x
        rw [nI_add]
        refine nm_r (nI_1 k) (ih (sd_W wo k + d, k + 1) ⟨by dsimp only; omega, by dsimp only; omega, fun j hj => ?_⟩ (by dsimp only; omega))
        by_cases e : j = k
        · subst e
          exact ho.2 _ _ (Nat.le_refl _)
        · exact sd_c_mono (hc j (by dsimp only at hj; omega)) (by dsimp only; omega)
theorem sd_29l {post : St1 → Prop} {u : St1} {L : List sx_N} {lv : Nat} {ws : Nat → Int32} (hu : sd_code u L) (hlv : uq_lv u = nI lv) (hl2 : lv ≤ 2) (hz : ∀ j, j < 1210 → ws j = 0)
    (hp : ∀ C wo' ws', sd_I L L.length C wo' ws' → post (uq_nc u, uq_fc u, uq_lv u, uq_cp u, uq_nd u, uq_pn u, uq_le u, nI C, uq_ac u, uq_dc u, uq_sc u, uq_a1 u, uq_a2 u, uq_a3 u, uq_a4 u, uq_a5 u, uq_a6 u, uq_a7 u, uq_a8 u, uq_a9 u, uq_a10 u, uq_a11 u, uq_a12 u, uq_a13 u, uq_a14 u, uq_a15 u, uq_a16 u, uq_a17 u, uq_a18 u, wo', ws', uq_a21 u, uq_a22 u, uq_a23 u, uq_a24 u, uq_a25 u, uq_a26 u)) :
    ∃ fu, wX_schedule_29 post (uq_nc u) (uq_fc u) (uq_lv u) (uq_cp u) (uq_nd u) (uq_pn u) (uq_le u) (uq_ac u) (uq_dc u) (uq_sc u) fu 0 0 (uq_a1 u) (uq_a2 u) (uq_a3 u) (uq_a4 u) (uq_a5 u) (uq_a6 u) (uq_a7 u) (uq_a8 u) (uq_a9 u) (uq_a10 u) (uq_a11 u) (uq_a12 u) (uq_a13 u) (uq_a14 u) (uq_a15 u) (uq_a16 u) (uq_a17 u) (uq_a18 u) (uq_a19 u) (ws) (uq_a21 u) (uq_a22 u) (uq_a23 u) (uq_a24 u) (uq_a25 u) (uq_a26 u) := by
  have hL := hu.2.1
  refine pk_loop (fun fu i (s : Nat × (Nat → Int32) × (Nat → Int32)) => wX_schedule_29 post (uq_nc u) (uq_fc u) (uq_lv u) (uq_cp u) (uq_nd u) (uq_pn u) (uq_le u) (uq_ac u) (uq_dc u) (uq_sc u) fu (nI i) (nI s.1) (uq_a1 u) (uq_a2 u) (uq_a3 u) (uq_a4 u) (uq_a5 u) (uq_a6 u) (uq_a7 u) (uq_a8 u) (uq_a9 u) (uq_a10 u) (uq_a11 u) (uq_a12 u) (uq_a13 u) (uq_a14 u) (uq_a15 u) (uq_a16 u) (uq_a17 u) (uq_a18 u) (s.2.1) (s.2.2) (uq_a21 u) (uq_a22 u) (uq_a23 u) (uq_a24 u) (uq_a25 u) (uq_a26 u)) (fun i s => sd_I L i s.1 s.2.1 s.2.2) L.length 0 (0, uq_a19 u, ws) (by omega) ?_ ?_ ?_
  · exact ⟨by omega, by dsimp only; omega, fun j hj => absurd hj (by omega), fun j k _ hk => absurd hk (by omega), fun j hj => absurd hj (by omega), fun w h hw hh => Or.inl (hz _ (by omega))⟩
  · rintro fu ⟨C, wo, ws⟩ hI
    dsimp only at hI ⊢
    exact pk_le L.length L.length (fun _ => hp C wo ws hI) (fun z => absurd z (by omega)) hu.1
  · rintro fu i ⟨C, wo, ws⟩ hi hI ih
    dsimp only at hI ih ⊢
    refine pk_le L.length i (fun z => absurd z (by omega)) (fun _ => ?_) hu.1
    have i2 : 2 * nI i = nI (2 * i) := by rw [← pk_mul]; rfl
    refine nm_r i2 ?_
    have hJ : ∀ C' wo' ws', sd_I L (i + 1) C' wo' ws' → (wX_schedule_29 post (uq_nc u) (uq_fc u) (uq_lv u) (uq_cp u) (uq_nd u) (uq_pn u) (uq_le u) (uq_ac u) (uq_dc u) (uq_sc u) fu) (nI (i + 1)) (nI C') (uq_a1 u) (uq_a2 u) (uq_a3 u) (uq_a4 u) (uq_a5 u) (uq_a6 u) (uq_a7 u) (uq_a8 u) (uq_a9 u) (uq_a10 u) (uq_a11 u) (uq_a12 u) (uq_a13 u) (uq_a14 u) (uq_a15 u) (uq_a16 u) (uq_a17 u) (uq_a18 u) (wo') (ws') (uq_a21 u) (uq_a22 u) (uq_a23 u) (uq_a24 u) (uq_a25 u) (uq_a26 u) := fun C' wo' ws' h => ih (C', wo', ws') h
    refine pk_le lv 0 (fun z => ?_) (fun z => ?_) hlv
    · refine sd_87 hu hI hi (by omega) (fun j hj => ?_) hJ
      have := (hI.2.2.1 j hj).2.2
      exact sd_c_two _ _ (by omega)
    · exact sd_52 hu hI hi hJ
theorem sd_sched {post : St1 → Prop} {u : St1} {L : List sx_N} {lv : Nat} (hu : sd_code u L) (hlv : uq_lv u = nI lv) (hl2 : lv ≤ 2)
    (hp : ∀ C wo' ws', sd_I L L.length C wo' ws' → post (uq_nc u, uq_fc u, uq_lv u, uq_cp u, uq_nd u, uq_pn u, uq_le u, nI C, uq_ac u, uq_dc u, uq_sc u, uq_a1 u, uq_a2 u, uq_a3 u, uq_a4 u, uq_a5 u, uq_a6 u, uq_a7 u, uq_a8 u, uq_a9 u, uq_a10 u, uq_a11 u, uq_a12 u, uq_a13 u, uq_a14 u, uq_a15 u, uq_a16 u, uq_a17 u, uq_a18 u, wo', ws', uq_a21 u, uq_a22 u, uq_a23 u, uq_a24 u, uq_a25 u, uq_a26 u)) : wpX_schedule post u := by
  have main : ∃ fu, wX_schedule_2 post (uq_nc u) (uq_fc u) (uq_lv u) (uq_cp u) (uq_nd u) (uq_pn u) (uq_le u) (uq_wc u) (uq_ac u) (uq_dc u) (uq_sc u) fu 0 (uq_a1 u) (uq_a2 u) (uq_a3 u) (uq_a4 u) (uq_a5 u) (uq_a6 u) (uq_a7 u) (uq_a8 u) (uq_a9 u) (uq_a10 u) (uq_a11 u) (uq_a12 u) (uq_a13 u) (uq_a14 u) (uq_a15 u) (uq_a16 u) (uq_a17 u) (uq_a18 u) (uq_a19 u) (uq_a20 u) (uq_a21 u) (uq_a22 u) (uq_a23 u) (uq_a24 u) (uq_a25 u) (uq_a26 u) := by
    refine pk_loop (fun fu i (s : Nat → Int32) => wX_schedule_2 post (uq_nc u) (uq_fc u) (uq_lv u) (uq_cp u) (uq_nd u) (uq_pn u) (uq_le u) (uq_wc u) (uq_ac u) (uq_dc u) (uq_sc u) fu (nI i) (uq_a1 u) (uq_a2 u) (uq_a3 u) (uq_a4 u) (uq_a5 u) (uq_a6 u) (uq_a7 u) (uq_a8 u) (uq_a9 u) (uq_a10 u) (uq_a11 u) (uq_a12 u) (uq_a13 u) (uq_a14 u) (uq_a15 u) (uq_a16 u) (uq_a17 u) (uq_a18 u) (uq_a19 u) (s) (uq_a21 u) (uq_a22 u) (uq_a23 u) (uq_a24 u) (uq_a25 u) (uq_a26 u)) (fun i s => ∀ j, j < i → s j = 0) 1210 0 (uq_a20 u) (by omega) (fun j hj => absurd hj (by omega)) ?_ ?_
    · intro fu s hs
      exact pk_le 1210 1210 (fun _ => sd_29l hu hlv hl2 hs hp) (fun z => absurd z (by omega))
    · intro fu i s hi hs ih
      refine pk_le 1210 i (fun z => absurd z (by omega)) (fun _ => ⟨pk_in i 1210 hi, ?_⟩)
      rw [nu_cl i]
      refine nm_e (nm_r (nI_1 i) (ih _ ?_))
      intro j hj
      by_cases e : j = i
      · exact nu_us e
      · rw [pk_un e]
        exact hs j (by omega)
  exact main
end
section
/-! cuts: what is seen at a time is the sequential state at any cut that fits the time -/
def zw_cut {α : Type} (n : Nat) (P : Nat → Prop) (t : Nat → Nat) (now : Nat) (val : Nat → α) (x : α) : Prop :=
  ∀ c, c ≤ n → (∀ j, j < c → P j → t j < now) → (∀ j, c ≤ j → j < n → P j → now ≤ t j) → x = val c
theorem zw_still {α : Type} {val : Nat → α} {a b : Nat} (hab : a ≤ b) (h : ∀ j, a ≤ j → j < b → val (j + 1) = val j) : val b = val a := by
  induction b with
  | zero => rw [show a = 0 by omega]
  | succ b ih =>
    by_cases e : a = b + 1
    · rw [e]
    · rw [h b (by omega) (by omega)]
      exact ih (by omega) (fun j h1 h2 => h j h1 (by omega))
theorem zw_cut0 {α : Type} {n : Nat} {P : Nat → Prop} {t : Nat → Nat} {val : Nat → α} (hf : ∀ j, j < n → ¬ P j → val (j + 1) = val j) : zw_cut n P t 0 val (val 0) := by
  intro c hc h1 h2
  exact (zw_still (Nat.zero_le c) (fun j _ hj => hf j (by omega) (fun hP => absurd (h1 j hj hP) (by omega)))).symm
theorem zw_cutA {α : Type} {n : Nat} {P : Nat → Prop} {t : Nat → Nat} {now : Nat} {val : Nat → α} {x : α} (h : zw_cut n P t now val x) (hn : ∀ j, j < n → P j → t j ≠ now) : zw_cut n P t (now + 1) val x := by
  intro c hc h1 h2
  refine h c hc (fun j hj hP => ?_) (fun j hj hn' hP => ?_)
  · have := h1 j hj hP
    have := hn j (by omega) hP
    omega
  · have := h2 j hj hn' hP
    omega
theorem zw_cutB {α : Type} {n : Nat} {P : Nat → Prop} {t : Nat → Nat} {now : Nat} {val : Nat → α} (i : Nat) (hi : i < n) (hP : P i) (ht : t i = now)
    (hm : ∀ j k, j < k → k < n → P j → P k → t j < t k) (hf : ∀ j, j < n → ¬ P j → val (j + 1) = val j) : zw_cut n P t (now + 1) val (val (i + 1)) := by
  intro c hc h1 h2
  have ic : i < c := by
    rcases Nat.lt_or_ge i c with g | g
    · exact g
    · have := h2 i g hi hP
      omega
  refine (zw_still (by omega) (fun j a b => hf j (by omega) (fun hPj => ?_))).symm
  have := hm i j (by omega) (by omega) hP hPj
  have := h1 j b hPj
  omega
/-! the sequential states -/
def zw_S (T : Nat → Nat) (L : List sx_N) (s0 : sx_S) (c : Nat) : sx_S := sx_run T (L.take c) s0
theorem zw_S0 (T : Nat → Nat) (L : List sx_N) (s0 : sx_S) : zw_S T L s0 0 = s0 := by
  unfold zw_S
  rw [List.take_zero]
  rfl
theorem zw_Sn (T : Nat → Nat) (L : List sx_N) (s0 : sx_S) : zw_S T L s0 L.length = sx_run T L s0 := by
  unfold zw_S
  rw [List.take_length]
theorem zw_Ss (T : Nat → Nat) {L : List sx_N} (s0 : sx_S) {j : Nat} (h : j < L.length) : zw_S T L s0 (j + 1) = sx_ex T (sx_at L j) (zw_S T L s0 j) := by
  unfold zw_S
  rw [List.take_add_one, sx_at_get h]
  exact sx_run_app _ _ _ _
/-! which instruction changes what -/
def zw_tm (x : sx_N) (a : Nat) : Prop := (16 ≤ sx_o x ∧ sx_o x < 18 ∧ sx_m x = a) ∨ (18 ≤ sx_o x ∧ 32 + 8 * (sx_m x / 8) ≤ a ∧ a < 40 + 8 * (sx_m x / 8))
def zw_tr (x : sx_N) (f : Nat) : Prop := 18 ≤ sx_o x ∧ sx_m x / 8 = f
theorem zw_rg_n (T : Nat → Nat) {x : sx_N} {r : Nat} (h : sx_d x ≠ r) (s : sx_S) : sx_rg (sx_ex T x s) r = sx_rg s r := by
  show (if sx_d x < 8 then upd (sx_rg s) (sx_d x) (sx_va T x s) else sx_rg s) r = _
  split
  · exact pk_un (fun e => h e.symm)
  · rfl
theorem zw_rg_y (T : Nat → Nat) {x : sx_N} (h : sx_d x < 8) (s : sx_S) : sx_rg (sx_ex T x s) (sx_d x) = sx_va T x s := by
  show (if sx_d x < 8 then upd (sx_rg s) (sx_d x) (sx_va T x s) else sx_rg s) (sx_d x) = _
  rw [if_pos h, pk_us]
theorem zw_d8 {T : Nat → Nat} {x : sx_N} (w : sx_wf T x) : sx_d x = 8 ↔ (sx_o x = 11 ∨ sx_o x = 12) := by
  unfold sx_wf at w
  omega
theorem zw_ac_n {T : Nat → Nat} {x : sx_N} (w : sx_wf T x) (h : sx_d x ≠ 8) (s : sx_S) : sx_ac (sx_ex T x s) = sx_ac s := by
  have := zw_d8 w
  show (if sx_o x = 11 then 0 else if sx_o x = 12 then sx_ac s + (sx_va T x s).toInt64 else sx_ac s) = _
  rw [if_neg (by omega), if_neg (by omega)]
/-- the numbers of memory instructions -/
theorem zw_num {T : Nat → Nat} {x : sx_N} (w : sx_wf T x) (h : 16 ≤ sx_o x) :
    (sx_o x < 18 → sx_n x = nI (sx_m x) ∧ sx_m x < 96 ∧ (sx_m x < 32 ∨ 64 ≤ sx_m x)) ∧ (18 ≤ sx_o x → sx_n x = nI (sx_m x) ∧ sx_m x / 8 < 4 ∧ sx_m x % 8 < T (sx_m x / 8) ∧ T (sx_m x / 8) ≤ 6) := by
  have key : ∀ m : Nat, m < 96 → sx_n x = nI m → sx_m x = m := fun m hm e => by unfold sx_m; rw [e, nu_cl m]
  have lo : (∃ m, sx_n x = nI m ∧ m < 96 ∧ (m < 32 ∨ 64 ≤ m)) → sx_n x = nI (sx_m x) ∧ sx_m x < 96 ∧ (sx_m x < 32 ∨ 64 ≤ sx_m x) := by
    rintro ⟨m, e, h1, h2⟩
    rw [key m h1 e]
    exact ⟨e, h1, h2⟩
  have hi : (∃ f k, sx_n x = nI (8 * f + k) ∧ f < 4 ∧ k < T f ∧ T f ≤ 6) → sx_n x = nI (sx_m x) ∧ sx_m x / 8 < 4 ∧ sx_m x % 8 < T (sx_m x / 8) ∧ T (sx_m x / 8) ≤ 6 := by
    rintro ⟨f, k, e, h1, h2, h3⟩
    rw [key (8 * f + k) (by omega) e, show (8 * f + k) / 8 = f by omega, show (8 * f + k) % 8 = k by omega]
    exact ⟨e, h1, h2, h3⟩
  rcases w with w | w | w | w | w | w | w | w | w | w | w
  · exact ⟨fun _ => absurd w.1 (by omega), fun _ => absurd w.1 (by omega)⟩
  · exact ⟨fun _ => absurd w.1 (by omega), fun _ => absurd w.1 (by omega)⟩
  · exact ⟨fun _ => absurd w.1 (by omega), fun _ => absurd w.1 (by omega)⟩
  · exact ⟨fun _ => absurd w.1 (by omega), fun _ => absurd w.1 (by omega)⟩
  · exact ⟨fun _ => absurd w.1 (by omega), fun _ => absurd w.1 (by omega)⟩
  · exact ⟨fun _ => absurd w.1 (by omega), fun _ => absurd w.1 (by omega)⟩
  · exact ⟨fun _ => lo w.2.2.2.2, fun z => absurd w.1 (by omega)⟩
  · exact ⟨fun _ => lo w.2.2.2.2, fun z => absurd w.1 (by omega)⟩
  · exact ⟨fun z => absurd w.1 (by omega), fun _ => hi w.2.2.2.2⟩
  · exact ⟨fun z => absurd w.1 (by omega), fun _ => hi w.2.2.2.2⟩
  · exact ⟨fun z => absurd w.1 (by omega), fun _ => hi w.2.2.2.2⟩
theorem zw_pl_in {T : Nat → Nat} {x : sx_N} (w : sx_wf T x) (h : 18 ≤ sx_o x) (ri : Nat → Nat) : 32 + 8 * (sx_m x / 8) ≤ sx_pl T ri (sx_m x) ∧ sx_pl T ri (sx_m x) < 38 + 8 * (sx_m x / 8) := by
  obtain ⟨_, h1, h2, h3⟩ := (zw_num w (by omega)).2 h
  unfold sx_pl
  have := Nat.mod_lt (ri (sx_m x / 8) + T (sx_m x / 8) - sx_m x % 8) (show T (sx_m x / 8) > 0 by omega)
  omega
theorem zw_me_n {T : Nat → Nat} {x : sx_N} (w : sx_wf T x) {a : Nat} (h : ¬ zw_tm x a) (s : sx_S) : sx_me (sx_ex T x s) a = sx_me s a := by
  unfold zw_tm at h
  show (if sx_o x = 17 then upd (sx_me s) (sx_m x) (sx_rg s (sx_a x)) else if sx_o x = 19 then upd (sx_me s) (sx_pl T (sx_ri s) (sx_m x)) (sx_rg s (sx_a x)) else sx_me s) a = _
  split
  · exact pk_un (fun e => h (Or.inl ⟨by omega, by omega, e.symm⟩))
  · split
    · refine pk_un (fun e => h (Or.inr ⟨by omega, ?_⟩))
      have := zw_pl_in w (by omega) (sx_ri s)
      omega
    · rfl
theorem zw_ri_n {T : Nat → Nat} {x : sx_N} {f : Nat} (h : ¬ zw_tr x f) (s : sx_S) : sx_ri (sx_ex T x s) f = sx_ri s f := by
  unfold zw_tr at h
  show (if sx_o x = 20 then sx_un (sx_ri s) (sx_m x / 8) ((sx_ri s (sx_m x / 8) + 1) % T (sx_m x / 8)) else sx_ri s) f = _
  split
  · exact sx_unn (fun e => h ⟨by omega, e.symm⟩)
  · rfl
theorem zw_ts_tm {T : Nat → Nat} {x y : sx_N} (wx : sx_wf T x) (wy : sx_wf T y) {a : Nat} (hx : zw_tm x a) (hy : zw_tm y a) : 16 ≤ sx_o x ∧ 16 ≤ sx_o y ∧ sx_ts x y := by
  unfold zw_tm at hx hy
  have ox : 16 ≤ sx_o x := by omega
  have oy : 16 ≤ sx_o y := by omega
  have nx := zw_num wx ox
  have ny := zw_num wy oy
  refine ⟨ox, oy, ?_⟩
  unfold sx_ts
  rcases hx with ⟨_, x2, x3⟩ | ⟨x1, x2, x3⟩ <;> rcases hy with ⟨_, y2, y3⟩ | ⟨y1, y2, y3⟩
  · refine Or.inr ⟨x2, y2, ?_⟩
    rw [(nx.1 x2).1, (ny.1 y2).1, x3, y3]
  · have := (nx.1 x2).2
    have := (ny.2 y1).2
    omega
  · have := (ny.1 y2).2
    have := (nx.2 x1).2
    omega
  · exact Or.inl ⟨x1, y1, by omega⟩
theorem zw_ts_tr {x y : sx_N} {f : Nat} (hx : zw_tr x f) (hy : zw_tr y f) : 16 ≤ sx_o x ∧ 16 ≤ sx_o y ∧ sx_ts x y := by
  unfold zw_tr at hx hy
  exact ⟨by omega, by omega, Or.inl ⟨hx.1, hy.1, by omega⟩⟩
/-- ring places stay in their rings -/
def zw_rin (T ri : Nat → Nat) : Prop := ∀ f, f < 4 → ri f < 2 ^ 31 ∧ (1 ≤ T f → ri f < T f)
theorem zw_rin_ex {T : Nat → Nat} {x : sx_N} {s : sx_S} (w : sx_wf T x) (h : zw_rin T (sx_ri s)) : zw_rin T (sx_ri (sx_ex T x s)) := by
  intro f hf
  show (if sx_o x = 20 then sx_un (sx_ri s) (sx_m x / 8) ((sx_ri s (sx_m x / 8) + 1) % T (sx_m x / 8)) else sx_ri s) f < 2 ^ 31 ∧ (1 ≤ T f → (if sx_o x = 20 then sx_un (sx_ri s) (sx_m x / 8) ((sx_ri s (sx_m x / 8) + 1) % T (sx_m x / 8)) else sx_ri s) f < T f)
  by_cases o : sx_o x = 20
  · rw [if_pos o]
    obtain ⟨_, n2, n3, n4⟩ := (zw_num w (by omega)).2 (by omega)
    by_cases e : f = sx_m x / 8
    · subst e
      rw [sx_uns]
      have := Nat.mod_lt (sx_ri s (sx_m x / 8) + 1) (show T (sx_m x / 8) > 0 by omega)
      exact ⟨by omega, fun _ => this⟩
    · rw [sx_unn e]
      exact h f hf
  · rw [if_neg o]
    exact h f hf
theorem zw_rin_S {T : Nat → Nat} {L : List sx_N} {s0 : sx_S} (hw : ∀ x, x ∈ L → sx_wf T x) (h : zw_rin T (sx_ri s0)) : ∀ c, c ≤ L.length → zw_rin T (sx_ri (zw_S T L s0 c)) := by
  intro c
  induction c with
  | zero => intro _; rw [zw_S0]; exact h
  | succ c ih =>
    intro hc
    rw [zw_Ss T s0 (by omega)]
    exact zw_rin_ex (hw _ (sx_at_mem (by omega))) (ih (by omega))
end
section
/-! the shape of an instruction; each calculation -/
def sx_ws (o d a b : Nat) : Prop :=
  (o = 1 ∧ d < 8 ∧ a = 100 ∧ b = 100) ∨ (o = 11 ∧ d = 8 ∧ a = 100 ∧ b = 100) ∨ (o = 12 ∧ d = 8 ∧ a < 8 ∧ b < 8) ∨ (o = 13 ∧ d < 8 ∧ a = 8 ∧ b = 100) ∨
  ((o = 7 ∨ o = 8) ∧ d < 8 ∧ a < 8 ∧ b = 100) ∨ ((o = 2 ∨ o = 3 ∨ o = 9 ∨ o = 10) ∧ d < 8 ∧ a < 8 ∧ b < 8) ∨
  (o = 16 ∧ d < 8 ∧ a = 100 ∧ b = 100) ∨ (o = 17 ∧ d = 100 ∧ a < 8 ∧ b = 100) ∨ (o = 18 ∧ d < 8 ∧ a = 100 ∧ b = 100) ∨ (o = 19 ∧ d = 100 ∧ a < 8 ∧ b = 100) ∨ (o = 20 ∧ d = 100 ∧ a = 100 ∧ b = 100)
theorem sx_wf_ws {T : Nat → Nat} {x : sx_N} (w : sx_wf T x) : sx_ws (sx_o x) (sx_d x) (sx_a x) (sx_b x) := by
  rcases w with w | w | w | w | w | w | ⟨w1, w2, w3, w4, _⟩ | ⟨w1, w2, w3, w4, _⟩ | ⟨w1, w2, w3, w4, _⟩ | ⟨w1, w2, w3, w4, _⟩ | ⟨w1, w2, w3, w4, _⟩
  · exact Or.inl w
  · exact Or.inr (Or.inl w)
  · exact Or.inr (Or.inr (Or.inl w))
  · exact Or.inr (Or.inr (Or.inr (Or.inl w)))
  · exact Or.inr (Or.inr (Or.inr (Or.inr (Or.inl w))))
  · exact Or.inr (Or.inr (Or.inr (Or.inr (Or.inr (Or.inl w)))))
  · exact Or.inr (Or.inr (Or.inr (Or.inr (Or.inr (Or.inr (Or.inl ⟨w1, w2, w3, w4⟩))))))
  · exact Or.inr (Or.inr (Or.inr (Or.inr (Or.inr (Or.inr (Or.inr (Or.inl ⟨w1, w2, w3, w4⟩)))))))
  · exact Or.inr (Or.inr (Or.inr (Or.inr (Or.inr (Or.inr (Or.inr (Or.inr (Or.inl ⟨w1, w2, w3, w4⟩))))))))
  · exact Or.inr (Or.inr (Or.inr (Or.inr (Or.inr (Or.inr (Or.inr (Or.inr (Or.inr (Or.inl ⟨w1, w2, w3, w4⟩)))))))))
  · exact Or.inr (Or.inr (Or.inr (Or.inr (Or.inr (Or.inr (Or.inr (Or.inr (Or.inr (Or.inr ⟨w1, w2, w3, w4⟩)))))))))
theorem sx_c1 (n x y : Int32) (ac : Int64) : sx_calc 1 n x y ac = n := by simp [sx_calc]
theorem sx_c11 (n x y : Int32) (ac : Int64) : sx_calc 11 n x y ac = 0 := by simp [sx_calc]
theorem sx_c12 (n x y : Int32) (ac : Int64) : sx_calc 12 n x y ac = x * y := by simp [sx_calc]
theorem sx_c13 (n x y : Int32) (ac : Int64) : sx_calc 13 n x y ac = sx_clip ((ac + 16384) >>> ((15 : Int32).toInt64 &&& 63)) := by
  unfold sx_calc
  rw [if_neg (by omega), if_pos rfl]
theorem sx_c7 (n x y : Int32) (ac : Int64) : sx_calc 7 n x y ac = (if -n ≤ x then (if x ≤ n then x else n) else -n) := by simp [sx_calc]
theorem sx_c8 (n x y : Int32) (ac : Int64) : sx_calc 8 n x y ac = sx_clip (if 0 ≤ x then x.toInt64 else (-x).toInt64) := by
  unfold sx_calc
  rw [if_neg (by omega), if_neg (by omega), if_neg (by omega), if_neg (by omega), if_pos rfl]
theorem sx_c2 (n x y : Int32) (ac : Int64) : sx_calc 2 n x y ac = sx_clip (x + y).toInt64 := by
  unfold sx_calc
  rw [if_neg (by omega), if_neg (by omega), if_neg (by omega), if_neg (by omega), if_neg (by omega), if_pos rfl]
theorem sx_c3 (n x y : Int32) (ac : Int64) : sx_calc 3 n x y ac = sx_clip (x - y).toInt64 := by
  unfold sx_calc
  rw [if_neg (by omega), if_neg (by omega), if_neg (by omega), if_neg (by omega), if_neg (by omega), if_neg (by omega), if_pos rfl]
theorem sx_c9 (n x y : Int32) (ac : Int64) : sx_calc 9 n x y ac = (if x ≤ y then y else x) := by simp [sx_calc]
theorem sx_c10 (n x y : Int32) (ac : Int64) : sx_calc 10 n x y ac = sx_clip (((x * y) + 16384) >>> ((15 : Int32) &&& 31)).toInt64 := by
  unfold sx_calc
  rw [if_neg (by omega), if_neg (by omega), if_neg (by omega), if_neg (by omega), if_neg (by omega), if_neg (by omega), if_neg (by omega), if_neg (by omega), if_pos rfl]
/-! the processor's methods -/
theorem zw_clamp_r {a : Nat} (h : a < 9) : (sx_r a).toNatClampNeg = a := by rw [sx_r_lt h, nu_cl a]
theorem zw_in_r {a : Nat} (h : a < 8) : vp_in (sx_r a) 8 := by rw [sx_r_lt (by omega)]; exact pk_in a 8 h
theorem zw_calc {post : Int32 → Prop} {c : St1} {m : mm_M} {T : Nat → Nat} {i : Nat} {x : sx_N} {p : Int32} (h : sd_ins c i x) (w : sx_wf T x) (ho : sx_o x < 16)
    (hp : post (sx_calc (sx_o x) (sx_n x) (mm_rg m (sx_a x)) (mm_rg m (sx_b x)) (mm_ac m))) (hpi : p = nI i) : wpX_calculate post (mm_mk c m) p := by
  subst hpi
  obtain ⟨h14, h15, h16, h17, h18, h3, ho20, hd, ha, hb, hm⟩ := h
  have I := pk_in (x := nI i) i 300 h3
  unfold wpX_calculate mm_mk
  dsimp only
  rw [nu_cl i, h14, h18, h16, h17]
  refine ⟨I, nm_e ⟨I, nm_e ?_⟩⟩
  rcases w with w | w | w | w | w | w | w | w | w | w | w
  · obtain ⟨w1, _⟩ := w
    rw [w1] at hp ⊢
    rw [sx_c1] at hp
    exact br_t rfl hp
  · obtain ⟨w1, _⟩ := w
    rw [w1] at hp ⊢
    rw [sx_c11] at hp
    exact br_f (by decide) (br_f (by decide) (br_t rfl hp))
  · obtain ⟨w1, _, wa, wb⟩ := w
    rw [w1] at hp ⊢
    rw [sx_c12] at hp
    rw [zw_clamp_r (by omega), zw_clamp_r (by omega)]
    exact br_f (by decide) (br_f (by decide) (br_f (by decide) ⟨I, zw_in_r wa, nm_e (br_f (by decide) (br_f (by decide) ⟨I, zw_in_r wb, nm_e (br_f (by decide) (br_f (by decide) (br_f (by decide) (br_f (by decide) hp))))⟩))⟩))
  · obtain ⟨w1, _⟩ := w
    rw [w1] at hp ⊢
    rw [sx_c13] at hp
    exact br_f (by decide) (br_t rfl (lf_clip hp))
  · obtain ⟨w1, _, wa, wb⟩ := w
    rw [zw_clamp_r (by omega)]
    rcases w1 with w1 | w1
    · rw [w1] at hp ⊢
      rw [sx_c7] at hp
      refine br_f (by decide) (br_f (by decide) (br_f (by decide) ⟨I, zw_in_r wa, nm_e (br_t rfl (br_c (fun z => ?_) (fun z => ?_)))⟩))
      · rw [if_pos z] at hp
        exact br_c (fun z => by rw [if_pos z] at hp; exact hp) (fun z => by rw [if_neg z] at hp; exact hp)
      · rw [if_neg z] at hp
        exact hp
    · rw [w1] at hp ⊢
      rw [sx_c8] at hp
      refine br_f (by decide) (br_f (by decide) (br_f (by decide) ⟨I, zw_in_r wa, nm_e (br_f (by decide) (br_t rfl (br_c (fun z => ?_) (fun z => ?_))))⟩))
      · rw [if_pos z] at hp
        exact lf_clip hp
      · rw [if_neg z] at hp
        exact lf_clip hp
  · obtain ⟨w1, _, wa, wb⟩ := w
    rw [zw_clamp_r (by omega), zw_clamp_r (by omega)]
    rcases w1 with w1 | w1 | w1 | w1
    · rw [w1] at hp ⊢
      rw [sx_c2] at hp
      exact br_f (by decide) (br_f (by decide) (br_f (by decide) ⟨I, zw_in_r wa, nm_e (br_f (by decide) (br_f (by decide) ⟨I, zw_in_r wb, nm_e (br_t rfl (lf_clip hp))⟩))⟩))
    · rw [w1] at hp ⊢
      rw [sx_c3] at hp
      exact br_f (by decide) (br_f (by decide) (br_f (by decide) ⟨I, zw_in_r wa, nm_e (br_f (by decide) (br_f (by decide) ⟨I, zw_in_r wb, nm_e (br_f (by decide) (br_t rfl (lf_clip hp)))⟩))⟩))
    · rw [w1] at hp ⊢
      rw [sx_c9] at hp
      exact br_f (by decide) (br_f (by decide) (br_f (by decide) ⟨I, zw_in_r wa, nm_e (br_f (by decide) (br_f (by decide) ⟨I, zw_in_r wb, nm_e (br_f (by decide) (br_f (by decide) (br_t rfl (br_c (fun z => by rw [if_pos z] at hp; exact hp) (fun z => by rw [if_neg z] at hp; exact hp)))))⟩))⟩))
    · rw [w1] at hp ⊢
      rw [sx_c10] at hp
      exact br_f (by decide) (br_f (by decide) (br_f (by decide) ⟨I, zw_in_r wa, nm_e (br_f (by decide) (br_f (by decide) ⟨I, zw_in_r wb, nm_e (br_f (by decide) (br_f (by decide) (br_f (by decide) (br_t rfl (lf_clip hp)))))⟩))⟩))
  · exact absurd w.1 (by omega)
  · exact absurd w.1 (by omega)
  · exact absurd w.1 (by omega)
  · exact absurd w.1 (by omega)
  · exact absurd w.1 (by omega)
def zw_tv (T : Nat → Nat) (x : sx_N) (me : Nat → Int32) (ri : Nat → Nat) : Int32 :=
  if sx_o x = 16 then me (sx_m x) else if sx_o x = 18 then me (sx_pl T ri (sx_m x)) else 0
def zw_tme (T : Nat → Nat) (x : sx_N) (me : Nat → Int32) (ri : Nat → Nat) (rg : Nat → Int32) : Nat → Int32 :=
  if sx_o x = 17 then upd me (sx_m x) (rg (sx_a x)) else if sx_o x = 19 then upd me (sx_pl T ri (sx_m x)) (rg (sx_a x)) else me
def zw_tri (T : Nat → Nat) (x : sx_N) (r : Nat → Int32) (ri : Nat → Nat) : Nat → Int32 :=
  if sx_o x = 20 then upd r (sx_m x / 8) (nI ((ri (sx_m x / 8) + 1) % T (sx_m x / 8))) else r
theorem zw_ring {A k t : Nat} (hk : k < t) (hA : A < t) (ht : t ≤ 6) : nI A - nI k + nI t - (nI A - nI k + nI t) / nI t * nI t = nI ((A + t - k) % t) := by
  have e : nI A - nI k + nI t = nI (A + t - k) := by
    rw [← pk_sub (by omega), ← nI_add]
    grind
  rw [e]
  exact pk_rem (by omega) (by omega) (by omega)
theorem zw_touch {post : Int32 → St1 → Prop} {c : St1} {m : mm_M} {T ri : Nat → Nat} {i : Nat} {x : sx_N} {p : Int32} (h : sd_ins c i x) (w : sx_wf T x) (ho : 16 ≤ sx_o x)
    (hT : 18 ≤ sx_o x → uq_a7 c (sx_m x / 8) = nI (T (sx_m x / 8))) (hR : 18 ≤ sx_o x → mm_ri m (sx_m x / 8) = nI (ri (sx_m x / 8)) ∧ ri (sx_m x / 8) < T (sx_m x / 8))
    (hp : post (zw_tv T x (mm_me m) ri) (mm_mk c (mm_ac m, mm_dc m, zw_tme T x (mm_me m) ri (mm_rg m), zw_tri T x (mm_ri m) ri, mm_rg m, mm_qr m, mm_qv m, mm_qw m))) (hpi : p = nI i) : wpX_touch post (mm_mk c m) p := by
  subst hpi
  obtain ⟨h14, h15, h16, h17, h18, h3, ho20, hd, ha, hb, hm⟩ := h
  have I := pk_in (x := nI i) i 300 h3
  have nm := zw_num w ho
  unfold zw_tv zw_tme zw_tri at hp
  unfold wpX_touch mm_mk
  dsimp only
  rw [nu_cl i, h14, h18, h16]
  refine ⟨I, nm_e ⟨I, nm_e ?_⟩⟩
  have o5 : sx_o x = 16 ∨ sx_o x = 17 ∨ (18 ≤ sx_o x ∧ (sx_o x = 18 ∨ sx_o x = 19 ∨ sx_o x = 20)) := by omega
  rcases o5 with o | o | ⟨o18, o⟩
  · obtain ⟨n1, n2, n3⟩ := nm.1 (by omega)
    rw [n1, o, nu_cl (sx_m x)]
    simp only [o] at hp
    exact br_t rfl ⟨pk_in (sx_m x) 96 (by omega), hp⟩
  · obtain ⟨n1, n2, n3⟩ := nm.1 (by omega)
    have a8 : sx_a x < 8 := by have ws := sx_wf_ws w; unfold sx_ws at ws; omega
    rw [n1, o, nu_cl (sx_m x), zw_clamp_r (by omega)]
    simp only [o] at hp
    refine br_f (by decide) (br_t rfl ⟨I, zw_in_r a8, pk_in (sx_m x) 96 (by omega), nm_e ?_⟩)
    unfold wX_touch_50
    exact lf_ring 17 (by omega) (fun _ => br_t rfl hp) (fun z => absurd z (by omega))
  · obtain ⟨n1, n2, n3, n4⟩ := nm.2 o18
    have hT := hT o18
    obtain ⟨r1, r2⟩ := hR o18
    have pl := zw_pl_in w o18 ri
    have fin : wX_touch_50 post (nI i) (nI (sx_o x)) (nI (sx_m x)) (uq_nc c) (uq_fc c) (uq_lv c) (uq_cp c) (uq_nd c) (uq_pn c) (uq_le c) (uq_wc c) (mm_ac m) (mm_dc m) (uq_sc c) (uq_a1 c) (uq_a2 c) (uq_a3 c) (uq_a4 c) (uq_a5 c) (uq_a6 c) (uq_a7 c) (uq_a8 c) (uq_a9 c) (uq_a10 c) (uq_a11 c) (uq_a12 c) (uq_a13 c) (uq_a14 c) (uq_a15 c) (uq_a16 c) (uq_a17 c) (uq_a18 c) (uq_a19 c) (uq_a20 c) (mm_me m) (mm_ri m) (mm_rg m) (mm_qr m) (mm_qv m) (mm_qw m) := by
      unfold wX_touch_50
      refine lf_ring (sx_o x) (by omega) (fun z => absurd z (by omega)) (fun _ => br_f (by decide) ⟨by decide, ?_⟩)
      have d8 : nI (sx_m x) / 8 = nI (sx_m x / 8) := pk_div (d := 8) (by omega) (by omega) (by omega)
      have m8 : nI (sx_m x) - nI (sx_m x) / 8 * 8 = nI (sx_m x % 8) := pk_rem (d := 8) (by omega) (by omega) (by omega)
      rw [m8]
      refine nm_r d8 ?_
      rw [nu_cl (sx_m x / 8), hT, r1]
      have J4 := pk_in (x := nI (sx_m x / 8)) (sx_m x / 8) 4 n2
      have ne0 : ¬ nI (T (sx_m x / 8)) = 0 := nI_ne0 (by omega) (by omega)
      refine ⟨J4, nm_e ⟨J4, by decide, ne0, nm_r (zw_ring n3 r2 n4) ?_⟩⟩
      have ix : 32 + 8 * nI (sx_m x / 8) + nI ((ri (sx_m x / 8) + T (sx_m x / 8) - sx_m x % 8) % T (sx_m x / 8)) = nI (sx_pl T ri (sx_m x)) := by
        unfold sx_pl
        rw [← nI_add, ← nI_add, ← pk_mul]
        rfl
      rw [ix, nu_cl (sx_pl T ri (sx_m x))]
      rcases o with o | o | o
      · simp only [o] at hp
        rw [o]
        exact br_t rfl ⟨nu_in (by omega), hp⟩
      · have a8 : sx_a x < 8 := by have ws := sx_wf_ws w; unfold sx_ws at ws; omega
        simp only [o] at hp
        rw [o, nu_cl i, h16, zw_clamp_r (by omega)]
        exact br_f (by decide) (br_t rfl ⟨I, zw_in_r a8, nu_in (by omega), nm_e hp⟩)
      · simp only [o] at hp
        rw [o, nI_1]
        have rm := pk_rem (a := ri (sx_m x / 8) + 1) (d := T (sx_m x / 8)) (by omega) (by omega) (by omega)
        have lt := Nat.mod_lt (ri (sx_m x / 8) + 1) (show T (sx_m x / 8) > 0 by omega)
        rw [rm, nu_b8 _ (by omega)]
        exact br_f (by decide) (br_f (by decide) ⟨J4, ne0, J4, nm_e hp⟩)
    rw [n1]
    rcases o with o | o | o
    · rw [o] at fin ⊢
      exact br_f (by decide) (br_f (by decide) fin)
    · rw [o] at fin ⊢
      exact br_f (by decide) (br_f (by decide) fin)
    · rw [o] at fin ⊢
      exact br_f (by decide) (br_f (by decide) fin)
theorem zw_promise {post : St1 → Prop} {c : St1} {m : mm_M} {i w q : Nat} {x : sx_N} {v p p' : Int32} (h : sd_ins c i x) (hd : sx_d x < 8 ∨ sx_d x = 100) (hw : w < 1200) (hq : mm_dc m = nI q) (h8 : q < 8)
    (h1 : sx_d x < 8 → post (mm_mk c (mm_ac m, nI (q + 1), mm_me m, mm_ri m, mm_rg m, upd (mm_qr m) q (nI (sx_d x)), upd (mm_qv m) q v, upd (mm_qw m) q (nI (w + sx_dl (sx_o x))))))
    (h2 : sx_d x = 100 → post (mm_mk c m)) (e1 : p = nI i) (e2 : p' = nI w) : wpX_promise post (mm_mk c m) p v p' := by
  subst e1 e2
  obtain ⟨h14, h15, h16, h17, h18, h3, ho20, _, ha, hb, hm⟩ := h
  have I := pk_in (x := nI i) i 300 h3
  have Q := pk_in (x := nI q) q 8 h8
  unfold wpX_promise mm_mk
  dsimp only
  rw [nu_cl i, h14, h15, hq, nu_cl q]
  refine ⟨I, ?_⟩
  rcases hd with hd | hd
  · rw [sx_r_lt (by omega), nu_nb (by omega)]
    refine br_t (nI_pos' (by omega)) ⟨I, lf_delay (sx_o x) (by omega) ?_⟩
    have dl := sx_dl_in (sx_o x)
    rw [nI_add]
    refine nm_e ⟨I, Q, nm_e ⟨Q, nm_e ⟨Q, ?_⟩⟩⟩
    rw [nu_b16 _ (by omega)]
    exact nm_e (nm_r (nI_1 q) (h1 hd))
  · rw [hd]
    refine br_f (by decide) ?_
    rw [← hq]
    exact h2 hd
theorem zw_finish {post : St1 → Prop} {c : St1} {m : mm_M} {T : Nat → Nat} {i w q : Nat} {x : sx_N} {v p p' : Int32} (h : sd_ins c i x) (wf : sx_wf T x) (ho : sx_o x < 16) (hw : w < 1200) (hq : mm_dc m = nI q) (h8 : q < 8)
    (h1 : sx_d x < 8 → post (mm_mk c (mm_ac m, nI (q + 1), mm_me m, mm_ri m, mm_rg m, upd (mm_qr m) q (nI (sx_d x)), upd (mm_qv m) q v, upd (mm_qw m) q (nI (w + sx_dl (sx_o x))))))
    (h2 : sx_d x = 8 → post (mm_mk c (if sx_o x = 11 then 0 else mm_ac m + v.toInt64, mm_dc m, mm_me m, mm_ri m, mm_rg m, mm_qr m, mm_qv m, mm_qw m))) (e1 : p = nI i) (e2 : p' = nI w) : wpX_finish post (mm_mk c m) p v p' := by
  subst e1 e2
  have d8 := zw_d8 wf
  have h3 := h.2.2.2.2.2.1
  have I := pk_in (x := nI i) i 300 h3
  unfold wpX_finish
  show vp_in (nI i) 300 ∧ _
  refine ⟨I, ?_⟩
  show ((uq_a14 c (nI i).toNatClampNeg = 11 → _) ∧ (¬ uq_a14 c (nI i).toNatClampNeg = 11 → _))
  have h14 := h.1
  rw [nu_cl i, h14]
  refine pk_eq (sx_o x) 11 (fun z => ?_) (fun z => ⟨I, ?_⟩) rfl rfl (by omega)
  · have := h2 (by omega)
    rw [if_pos z] at this
    exact this
  · refine pk_eq (sx_o x) 12 (fun z2 => ?_) (fun z2 => ?_) rfl rfl (by omega)
    · have := h2 (by omega)
      rw [if_neg z] at this
      exact nm_e this
    · have dd : sx_d x < 8 := by have ws := sx_wf_ws wf; unfold sx_ws at ws; omega
      exact zw_promise (post := post) h (Or.inl dd) hw hq h8 h1 (fun z => absurd z (by omega)) rfl rfl
end
section
/-! deliver -/
def zw_q (dd : Nat → Nat) (vv : Nat → Int32) (du : Nat → Nat) (q : List Nat) (lo : Nat) (qr qv qw : Nat → Int32) : Prop :=
  ∀ k j, lo ≤ k → q[k]? = some j → qr k = nI (dd j) ∧ qv k = vv j ∧ qw k = nI (du j)
theorem zw_app_get {q : List Nat} {y x : Nat} {i : Nat} (h : (q ++ [y])[i]? = some x) : (i < q.length ∧ q[i]? = some x) ∨ (i = q.length ∧ x = y) := by
  rcases Nat.lt_trichotomy i q.length with g | g | g
  · rw [List.getElem?_append_left g] at h
    exact Or.inl ⟨g, h⟩
  · subst g
    rw [List.getElem?_append_right (Nat.le_refl _), Nat.sub_self] at h
    exact Or.inr ⟨rfl, (Option.some.inj h).symm⟩
  · rw [List.getElem?_append_right (by omega), List.getElem?_eq_none (by simp only [List.length_singleton]; omega)] at h
    exact absurd h (by simp)
theorem zw_q_put {dd : Nat → Nat} {vv : Nat → Int32} {du : Nat → Nat} {q : List Nat} {qr qv qw : Nat → Int32} {j : Nat} (h : zw_q dd vv du q 0 qr qv qw) :
    zw_q dd vv du (q ++ [j]) 0 (upd qr q.length (nI (dd j))) (upd qv q.length (vv j)) (upd qw q.length (nI (du j))) := by
  intro k x _ hx
  rcases zw_app_get hx with ⟨g, hx'⟩ | ⟨g, hx'⟩
  · rw [pk_un (by omega), pk_un (by omega), pk_un (by omega)]
    exact h k x (by omega) hx'
  · subst g hx'
    rw [pk_us, pk_us, pk_us]
    exact ⟨rfl, rfl, rfl⟩
/-- registers behind the delivering of the dues in q -/
def zw_dr (dd : Nat → Nat) (vv : Nat → Int32) (du : Nat → Nat) (w : Nat) (q : List Nat) (rg rg' : Nat → Int32) : Prop :=
  ∀ r, r < 8 → (∀ j, j ∈ q → du j ≤ w → dd j = r → rg' r = vv j) ∧ ((∀ j, j ∈ q → du j ≤ w → dd j ≠ r) → rg' r = rg r)
theorem zw_deliver {post : St1 → Prop} {c : St1} {m : mm_M} {w : Nat} {q : List Nat} {dd : Nat → Nat} {vv : Nat → Int32} {du : Nat → Nat} {p : Int32} (hq : mm_dc m = nI q.length) (h8 : q.length ≤ 8)
    (hm : zw_q dd vv du q 0 (mm_qr m) (mm_qv m) (mm_qw m)) (hd : ∀ j, j ∈ q → dd j < 8 ∧ du j < 1290)
    (hU : ∀ j j', j ∈ q → j' ∈ q → du j ≤ w → du j' ≤ w → dd j = dd j' → j = j') (hw : w < 1290)
    (hp : ∀ rg qr qv qw, zw_q dd vv du (q.filter (fun j => decide (w < du j))) 0 qr qv qw → zw_dr dd vv du w q (mm_rg m) rg →
      post (mm_mk c (mm_ac m, nI (q.filter (fun j => decide (w < du j))).length, mm_me m, mm_ri m, rg, qr, qv, qw))) (e1 : p = nI w) : wpX_deliver post (mm_mk c m) p := by
  subst e1
  have main : ∃ fu, wX_deliver_4 post (nI w) (uq_nc c) (uq_fc c) (uq_lv c) (uq_cp c) (uq_nd c) (uq_pn c) (uq_le c) (uq_wc c) (mm_ac m) (mm_dc m) (uq_sc c) fu 0 0 (uq_a1 c) (uq_a2 c) (uq_a3 c) (uq_a4 c) (uq_a5 c) (uq_a6 c) (uq_a7 c) (uq_a8 c) (uq_a9 c) (uq_a10 c) (uq_a11 c) (uq_a12 c) (uq_a13 c) (uq_a14 c) (uq_a15 c) (uq_a16 c) (uq_a17 c) (uq_a18 c) (uq_a19 c) (uq_a20 c) (mm_me m) (mm_ri m) (mm_rg m) (mm_qr m) (mm_qv m) (mm_qw m) := by
    have F : ∀ k, ((q.take k).filter (fun j => decide (w < du j))).length ≤ k := by
      intro k
      refine Nat.le_trans (List.length_filter_le _ _) ?_
      rw [List.length_take]
      omega
    refine pk_loop (fun fu k (s : (Nat → Int32) × (Nat → Int32) × (Nat → Int32) × (Nat → Int32)) => wX_deliver_4 post (nI w) (uq_nc c) (uq_fc c) (uq_lv c) (uq_cp c) (uq_nd c) (uq_pn c) (uq_le c) (uq_wc c) (mm_ac m) (mm_dc m) (uq_sc c) fu (nI ((q.take k).filter (fun j => decide (w < du j))).length) (nI k) (uq_a1 c) (uq_a2 c) (uq_a3 c) (uq_a4 c) (uq_a5 c) (uq_a6 c) (uq_a7 c) (uq_a8 c) (uq_a9 c) (uq_a10 c) (uq_a11 c) (uq_a12 c) (uq_a13 c) (uq_a14 c) (uq_a15 c) (uq_a16 c) (uq_a17 c) (uq_a18 c) (uq_a19 c) (uq_a20 c) (mm_me m) (mm_ri m) (s.1) (s.2.1) (s.2.2.1) (s.2.2.2))
      (fun k s => zw_q dd vv du ((q.take k).filter (fun j => decide (w < du j))) 0 s.2.1 s.2.2.1 s.2.2.2 ∧ zw_q dd vv du q k s.2.1 s.2.2.1 s.2.2.2 ∧ zw_dr dd vv du w (q.take k) (mm_rg m) s.1) q.length 0 (mm_rg m, mm_qr m, mm_qv m, mm_qw m) (by omega) ?_ ?_ ?_
    · refine ⟨fun k j _ h => ?_, hm, fun r _ => ⟨fun j hj => ?_, fun _ => rfl⟩⟩
      · rw [List.take_zero] at h
        exact absurd h (by simp)
      · rw [List.take_zero] at hj
        exact absurd hj (by simp)
    · rintro fu ⟨rg, qr, qv, qw⟩ ⟨i1, i2, i3⟩
      dsimp only at i1 i2 i3 ⊢
      rw [List.take_length] at i1 i3 ⊢
      exact pk_le q.length q.length (fun _ => hp rg qr qv qw i1 i3) (fun z => absurd z (by omega)) hq
    · rintro fu k ⟨rg, qr, qv, qw⟩ hk ⟨i1, i2, i3⟩ ih
      dsimp only at i1 i2 i3 ih ⊢
      have hj : q[k]? = some q[k] := List.getElem?_eq_getElem hk
      have hmem : q[k] ∈ q := List.getElem_mem hk
      obtain ⟨e1, e2, e3⟩ := i2 k q[k] (Nat.le_refl _) hj
      obtain ⟨d8, du12⟩ := hd q[k] hmem
      have tk : q.take (k + 1) = q.take k ++ [q[k]] := by rw [List.take_add_one, hj]; rfl
      have K := pk_in (x := nI k) k 8 (by omega)
      have Fk := F k
      have X := pk_in (x := nI ((q.take k).filter (fun j => decide (w < du j))).length) ((q.take k).filter (fun j => decide (w < du j))).length 8 (by omega)
      refine pk_le q.length k (fun z => absurd z (by omega)) (fun _ => ⟨K, ?_⟩) hq
      rw [nu_cl k, e1, e2, e3, nu_nb (by omega), nu_ns (by omega), nu_cl (dd q[k]), nu_cl ((q.take k).filter (fun j => decide (w < du j))).length]
      refine pk_lt w (du q[k]) (fun z => ⟨K, X, nm_e ⟨K, X, nm_e ⟨K, X, nm_e (nm_e (nm_e ?_))⟩⟩⟩) (fun z => ⟨K, K, pk_in _ 8 d8, nm_e (nm_e ?_)⟩)
      · have fk : (q.take (k + 1)).filter (fun j => decide (w < du j)) = (q.take k).filter (fun j => decide (w < du j)) ++ [q[k]] := by
          rw [tk, List.filter_append, List.filter_cons_of_pos (by exact decide_eq_true z), List.filter_nil]
        have H := ih (rg, upd qr ((q.take k).filter (fun j => decide (w < du j))).length (nI (dd q[k])), upd qv ((q.take k).filter (fun j => decide (w < du j))).length (vv q[k]), upd qw ((q.take k).filter (fun j => decide (w < du j))).length (nI (du q[k]))) ?_
        · rw [fk, List.length_append, List.length_singleton, ← nI_1, ← nI_1] at H
          exact H
        · refine ⟨?_, ?_, ?_⟩
          · rw [fk]
            exact zw_q_put i1
          · intro l j hl hx
            dsimp only
            rw [pk_un (by omega), pk_un (by omega), pk_un (by omega)]
            exact i2 l j (by omega) hx
          · rw [tk]
            intro r hr
            obtain ⟨g1, g2⟩ := i3 r hr
            refine ⟨fun j hj hdu he => ?_, fun hn => g2 (fun j hj => hn j (List.mem_append_left _ hj))⟩
            rcases List.mem_append.mp hj with hj | hj
            · exact g1 j hj hdu he
            · rw [List.mem_singleton.mp hj] at hdu
              omega
      · have fk : (q.take (k + 1)).filter (fun j => decide (w < du j)) = (q.take k).filter (fun j => decide (w < du j)) := by
          rw [tk, List.filter_append, List.filter_cons_of_neg (by simp only [decide_eq_true_eq]; omega), List.filter_nil, List.append_nil]
        have H := ih (upd rg (dd q[k]) (vv q[k]), qr, qv, qw) ?_
        · rw [fk, ← nI_1] at H
          exact H
        · refine ⟨?_, fun l j hl hx => i2 l j (by omega) hx, ?_⟩
          · rw [fk]
            exact i1
          · rw [tk]
            intro r hr
            obtain ⟨g1, g2⟩ := i3 r hr
            refine ⟨fun j hj hdu he => ?_, fun hn => ?_⟩
            · have jm : j ∈ q := by
                rcases List.mem_append.mp hj with hj | hj
                · exact List.mem_of_mem_take hj
                · rw [List.mem_singleton.mp hj]; exact hmem
              show upd rg (dd q[k]) (vv q[k]) r = vv j
              by_cases er : r = dd q[k]
              · rw [nu_us er]
                rw [hU j q[k] jm hmem hdu (by omega) (by omega)]
              · rw [pk_un er]
                rcases List.mem_append.mp hj with hj | hj
                · exact g1 j hj hdu he
                · rw [List.mem_singleton.mp hj] at he
                  exact absurd he.symm er
            · show upd rg (dd q[k]) (vv q[k]) r = mm_rg m r
              have := hn q[k] (List.mem_append_right _ (List.mem_singleton.mpr rfl)) (by omega)
              rw [pk_un (fun e => this e.symm)]
              exact g2 (fun j hj => hn j (List.mem_append_left _ hj))
  exact main
end
section
/-! one step of the processor -/
def zw_W (c : St1) (j : Nat) : Nat := sd_W (uq_a19 c) j
def zw_du (c : St1) (L : List sx_N) (j : Nat) : Nat := zw_W c j + sx_dl (sx_o (sx_at L j))
def zw_dd (L : List sx_N) (j : Nat) : Nat := sx_d (sx_at L j)
def zw_v (c : St1) (L : List sx_N) (s0 : sx_S) (j : Nat) : Int32 := sx_va (gi_T c) (sx_at L j) (zw_S (gi_T c) L s0 j)
/-- the state holds a program: code, words -/
def zw_P (c : St1) (L : List sx_N) (C : Nat) : Prop :=
  sd_code c L ∧ (∀ x, x ∈ L → sx_wf (gi_T c) x) ∧ uq_wc c = nI C ∧ sd_I L L.length C (uq_a19 c) (uq_a20 c)
def zw_cr (c : St1) (L : List sx_N) (s0 : sx_S) (t : Nat) (rg : Nat → Int32) : Prop := ∀ r, r < 8 → zw_cut L.length (fun j => zw_dd L j = r) (zw_du c L) t (fun k => sx_rg (zw_S (gi_T c) L s0 k) r) (rg r)
def zw_ca (c : St1) (L : List sx_N) (s0 : sx_S) (w : Nat) (ac : Int64) : Prop := zw_cut L.length (fun j => zw_dd L j = 8) (zw_W c) w (fun k => sx_ac (zw_S (gi_T c) L s0 k)) ac
def zw_cm (c : St1) (L : List sx_N) (s0 : sx_S) (w : Nat) (me : Nat → Int32) : Prop := ∀ a, a < 96 → zw_cut L.length (fun j => zw_tm (sx_at L j) a) (zw_W c) w (fun k => sx_me (zw_S (gi_T c) L s0 k) a) (me a)
def zw_ci (c : St1) (L : List sx_N) (s0 : sx_S) (w : Nat) (ri : Nat → Int32) : Prop := ∀ f, f < 4 → zw_cut L.length (fun j => zw_tr (sx_at L j) f) (zw_W c) w (fun k => nI (sx_ri (zw_S (gi_T c) L s0 k) f)) (ri f)
theorem zw_sc {c : St1} {L : List sx_N} {C : Nat} (h : zw_P c L C) {j k : Nat} (hjk : j < k) (hk : k < L.length) : sd_c (sx_at L j) (sx_at L k) (zw_W c j) (zw_W c k) := h.2.2.2.2.2.2.1 j k hjk hk
theorem zw_wf {c : St1} {L : List sx_N} {C : Nat} (h : zw_P c L C) {j : Nat} (hj : j < L.length) : sx_wf (gi_T c) (sx_at L j) := h.2.1 _ (sx_at_mem hj)
theorem zw_fr_rg {c : St1} {L : List sx_N} {s0 : sx_S} {r : Nat} : ∀ j, j < L.length → ¬ zw_dd L j = r → sx_rg (zw_S (gi_T c) L s0 (j + 1)) r = sx_rg (zw_S (gi_T c) L s0 j) r := by
  intro j hj hn
  rw [zw_Ss _ _ hj]
  exact zw_rg_n _ hn _
theorem zw_fr_ac {c : St1} {L : List sx_N} {C : Nat} {s0 : sx_S} (h : zw_P c L C) : ∀ j, j < L.length → ¬ zw_dd L j = 8 → sx_ac (zw_S (gi_T c) L s0 (j + 1)) = sx_ac (zw_S (gi_T c) L s0 j) := by
  intro j hj hn
  rw [zw_Ss _ _ hj]
  exact zw_ac_n (zw_wf h hj) hn _
theorem zw_fr_me {c : St1} {L : List sx_N} {C : Nat} {s0 : sx_S} (h : zw_P c L C) {a : Nat} : ∀ j, j < L.length → ¬ zw_tm (sx_at L j) a → sx_me (zw_S (gi_T c) L s0 (j + 1)) a = sx_me (zw_S (gi_T c) L s0 j) a := by
  intro j hj hn
  rw [zw_Ss _ _ hj]
  exact zw_me_n (zw_wf h hj) hn _
theorem zw_fr_ri {c : St1} {L : List sx_N} {s0 : sx_S} {f : Nat} : ∀ j, j < L.length → ¬ zw_tr (sx_at L j) f → nI (sx_ri (zw_S (gi_T c) L s0 (j + 1)) f) = nI (sx_ri (zw_S (gi_T c) L s0 j) f) := by
  intro j hj hn
  rw [zw_Ss _ _ hj, zw_ri_n hn]
theorem zw_mo_rg {c : St1} {L : List sx_N} {C : Nat} (h : zw_P c L C) {r : Nat} (hr : r < 9) : ∀ j k, j < k → k < L.length → zw_dd L j = r → zw_dd L k = r → zw_du c L j < zw_du c L k := by
  intro j k hjk hk h1 h2
  unfold zw_dd at h1 h2
  have := (zw_sc h hjk hk).2.2.1 (by omega) (by omega)
  unfold zw_du
  omega
theorem zw_mo_ac {c : St1} {L : List sx_N} {C : Nat} (h : zw_P c L C) : ∀ j k, j < k → k < L.length → zw_dd L j = 8 → zw_dd L k = 8 → zw_W c j < zw_W c k := by
  intro j k hjk hk h1 h2
  unfold zw_dd at h1 h2
  have := (zw_sc h hjk hk).2.2.1 (by omega) (by omega)
  have d1 := (zw_d8 (zw_wf h (by omega : j < L.length))).mp h1
  have d2 := (zw_d8 (zw_wf h hk)).mp h2
  have e1 : sx_dl (sx_o (sx_at L j)) = 1 := by unfold sx_dl; rw [if_neg (by omega)]
  have e2 : sx_dl (sx_o (sx_at L k)) = 1 := by unfold sx_dl; rw [if_neg (by omega)]
  omega
theorem zw_mo_me {c : St1} {L : List sx_N} {C : Nat} (h : zw_P c L C) {a : Nat} : ∀ j k, j < k → k < L.length → zw_tm (sx_at L j) a → zw_tm (sx_at L k) a → zw_W c j < zw_W c k := by
  intro j k hjk hk h1 h2
  obtain ⟨t1, t2, t3⟩ := zw_ts_tm (zw_wf h hk) (zw_wf h (by omega : j < L.length)) h2 h1
  have := (zw_sc h hjk hk).2.2.2 t1 t2 t3
  omega
theorem zw_mo_ri {c : St1} {L : List sx_N} {C : Nat} (h : zw_P c L C) {f : Nat} : ∀ j k, j < k → k < L.length → zw_tr (sx_at L j) f → zw_tr (sx_at L k) f → zw_W c j < zw_W c k := by
  intro j k hjk hk h1 h2
  obtain ⟨t1, t2, t3⟩ := zw_ts_tr h2 h1
  have := (zw_sc h hjk hk).2.2.2 t1 t2 t3
  omega
/-! what instruction i reads at its word is what it reads one behind another -/
theorem zw_read_rg {c : St1} {L : List sx_N} {C w i r : Nat} {s0 : sx_S} {rg : Nat → Int32} (h : zw_P c L C) (hc : zw_cr c L s0 (w + 1) rg) (hi : i < L.length) (hw : zw_W c i = w) (hr : r < 8) (hrd : sx_rd (sx_at L i) r) : rg r = sx_rg (zw_S (gi_T c) L s0 i) r := by
  refine hc r hr i (by omega) (fun j hj hP => ?_) (fun j hj hn hP => ?_)
  · have := (zw_sc h hj hi).1 (by unfold zw_dd at hP; rw [hP]; exact hrd)
    unfold zw_du
    omega
  · have dl := sx_dl_in (sx_o (sx_at L j))
    by_cases e : j = i
    · subst e
      unfold zw_du
      omega
    · have := (zw_sc h (show i < j by omega) hn).2.1 (by unfold zw_dd at hP; rw [hP]; exact hrd)
      unfold zw_du
      omega
theorem zw_read_ac {c : St1} {L : List sx_N} {C w i : Nat} {s0 : sx_S} {ac : Int64} (h : zw_P c L C) (hc : zw_ca c L s0 w ac) (hi : i < L.length) (hw : zw_W c i = w) (hrd : sx_rd (sx_at L i) 8) : ac = sx_ac (zw_S (gi_T c) L s0 i) := by
  refine hc i (by omega) (fun j hj hP => ?_) (fun j hj hn hP => ?_)
  · have := (zw_sc h hj hi).1 (by unfold zw_dd at hP; rw [hP]; exact hrd)
    have dl := sx_dl_in (sx_o (sx_at L j))
    omega
  · by_cases e : j = i
    · subst e
      omega
    · have := (zw_sc h (show i < j by omega) hn).2.1 (by unfold zw_dd at hP; rw [hP]; exact hrd)
      omega
theorem zw_read_me {c : St1} {L : List sx_N} {C w i a : Nat} {s0 : sx_S} {me : Nat → Int32} (h : zw_P c L C) (hc : zw_cm c L s0 w me) (hi : i < L.length) (hw : zw_W c i = w) (ha : a < 96) (ht : zw_tm (sx_at L i) a) : me a = sx_me (zw_S (gi_T c) L s0 i) a := by
  refine hc a ha i (by omega) (fun j hj hP => ?_) (fun j hj hn hP => ?_)
  · have := zw_mo_me h j i hj hi hP ht
    omega
  · by_cases e : j = i
    · subst e
      omega
    · have := zw_mo_me h i j (by omega) hn ht hP
      omega
theorem zw_read_ri {c : St1} {L : List sx_N} {C w i f : Nat} {s0 : sx_S} {ri : Nat → Int32} (h : zw_P c L C) (hc : zw_ci c L s0 w ri) (hi : i < L.length) (hw : zw_W c i = w) (hf : f < 4) (ht : zw_tr (sx_at L i) f) : ri f = nI (sx_ri (zw_S (gi_T c) L s0 i) f) := by
  refine hc f hf i (by omega) (fun j hj hP => ?_) (fun j hj hn hP => ?_)
  · have := zw_mo_ri h j i hj hi hP ht
    omega
  · by_cases e : j = i
    · subst e
      omega
    · have := zw_mo_ri h i j (by omega) hn ht hP
      omega
theorem zw_calc_eq {T : Nat → Nat} {x : sx_N} {rg rg' : Nat → Int32} {ac ac' : Int64} (w : sx_wf T x) (ho : sx_o x < 16) (hr : ∀ r, r < 8 → sx_rd x r → rg r = rg' r) (ha : sx_rd x 8 → ac = ac') :
    sx_calc (sx_o x) (sx_n x) (rg (sx_a x)) (rg (sx_b x)) ac = sx_calc (sx_o x) (sx_n x) (rg' (sx_a x)) (rg' (sx_b x)) ac' := by
  have A : sx_a x < 8 → rg (sx_a x) = rg' (sx_a x) := fun z => hr _ z ⟨by omega, Or.inl rfl⟩
  have B : sx_b x < 8 → rg (sx_b x) = rg' (sx_b x) := fun z => hr _ z ⟨by omega, Or.inr (Or.inl rfl)⟩
  rcases w with w | w | w | w | w | w | w | w | w | w | w
  · rw [w.1, sx_c1, sx_c1]
  · rw [w.1, sx_c11, sx_c11]
  · rw [w.1, A w.2.2.1, B w.2.2.2, sx_c12, sx_c12]
  · rw [w.1, ha ⟨by omega, Or.inl w.2.2.1⟩, sx_c13, sx_c13]
  · rw [A w.2.2.1]
    exact sx_calc_y w.1 _ _ _ _ _ _
  · rw [A w.2.2.1, B w.2.2.2]
    exact sx_calc_ac (by unfold sx_plain; omega) _ _ _ _ _
  · exact absurd w.1 (by omega)
  · exact absurd w.1 (by omega)
  · exact absurd w.1 (by omega)
  · exact absurd w.1 (by omega)
  · exact absurd w.1 (by omega)
/-! the word's two slots -/
def zw_oi (o : Option Nat) : Int32 := match o with | none => -1 | some i => nI i
/-- o is the instruction of half h in word w -/
def zw_slot (c : St1) (L : List sx_N) (w h : Nat) (o : Option Nat) : Prop :=
  (∀ i, o = some i → i < L.length ∧ zw_W c i = w ∧ sd_h (sx_at L i) = h) ∧ ∀ j, j < L.length → zw_W c j = w → sd_h (sx_at L j) = h → o = some j
theorem zw_slot_get {c : St1} {L : List sx_N} {C w h : Nat} (hP : zw_P c L C) (hw : w < C) (hh : h < 2) : ∃ o, uq_a20 c (2 * w + h) - 1 = zw_oi o ∧ zw_slot c L w h o := by
  obtain ⟨hcode, _, _, hI⟩ := hP
  have hL := hcode.2.1
  have hC := hI.2.1
  rcases hI.2.2.2.2.2 w h (by omega) hh with g | ⟨i, g1, g2, g3, g4⟩
  · refine ⟨none, by rw [g]; rfl, fun i e => absurd e (by simp), fun j hj hw' hh' => ?_⟩
    have := hI.2.2.2.2.1 j hj
    unfold zw_W at hw'
    rw [hw', hh', g] at this
    exact absurd this.symm (nI_ne0 (by omega) (by omega))
  · refine ⟨some i, by rw [g4]; exact nI_pred i, fun j e => ?_, fun j hj hw' hh' => ?_⟩
    · rw [← Option.some.inj e]
      exact ⟨g1, g2, g3⟩
    · have := hI.2.2.2.2.1 j hj
      unfold zw_W at hw'
      rw [hw', hh', g4] at this
      have := nu_inj (by omega) (by omega) this
      rw [show i = j by omega]
theorem zw_oi_lt (o : Option Nat) (ho : ∀ i, o = some i → i < 2 ^ 31) : zw_oi o < 0 ↔ o = none := by
  cases o with
  | none => exact ⟨fun _ => rfl, fun _ => (by decide : (-1 : Int32) < 0)⟩
  | some i => exact ⟨fun z => absurd z (nI_pos (ho i rfl)), fun z => absurd z (by simp)⟩
def zw_l (L : List sx_N) (o : Option Nat) : List Nat := match o with | none => [] | some j => if zw_dd L j < 8 then [j] else []
/-- the queue -/
def zw_Q (c : St1) (L : List sx_N) (s0 : sx_S) (q : List Nat) (m : mm_M) : Prop := mm_dc m = nI q.length ∧ zw_q (zw_dd L) (zw_v c L s0) (zw_du c L) q 0 (mm_qr m) (mm_qv m) (mm_qw m)
theorem zw_st84 {post : St1 → Prop} {J : Int32 → Int32 → Int32 → Int32 → Int32 → Int32 → Int32 → Int32 → Int32 → Int64 → Int32 → Int32 → (Nat → Int32) → (Nat → Int32) → (Nat → Int32) → (Nat → Int32) → (Nat → Int32) → (Nat → Int32) → (Nat → Int32) → (Nat → Int32) → (Nat → Int32) → (Nat → Int32) → (Nat → Int32) → (Nat → Int32) → (Nat → Int32) → (Nat → Int32) → (Nat → Int32) → (Nat → Int32) → (Nat → Int32) → (Nat → Int32) → (Nat → Int32) → (Nat → Int32) → (Nat → Int32) → (Nat → Int32) → (Nat → Int32) → (Nat → Int32) → (Nat → Int32) → (Nat → Int32) → Prop} {c : St1} {L : List sx_N} {C w : Nat} {s0 : sx_S} {m : mm_M} {q : List Nat} {o : Option Nat} {x5 x3 : Int32} (hP : zw_P c L C) (hw : w < C) (hq : zw_Q c L s0 q m) (hq8 : q.length < 8)
    (ho : ∀ j, o = some j → j < L.length ∧ zw_W c j = w ∧ (zw_dd L j < 8 ∨ zw_dd L j = 100) ∧ (zw_dd L j < 8 → x5 = zw_v c L s0 j)) (e3 : x3 = zw_oi o)
    (hJ : ∀ m', mm_ac m' = mm_ac m → mm_me m' = mm_me m → mm_ri m' = mm_ri m → mm_rg m' = mm_rg m → zw_Q c L s0 (q ++ zw_l L o) m' → J (nI (w + 1)) (uq_nc c) (uq_fc c) (uq_lv c) (uq_cp c) (uq_nd c) (uq_pn c) (uq_le c) (uq_wc c) (mm_ac m') (mm_dc m') (uq_sc c) (uq_a1 c) (uq_a2 c) (uq_a3 c) (uq_a4 c) (uq_a5 c) (uq_a6 c) (uq_a7 c) (uq_a8 c) (uq_a9 c) (uq_a10 c) (uq_a11 c) (uq_a12 c) (uq_a13 c) (uq_a14 c) (uq_a15 c) (uq_a16 c) (uq_a17 c) (uq_a18 c) (uq_a19 c) (uq_a20 c) (mm_me m') (mm_ri m') (mm_rg m') (mm_qr m') (mm_qv m') (mm_qw m')) :
    wX_step_84 post J (nI w) x3 x5 (uq_nc c) (uq_fc c) (uq_lv c) (uq_cp c) (uq_nd c) (uq_pn c) (uq_le c) (uq_wc c) (mm_ac m) (mm_dc m) (uq_sc c) (uq_a1 c) (uq_a2 c) (uq_a3 c) (uq_a4 c) (uq_a5 c) (uq_a6 c) (uq_a7 c) (uq_a8 c) (uq_a9 c) (uq_a10 c) (uq_a11 c) (uq_a12 c) (uq_a13 c) (uq_a14 c) (uq_a15 c) (uq_a16 c) (uq_a17 c) (uq_a18 c) (uq_a19 c) (uq_a20 c) (mm_me m) (mm_ri m) (mm_rg m) (mm_qr m) (mm_qv m) (mm_qw m) := by
  subst e3
  have hL := hP.1.2.1
  have hC := hP.2.2.2.2.1
  unfold wX_step_84
  refine ek_if (zw_oi_lt o (fun i e => by have := (ho i e).1; omega)) (fun z => ?_) (fun z => ?_)
  · subst z
    refine nm_r (nI_1 w) (hJ m rfl rfl rfl rfl ?_)
    show zw_Q c L s0 (q ++ []) m
    rw [List.append_nil]
    exact hq
  · cases o with
    | none => exact absurd rfl z
    | some j =>
      obtain ⟨h1, h2, h3, h4⟩ := ho j rfl
      refine zw_promise (m := m) (hP.1.2.2 j h1) h3 (by omega) hq.1 hq8 (fun hd => ?_) (fun hd => ?_) rfl rfl
      · refine nm_r (nI_1 w) (hJ _ rfl rfl rfl rfl ?_)
        have e : zw_l L (some j) = [j] := if_pos hd
        rw [e]
        refine ⟨by rw [List.length_append]; rfl, ?_⟩
        have := zw_q_put (j := j) hq.2
        rw [← h4 hd] at this
        unfold zw_du at this
        rw [h2] at this
        exact this
      · refine nm_r (nI_1 w) (hJ m rfl rfl rfl rfl ?_)
        have e : zw_l L (some j) = [] := if_neg (by unfold zw_dd; omega)
        rw [e, List.append_nil]
        exact hq
end
section
/-! finish, touch, a word, a step -/
theorem zw_h0 {x : sx_N} (h : sd_h x = 0) : sx_o x < 16 := by
  unfold sd_h at h
  split at h <;> omega
theorem zw_h1 {x : sx_N} (h : sd_h x = 1) : 16 ≤ sx_o x := by
  unfold sd_h at h
  split at h <;> omega
theorem zw_h0' {x : sx_N} (h : sx_o x < 16) : sd_h x = 0 := if_neg (by omega)
theorem zw_h1' {x : sx_N} (h : 16 ≤ sx_o x) : sd_h x = 1 := if_pos h
/-- what a word leaves: everything fits the next word but the due results that wait in the queue -/
def zw_after (c : St1) (L : List sx_N) (s0 : sx_S) (w : Nat) (q : List Nat) (m : mm_M) : Prop :=
  zw_cr c L s0 (w + 1) (mm_rg m) ∧ zw_ca c L s0 (w + 1) (mm_ac m) ∧ zw_cm c L s0 (w + 1) (mm_me m) ∧ zw_ci c L s0 (w + 1) (mm_ri m) ∧ zw_Q c L s0 q m
theorem zw_d8100 {T : Nat → Nat} {x : sx_N} (w : sx_wf T x) (h : 16 ≤ sx_o x) : sx_d x < 8 ∨ sx_d x = 100 := by
  have ws := sx_wf_ws w
  unfold sx_ws at ws
  omega
theorem zw_st72 {post : St1 → Prop} {J : Int32 → Int32 → Int32 → Int32 → Int32 → Int32 → Int32 → Int32 → Int32 → Int64 → Int32 → Int32 → (Nat → Int32) → (Nat → Int32) → (Nat → Int32) → (Nat → Int32) → (Nat → Int32) → (Nat → Int32) → (Nat → Int32) → (Nat → Int32) → (Nat → Int32) → (Nat → Int32) → (Nat → Int32) → (Nat → Int32) → (Nat → Int32) → (Nat → Int32) → (Nat → Int32) → (Nat → Int32) → (Nat → Int32) → (Nat → Int32) → (Nat → Int32) → (Nat → Int32) → (Nat → Int32) → (Nat → Int32) → (Nat → Int32) → (Nat → Int32) → (Nat → Int32) → (Nat → Int32) → Prop} {c : St1} {L : List sx_N} {C w : Nat} {s0 : sx_S} {m : mm_M} {q : List Nat} {o1 o2 : Option Nat} {x2 x3 x4 x5 : Int32} (hP : zw_P c L C) (hw : w < C) (hq : zw_Q c L s0 q m) (hq8 : q.length < 7)
    (hr : zw_cr c L s0 (w + 1) (mm_rg m)) (ha : zw_ca c L s0 w (mm_ac m)) (hm : zw_cm c L s0 (w + 1) (mm_me m)) (hi : zw_ci c L s0 (w + 1) (mm_ri m))
    (s1 : zw_slot c L w 0 o1) (s2 : zw_slot c L w 1 o2) (e2 : x2 = zw_oi o1) (e3 : x3 = zw_oi o2) (h4 : ∀ i, o1 = some i → x4 = zw_v c L s0 i) (h5 : ∀ j, o2 = some j → zw_dd L j < 8 → x5 = zw_v c L s0 j)
    (hJ : ∀ m', zw_after c L s0 w (q ++ zw_l L o1 ++ zw_l L o2) m' → J (nI (w + 1)) (uq_nc c) (uq_fc c) (uq_lv c) (uq_cp c) (uq_nd c) (uq_pn c) (uq_le c) (uq_wc c) (mm_ac m') (mm_dc m') (uq_sc c) (uq_a1 c) (uq_a2 c) (uq_a3 c) (uq_a4 c) (uq_a5 c) (uq_a6 c) (uq_a7 c) (uq_a8 c) (uq_a9 c) (uq_a10 c) (uq_a11 c) (uq_a12 c) (uq_a13 c) (uq_a14 c) (uq_a15 c) (uq_a16 c) (uq_a17 c) (uq_a18 c) (uq_a19 c) (uq_a20 c) (mm_me m') (mm_ri m') (mm_rg m') (mm_qr m') (mm_qv m') (mm_qw m')) :
    wX_step_72 post J (nI w) x2 x3 x4 x5 (uq_nc c) (uq_fc c) (uq_lv c) (uq_cp c) (uq_nd c) (uq_pn c) (uq_le c) (uq_wc c) (mm_ac m) (mm_dc m) (uq_sc c) (uq_a1 c) (uq_a2 c) (uq_a3 c) (uq_a4 c) (uq_a5 c) (uq_a6 c) (uq_a7 c) (uq_a8 c) (uq_a9 c) (uq_a10 c) (uq_a11 c) (uq_a12 c) (uq_a13 c) (uq_a14 c) (uq_a15 c) (uq_a16 c) (uq_a17 c) (uq_a18 c) (uq_a19 c) (uq_a20 c) (mm_me m) (mm_ri m) (mm_rg m) (mm_qr m) (mm_qv m) (mm_qw m) := by
  subst e2
  have hL := hP.1.2.1
  have hC := hP.2.2.2.2.1
  have no8 : ∀ j, j < L.length → zw_dd L j = 8 → zw_W c j = w → o1 = some j := by
    intro j hj hd hwj
    refine s1.2 j hj hwj (zw_h0' ?_)
    have := (zw_d8 (zw_wf hP hj)).mp hd
    omega
  have cont : ∀ (m' : mm_M), mm_rg m' = mm_rg m → mm_me m' = mm_me m → mm_ri m' = mm_ri m → zw_ca c L s0 (w + 1) (mm_ac m') → zw_Q c L s0 (q ++ zw_l L o1) m' → (q ++ zw_l L o1).length < 8 → wX_step_84 post J (nI w) x3 x5 (uq_nc c) (uq_fc c) (uq_lv c) (uq_cp c) (uq_nd c) (uq_pn c) (uq_le c) (uq_wc c) (mm_ac m') (mm_dc m') (uq_sc c) (uq_a1 c) (uq_a2 c) (uq_a3 c) (uq_a4 c) (uq_a5 c) (uq_a6 c) (uq_a7 c) (uq_a8 c) (uq_a9 c) (uq_a10 c) (uq_a11 c) (uq_a12 c) (uq_a13 c) (uq_a14 c) (uq_a15 c) (uq_a16 c) (uq_a17 c) (uq_a18 c) (uq_a19 c) (uq_a20 c) (mm_me m') (mm_ri m') (mm_rg m') (mm_qr m') (mm_qv m') (mm_qw m') := by
    intro m' q1 q2 q3 q4 q5 q6
    refine zw_st84 hP hw q5 q6 (fun j e => ?_) e3 (fun m'' r1 r2 r3 r4 r5 => ?_)
    · obtain ⟨t1, t2, t3⟩ := s2.1 j e
      exact ⟨t1, t2, zw_d8100 (zw_wf hP t1) (zw_h1 t3), h5 j e⟩
    · exact hJ m'' ⟨by rw [r4, q1]; exact hr, by rw [r1]; exact q4, by rw [r2, q2]; exact hm, by rw [r3, q3]; exact hi, r5⟩
  unfold wX_step_72
  refine ek_if (zw_oi_lt o1 (fun i e => by have := (s1.1 i e).1; omega)) (fun z => ?_) (fun z => ?_)
  · subst z
    refine cont m rfl rfl rfl (zw_cutA ha (fun j hj hd e => ?_)) ?_ ?_
    · exact absurd (no8 j hj hd e) (by simp)
    · show zw_Q c L s0 (q ++ []) m
      rw [List.append_nil]; exact hq
    · show (q ++ []).length < 8
      rw [List.append_nil]; omega
  · cases o1 with
    | none => exact absurd rfl z
    | some i =>
      obtain ⟨t1, t2, t3⟩ := s1.1 i rfl
      have wfi := zw_wf hP t1
      have d8 := zw_d8 wfi
      have v4 := h4 i rfl
      refine zw_finish (m := m) (hP.1.2.2 i t1) wfi (zw_h0 t3) (by omega) hq.1 (by omega) (fun hd => ?_) (fun hd => ?_) rfl rfl
      · have e : zw_l L (some i) = [i] := if_pos hd
        refine cont _ rfl rfl rfl (zw_cutA ha (fun j hj hdj ew => ?_)) ?_ ?_
        · have := Option.some.inj (no8 j hj hdj ew)
          subst this
          unfold zw_dd at hdj
          omega
        · rw [e]
          refine ⟨by rw [List.length_append]; rfl, ?_⟩
          have := zw_q_put (j := i) hq.2
          rw [← v4] at this
          unfold zw_du at this
          rw [t2] at this
          exact this
        · rw [e, List.length_append, List.length_singleton]; omega
      · have e : zw_l L (some i) = [] := if_neg (by unfold zw_dd; omega)
        refine cont _ rfl rfl rfl ?_ ?_ ?_
        · have hrd : sx_o (sx_at L i) = 12 → sx_rd (sx_at L i) 8 := fun o12 => ⟨by omega, Or.inr (Or.inr ⟨o12, rfl⟩)⟩
          have ev : (if sx_o (sx_at L i) = 11 then 0 else mm_ac m + x4.toInt64) = sx_ac (zw_S (gi_T c) L s0 (i + 1)) := by
            rw [zw_Ss _ _ t1]
            show _ = (if sx_o (sx_at L i) = 11 then 0 else if sx_o (sx_at L i) = 12 then sx_ac (zw_S (gi_T c) L s0 i) + (sx_va (gi_T c) (sx_at L i) (zw_S (gi_T c) L s0 i)).toInt64 else sx_ac (zw_S (gi_T c) L s0 i))
            by_cases o11 : sx_o (sx_at L i) = 11
            · rw [if_pos o11, if_pos o11]
            · have o12 : sx_o (sx_at L i) = 12 := by omega
              rw [if_neg o11, if_neg o11, if_pos o12, zw_read_ac hP ha t1 t2 (hrd o12), v4]
              rfl
          show zw_ca c L s0 (w + 1) (if sx_o (sx_at L i) = 11 then 0 else mm_ac m + x4.toInt64)
          rw [ev]
          exact zw_cutB i t1 hd t2 (zw_mo_ac hP) (zw_fr_ac hP)
        · rw [e, List.append_nil]
          exact hq
        · rw [e, List.append_nil]; omega
theorem zw_tme_ne {T : Nat → Nat} {x : sx_N} {me rg : Nat → Int32} {ri : Nat → Nat} {a : Nat} (w : sx_wf T x) (h : ¬ zw_tm x a) : zw_tme T x me ri rg a = me a := by
  unfold zw_tm at h
  unfold zw_tme
  split
  · exact pk_un (fun e => h (Or.inl ⟨by omega, by omega, e.symm⟩))
  · split
    · refine pk_un (fun e => h (Or.inr ⟨by omega, ?_⟩))
      have := zw_pl_in w (by omega) ri
      omega
    · rfl
theorem zw_tri_ne {T : Nat → Nat} {x : sx_N} {r : Nat → Int32} {ri : Nat → Nat} {f : Nat} (h : ¬ zw_tr x f) : zw_tri T x r ri f = r f := by
  unfold zw_tr at h
  unfold zw_tri
  split
  · exact pk_un (fun e => h ⟨by omega, e.symm⟩)
  · rfl
theorem nu_clamp_pos {x : Int32} {t : Nat} (h : x.toNatClampNeg = t) (ht : 1 ≤ t) : x = nI t := by
  have h0 : ¬ x < 0 := by
    intro z
    rw [nu_lt] at z
    have : x.toNatClampNeg = x.toInt.toNat := rfl
    have : (0 : Int32).toInt = 0 := by decide
    omega
  obtain ⟨j, hj, e⟩ := nI_of h0
  subst e
  rw [nu_cl j] at h
  rw [h]
theorem zw_st58 {post : St1 → Prop} {J : Int32 → Int32 → Int32 → Int32 → Int32 → Int32 → Int32 → Int32 → Int32 → Int64 → Int32 → Int32 → (Nat → Int32) → (Nat → Int32) → (Nat → Int32) → (Nat → Int32) → (Nat → Int32) → (Nat → Int32) → (Nat → Int32) → (Nat → Int32) → (Nat → Int32) → (Nat → Int32) → (Nat → Int32) → (Nat → Int32) → (Nat → Int32) → (Nat → Int32) → (Nat → Int32) → (Nat → Int32) → (Nat → Int32) → (Nat → Int32) → (Nat → Int32) → (Nat → Int32) → (Nat → Int32) → (Nat → Int32) → (Nat → Int32) → (Nat → Int32) → (Nat → Int32) → (Nat → Int32) → Prop} {c : St1} {L : List sx_N} {C w : Nat} {s0 : sx_S} {m : mm_M} {q : List Nat} {o1 o2 : Option Nat} {x2 x3 x4 : Int32} (hP : zw_P c L C) (hw : w < C) (hq : zw_Q c L s0 q m) (hq8 : q.length < 7)
    (hrin : zw_rin (gi_T c) (sx_ri s0))
    (hr : zw_cr c L s0 (w + 1) (mm_rg m)) (ha : zw_ca c L s0 w (mm_ac m)) (hm : zw_cm c L s0 w (mm_me m)) (hi : zw_ci c L s0 w (mm_ri m))
    (s1 : zw_slot c L w 0 o1) (s2 : zw_slot c L w 1 o2) (e2 : x2 = zw_oi o1) (e3 : x3 = zw_oi o2) (h4 : ∀ i, o1 = some i → x4 = zw_v c L s0 i)
    (hJ : ∀ m', zw_after c L s0 w (q ++ zw_l L o1 ++ zw_l L o2) m' → J (nI (w + 1)) (uq_nc c) (uq_fc c) (uq_lv c) (uq_cp c) (uq_nd c) (uq_pn c) (uq_le c) (uq_wc c) (mm_ac m') (mm_dc m') (uq_sc c) (uq_a1 c) (uq_a2 c) (uq_a3 c) (uq_a4 c) (uq_a5 c) (uq_a6 c) (uq_a7 c) (uq_a8 c) (uq_a9 c) (uq_a10 c) (uq_a11 c) (uq_a12 c) (uq_a13 c) (uq_a14 c) (uq_a15 c) (uq_a16 c) (uq_a17 c) (uq_a18 c) (uq_a19 c) (uq_a20 c) (mm_me m') (mm_ri m') (mm_rg m') (mm_qr m') (mm_qv m') (mm_qw m')) :
    wX_step_58 post J (nI w) x2 x3 x4 (uq_nc c) (uq_fc c) (uq_lv c) (uq_cp c) (uq_nd c) (uq_pn c) (uq_le c) (uq_wc c) (mm_ac m) (mm_dc m) (uq_sc c) (uq_a1 c) (uq_a2 c) (uq_a3 c) (uq_a4 c) (uq_a5 c) (uq_a6 c) (uq_a7 c) (uq_a8 c) (uq_a9 c) (uq_a10 c) (uq_a11 c) (uq_a12 c) (uq_a13 c) (uq_a14 c) (uq_a15 c) (uq_a16 c) (uq_a17 c) (uq_a18 c) (uq_a19 c) (uq_a20 c) (mm_me m) (mm_ri m) (mm_rg m) (mm_qr m) (mm_qv m) (mm_qw m) := by
  subst e3
  have hL := hP.1.2.1
  unfold wX_step_58
  have noM : ∀ a j, j < L.length → zw_tm (sx_at L j) a → zw_W c j = w → o2 = some j := by
    intro a j hj hd hwj
    refine s2.2 j hj hwj (zw_h1' ?_)
    unfold zw_tm at hd
    omega
  have noR : ∀ f j, j < L.length → zw_tr (sx_at L j) f → zw_W c j = w → o2 = some j := by
    intro f j hj hd hwj
    refine s2.2 j hj hwj (zw_h1' ?_)
    unfold zw_tr at hd
    omega
  refine ek_if (zw_oi_lt o2 (fun i e => by have := (s2.1 i e).1; omega)) (fun z => ?_) (fun z => ?_)
  · subst z
    refine zw_st72 hP hw hq hq8 hr ha (fun a h96 => zw_cutA (hm a h96) (fun j hj hd e => ?_)) (fun f h4 => zw_cutA (hi f h4) (fun j hj hd e => ?_)) s1 s2 e2 rfl h4 (fun j e => absurd e (by simp)) hJ
    · exact absurd (noM a j hj hd e) (by simp)
    · exact absurd (noR f j hj hd e) (by simp)
  · cases o2 with
    | none => exact absurd rfl z
    | some i =>
      obtain ⟨t1, t2, t3⟩ := s2.1 i rfl
      have wfi := zw_wf hP t1
      have o16 := zw_h1 t3
      have nm := zw_num wfi o16
      have rin := zw_rin_S (L := L) hP.2.1 hrin i (by omega)
      have hT : 18 ≤ sx_o (sx_at L i) → uq_a7 c (sx_m (sx_at L i) / 8) = nI (gi_T c (sx_m (sx_at L i) / 8)) := fun o18 => nu_clamp_pos rfl (by have := (nm.2 o18).2; omega)
      have hR : 18 ≤ sx_o (sx_at L i) → mm_ri m (sx_m (sx_at L i) / 8) = nI (sx_ri (zw_S (gi_T c) L s0 i) (sx_m (sx_at L i) / 8)) ∧ sx_ri (zw_S (gi_T c) L s0 i) (sx_m (sx_at L i) / 8) < gi_T c (sx_m (sx_at L i) / 8) := by
        intro o18
        obtain ⟨_, n2, n3, n4⟩ := nm.2 o18
        exact ⟨zw_read_ri hP hi t1 t2 n2 ⟨o18, rfl⟩, (rin _ n2).2 (by omega)⟩
      refine zw_touch (m := m) (hP.1.2.2 i t1) wfi o16 hT hR ?_ rfl
      have rdme : ∀ a, a < 96 → zw_tm (sx_at L i) a → mm_me m a = sx_me (zw_S (gi_T c) L s0 i) a := fun a h96 ht => zw_read_me hP hm t1 t2 h96 ht
      have rga : sx_a (sx_at L i) < 8 → mm_rg m (sx_a (sx_at L i)) = sx_rg (zw_S (gi_T c) L s0 i) (sx_a (sx_at L i)) := fun h8 => zw_read_rg hP hr t1 t2 h8 ⟨by omega, Or.inl rfl⟩
      have a8 : sx_o (sx_at L i) = 17 ∨ sx_o (sx_at L i) = 19 → sx_a (sx_at L i) < 8 := by
        intro ho
        have ws := sx_wf_ws wfi
        unfold sx_ws at ws
        omega
      refine zw_st72 hP hw hq hq8 hr ha ?_ ?_ s1 s2 e2 rfl h4 (fun j e hd => ?_) hJ
      · intro a h96
        by_cases ht : zw_tm (sx_at L i) a
        · have ev : zw_tme (gi_T c) (sx_at L i) (mm_me m) (sx_ri (zw_S (gi_T c) L s0 i)) (mm_rg m) a = sx_me (zw_S (gi_T c) L s0 (i + 1)) a := by
            rw [zw_Ss _ _ t1]
            show (if sx_o (sx_at L i) = 17 then upd (mm_me m) (sx_m (sx_at L i)) (mm_rg m (sx_a (sx_at L i))) else if sx_o (sx_at L i) = 19 then upd (mm_me m) (sx_pl (gi_T c) (sx_ri (zw_S (gi_T c) L s0 i)) (sx_m (sx_at L i))) (mm_rg m (sx_a (sx_at L i))) else mm_me m) a = (if sx_o (sx_at L i) = 17 then upd (sx_me (zw_S (gi_T c) L s0 i)) (sx_m (sx_at L i)) (sx_rg (zw_S (gi_T c) L s0 i) (sx_a (sx_at L i))) else if sx_o (sx_at L i) = 19 then upd (sx_me (zw_S (gi_T c) L s0 i)) (sx_pl (gi_T c) (sx_ri (zw_S (gi_T c) L s0 i)) (sx_m (sx_at L i))) (sx_rg (zw_S (gi_T c) L s0 i) (sx_a (sx_at L i))) else sx_me (zw_S (gi_T c) L s0 i)) a
            by_cases o17 : sx_o (sx_at L i) = 17
            · rw [if_pos o17, if_pos o17, nu_upd, nu_upd, rga (a8 (Or.inl o17)), rdme a h96 ht]
            · rw [if_neg o17, if_neg o17]
              by_cases o19 : sx_o (sx_at L i) = 19
              · rw [if_pos o19, if_pos o19, nu_upd, nu_upd, rga (a8 (Or.inr o19)), rdme a h96 ht]
              · rw [if_neg o19, if_neg o19, rdme a h96 ht]
          show zw_cut _ _ _ _ _ (zw_tme (gi_T c) (sx_at L i) (mm_me m) (sx_ri (zw_S (gi_T c) L s0 i)) (mm_rg m) a)
          rw [ev]
          exact zw_cutB (val := fun k => sx_me (zw_S (gi_T c) L s0 k) a) i t1 ht t2 (zw_mo_me hP) (zw_fr_me hP)
        · show zw_cut _ _ _ _ _ (zw_tme (gi_T c) (sx_at L i) (mm_me m) (sx_ri (zw_S (gi_T c) L s0 i)) (mm_rg m) a)
          rw [zw_tme_ne wfi ht]
          refine zw_cutA (hm a h96) (fun j hj hd e => ?_)
          have := Option.some.inj (noM a j hj hd e)
          subst this
          exact ht hd
      · intro f f4
        by_cases ht : zw_tr (sx_at L i) f
        · have ev : zw_tri (gi_T c) (sx_at L i) (mm_ri m) (sx_ri (zw_S (gi_T c) L s0 i)) f = nI (sx_ri (zw_S (gi_T c) L s0 (i + 1)) f) := by
            rw [zw_Ss _ _ t1]
            show (if sx_o (sx_at L i) = 20 then upd (mm_ri m) (sx_m (sx_at L i) / 8) (nI ((sx_ri (zw_S (gi_T c) L s0 i) (sx_m (sx_at L i) / 8) + 1) % gi_T c (sx_m (sx_at L i) / 8))) else mm_ri m) f = nI ((if sx_o (sx_at L i) = 20 then sx_un (sx_ri (zw_S (gi_T c) L s0 i)) (sx_m (sx_at L i) / 8) ((sx_ri (zw_S (gi_T c) L s0 i) (sx_m (sx_at L i) / 8) + 1) % gi_T c (sx_m (sx_at L i) / 8)) else sx_ri (zw_S (gi_T c) L s0 i)) f)
            have ef : sx_m (sx_at L i) / 8 = f := ht.2
            by_cases o20 : sx_o (sx_at L i) = 20
            · rw [if_pos o20, if_pos o20, nu_us ef.symm, ← ef, sx_uns]
            · rw [if_neg o20, if_neg o20]
              exact zw_read_ri hP hi t1 t2 f4 ht
          show zw_cut _ _ _ _ _ (zw_tri (gi_T c) (sx_at L i) (mm_ri m) (sx_ri (zw_S (gi_T c) L s0 i)) f)
          rw [ev]
          exact zw_cutB (val := fun k => nI (sx_ri (zw_S (gi_T c) L s0 k) f)) i t1 ht t2 (zw_mo_ri hP) zw_fr_ri
        · show zw_cut _ _ _ _ _ (zw_tri (gi_T c) (sx_at L i) (mm_ri m) (sx_ri (zw_S (gi_T c) L s0 i)) f)
          rw [zw_tri_ne ht]
          refine zw_cutA (hi f f4) (fun j hj hd e => ?_)
          have := Option.some.inj (noR f j hj hd e)
          subst this
          exact ht hd
      · have := Option.some.inj e
        subst this
        unfold zw_dd at hd
        have o5 : sx_o (sx_at L i) = 16 ∨ sx_o (sx_at L i) = 18 := by
          have ws := sx_wf_ws wfi
          unfold sx_ws at ws
          omega
        unfold zw_tv zw_v sx_va
        rcases o5 with o | o
        · obtain ⟨_, n2, n3⟩ := nm.1 (by omega)
          rw [if_pos o, if_pos o]
          exact rdme _ (by omega) (Or.inl ⟨by omega, by omega, rfl⟩)
        · have pl := zw_pl_in wfi (by omega) (sx_ri (zw_S (gi_T c) L s0 i))
          obtain ⟨_, n2, n3, n4⟩ := nm.2 (by omega)
          rw [if_neg (by omega), if_pos o, if_neg (by omega), if_pos o]
          exact rdme _ (by omega) (Or.inr ⟨by omega, by omega, by omega⟩)
def zw_qf (c : St1) (L : List sx_N) (w : Nat) (q : List Nat) : Prop :=
  (∀ j, j ∈ q → j < L.length ∧ zw_dd L j < 8 ∧ zw_W c j < w ∧ w ≤ zw_du c L j) ∧ (∀ j, j < L.length → zw_dd L j < 8 → zw_W c j < w → w ≤ zw_du c L j → j ∈ q) ∧
  ∃ q2 q1, q = q2 ++ q1 ∧ q2.length ≤ 2 ∧ q1.length ≤ 2 ∧ ∀ j, j ∈ q2 → zw_du c L j ≤ w
theorem zw_l_mem {L : List sx_N} {o : Option Nat} {j : Nat} (h : j ∈ zw_l L o) : o = some j ∧ zw_dd L j < 8 := by
  cases o with
  | none => exact absurd h (by simp [zw_l])
  | some i =>
    unfold zw_l at h
    dsimp only at h
    split at h
    · rw [List.mem_singleton.mp h]
      exact ⟨rfl, by assumption⟩
    · exact absurd h (by simp)
theorem zw_l_in {L : List sx_N} {o : Option Nat} {j : Nat} (h : o = some j) (hd : zw_dd L j < 8) : j ∈ zw_l L o := by
  subst h
  show j ∈ (if zw_dd L j < 8 then [j] else [])
  rw [if_pos hd]
  exact List.mem_singleton.mpr rfl
theorem zw_l_len (L : List sx_N) (o : Option Nat) : (zw_l L o).length ≤ 1 := by
  cases o with
  | none => exact Nat.zero_le _
  | some i =>
    show (if zw_dd L i < 8 then [i] else []).length ≤ 1
    split
    · exact Nat.le_refl _
    · exact Nat.zero_le _
theorem zw_word {post : St1 → Prop} {c : St1} {L : List sx_N} {C w fu : Nat} {s0 : sx_S} {m : mm_M} {q : List Nat} (hP : zw_P c L C) (hw : w < C) (hrin : zw_rin (gi_T c) (sx_ri s0))
    (hr : zw_cr c L s0 w (mm_rg m)) (ha : zw_ca c L s0 w (mm_ac m)) (hm : zw_cm c L s0 w (mm_me m)) (hi : zw_ci c L s0 w (mm_ri m)) (hq : zw_Q c L s0 q m) (hf : zw_qf c L w q)
    (hJ : ∀ m' q', zw_after c L s0 w q' m' → zw_qf c L (w + 1) q' → wX_step_7 post fu (nI (w + 1)) (uq_nc c) (uq_fc c) (uq_lv c) (uq_cp c) (uq_nd c) (uq_pn c) (uq_le c) (uq_wc c) (mm_ac m') (mm_dc m') (uq_sc c) (uq_a1 c) (uq_a2 c) (uq_a3 c) (uq_a4 c) (uq_a5 c) (uq_a6 c) (uq_a7 c) (uq_a8 c) (uq_a9 c) (uq_a10 c) (uq_a11 c) (uq_a12 c) (uq_a13 c) (uq_a14 c) (uq_a15 c) (uq_a16 c) (uq_a17 c) (uq_a18 c) (uq_a19 c) (uq_a20 c) (mm_me m') (mm_ri m') (mm_rg m') (mm_qr m') (mm_qv m') (mm_qw m')) :
    wX_step_7 post (fu + 1) (nI w) (uq_nc c) (uq_fc c) (uq_lv c) (uq_cp c) (uq_nd c) (uq_pn c) (uq_le c) (uq_wc c) (mm_ac m) (mm_dc m) (uq_sc c) (uq_a1 c) (uq_a2 c) (uq_a3 c) (uq_a4 c) (uq_a5 c) (uq_a6 c) (uq_a7 c) (uq_a8 c) (uq_a9 c) (uq_a10 c) (uq_a11 c) (uq_a12 c) (uq_a13 c) (uq_a14 c) (uq_a15 c) (uq_a16 c) (uq_a17 c) (uq_a18 c) (uq_a19 c) (uq_a20 c) (mm_me m) (mm_ri m) (mm_rg m) (mm_qr m) (mm_qv m) (mm_qw m) := by
  obtain ⟨f1, f2, q2, q1, f3, f4, f5, f6⟩ := hf
  have hL := hP.1.2.1
  have hC := hP.2.2.2.2.1
  have ql : q.length ≤ 4 := by rw [f3, List.length_append]; omega
  refine pk_le C w (fun z => absurd z (by omega)) (fun _ => ?_) hP.2.2.1
  refine zw_deliver (m := m) (dd := zw_dd L) (vv := zw_v c L s0) (du := zw_du c L) hq.1 (by omega) hq.2 (fun j hj => ?_) (fun j j' hj hj' d1 d2 he => ?_) (by omega) ?_ rfl
  · obtain ⟨a1, a2, a3, a4⟩ := f1 j hj
    have := sx_dl_in (sx_o (sx_at L j))
    refine ⟨a2, ?_⟩
    unfold zw_du
    omega
  · obtain ⟨a1, a2, a3, a4⟩ := f1 j hj
    obtain ⟨b1, b2, b3, b4⟩ := f1 j' hj'
    rcases Nat.lt_trichotomy j j' with g | g | g
    · have := zw_mo_rg hP (r := zw_dd L j) (by omega) j j' g b1 rfl he.symm
      omega
    · exact g
    · have := zw_mo_rg hP (r := zw_dd L j) (by omega) j' j g a1 he.symm rfl
      omega
  intro rg qr qv qw hq' hdr
  have hcr : zw_cr c L s0 (w + 1) rg := by
    intro r h8
    obtain ⟨g1, g2⟩ := hdr r h8
    by_cases hex : ∃ j, j ∈ q ∧ zw_du c L j ≤ w ∧ zw_dd L j = r
    · obtain ⟨j, j1, j2, j3⟩ := hex
      obtain ⟨a1, a2, a3, a4⟩ := f1 j j1
      have ev : rg r = sx_rg (zw_S (gi_T c) L s0 (j + 1)) r := by
        rw [g1 j j1 j2 j3, zw_Ss _ _ a1, ← j3]
        exact (zw_rg_y _ a2 _).symm
      rw [ev]
      exact zw_cutB (val := fun k => sx_rg (zw_S (gi_T c) L s0 k) r) j a1 j3 (by omega) (zw_mo_rg hP (by omega)) zw_fr_rg
    · rw [g2 (fun j j1 j2 j3 => hex ⟨j, j1, j2, j3⟩)]
      refine zw_cutA (hr r h8) (fun j hj hd e => hex ⟨j, f2 j hj (by rw [hd]; exact h8) ?_ (by omega), by omega, hd⟩)
      have := sx_dl_in (sx_o (sx_at L j))
      unfold zw_du at e
      omega
  have fl : (q.filter (fun j => decide (w < zw_du c L j))).length ≤ 2 := by
    rw [f3, List.filter_append, List.length_append]
    have e : q2.filter (fun j => decide (w < zw_du c L j)) = [] := by
      rw [List.filter_eq_nil_iff]
      intro j hj
      have := f6 j hj
      simp only [decide_eq_true_eq]
      omega
    rw [e, List.length_nil]
    have := List.length_filter_le (fun j => decide (w < zw_du c L j)) q1
    omega
  have fm : ∀ j, j ∈ q.filter (fun j => decide (w < zw_du c L j)) ↔ (j ∈ q ∧ w < zw_du c L j) := by
    intro j
    rw [List.mem_filter, decide_eq_true_eq]
  obtain ⟨o1, e1, s1⟩ := zw_slot_get (h := 0) hP hw (by omega)
  obtain ⟨o2, e2, s2⟩ := zw_slot_get (h := 1) hP hw (by omega)
  have hf' : zw_qf c L (w + 1) (q.filter (fun j => decide (w < zw_du c L j)) ++ zw_l L o1 ++ zw_l L o2) := by
    refine ⟨fun j hj => ?_, fun j j1 j2 j3 j4 => ?_, q.filter (fun j => decide (w < zw_du c L j)), zw_l L o1 ++ zw_l L o2, by rw [List.append_assoc], fl, ?_, fun j hj => ?_⟩
    · have hs : ∀ (o : Option Nat) (h : Nat), zw_slot c L w h o → j ∈ zw_l L o → j < L.length ∧ zw_dd L j < 8 ∧ zw_W c j < w + 1 ∧ w + 1 ≤ zw_du c L j := by
        intro o h hs hj
        obtain ⟨eo, hd⟩ := zw_l_mem hj
        obtain ⟨t1, t2, _⟩ := hs.1 j eo
        have := sx_dl_in (sx_o (sx_at L j))
        refine ⟨t1, hd, by omega, ?_⟩
        unfold zw_du
        omega
      rcases List.mem_append.mp hj with hj | hj
      · rcases List.mem_append.mp hj with hj | hj
        · obtain ⟨a1, a2⟩ := (fm j).mp hj
          obtain ⟨b1, b2, b3, b4⟩ := f1 j a1
          exact ⟨b1, b2, by omega, by omega⟩
        · exact hs o1 0 s1 hj
      · exact hs o2 1 s2 hj
    · by_cases ew : zw_W c j = w
      · rcases Nat.lt_or_ge (sx_o (sx_at L j)) 16 with g | g
        · exact List.mem_append_left _ (List.mem_append_right _ (zw_l_in (s1.2 j j1 ew (zw_h0' g)) j2))
        · exact List.mem_append_right _ (zw_l_in (s2.2 j j1 ew (zw_h1' g)) j2)
      · exact List.mem_append_left _ (List.mem_append_left _ ((fm j).mpr ⟨f2 j j1 j2 (by omega) (by omega), by omega⟩))
    · have := zw_l_len L o1
      have := zw_l_len L o2
      rw [List.length_append]
      omega
    · obtain ⟨a1, a2⟩ := (fm j).mp hj
      obtain ⟨b1, b2, b3, b4⟩ := f1 j a1
      have := sx_dl_in (sx_o (sx_at L j))
      unfold zw_du at a2 ⊢
      omega
  have Q1 : zw_Q c L s0 (q.filter (fun j => decide (w < zw_du c L j))) (mm_ac m, nI (q.filter (fun j => decide (w < zw_du c L j))).length, mm_me m, mm_ri m, rg, qr, qv, qw) := ⟨rfl, hq'⟩
  have i0 : 2 * nI w = nI (2 * w + 0) := by rw [Nat.add_zero, ← pk_mul]; rfl
  have i1 : 2 * nI w + 1 = nI (2 * w + 1) := by rw [← nI_1, ← pk_mul]; rfl
  dsimp only [mm_mk]
  rw [i1, i0, nu_cl (2 * w + 0), nu_cl (2 * w + 1), e1, e2]
  refine ⟨nu_in (by omega), nm_e ⟨nu_in (by omega), nm_e ?_⟩⟩
  have go : ∀ x4, (∀ i, o1 = some i → x4 = zw_v c L s0 i) → wX_step_58 post (wX_step_7 post fu) (nI w) (zw_oi o1) (zw_oi o2) x4 (uq_nc c) (uq_fc c) (uq_lv c) (uq_cp c) (uq_nd c) (uq_pn c) (uq_le c) (uq_wc c) (mm_ac (mm_ac m, nI (q.filter (fun j => decide (w < zw_du c L j))).length, mm_me m, mm_ri m, rg, qr, qv, qw)) (mm_dc (mm_ac m, nI (q.filter (fun j => decide (w < zw_du c L j))).length, mm_me m, mm_ri m, rg, qr, qv, qw)) (uq_sc c) (uq_a1 c) (uq_a2 c) (uq_a3 c) (uq_a4 c) (uq_a5 c) (uq_a6 c) (uq_a7 c) (uq_a8 c) (uq_a9 c) (uq_a10 c) (uq_a11 c) (uq_a12 c) (uq_a13 c) (uq_a14 c) (uq_a15 c) (uq_a16 c) (uq_a17 c) (uq_a18 c) (uq_a19 c) (uq_a20 c) (mm_me (mm_ac m, nI (q.filter (fun j => decide (w < zw_du c L j))).length, mm_me m, mm_ri m, rg, qr, qv, qw)) (mm_ri (mm_ac m, nI (q.filter (fun j => decide (w < zw_du c L j))).length, mm_me m, mm_ri m, rg, qr, qv, qw)) (mm_rg (mm_ac m, nI (q.filter (fun j => decide (w < zw_du c L j))).length, mm_me m, mm_ri m, rg, qr, qv, qw)) (mm_qr (mm_ac m, nI (q.filter (fun j => decide (w < zw_du c L j))).length, mm_me m, mm_ri m, rg, qr, qv, qw)) (mm_qv (mm_ac m, nI (q.filter (fun j => decide (w < zw_du c L j))).length, mm_me m, mm_ri m, rg, qr, qv, qw)) (mm_qw (mm_ac m, nI (q.filter (fun j => decide (w < zw_du c L j))).length, mm_me m, mm_ri m, rg, qr, qv, qw)) := by
    intro x4 h4
    exact zw_st58 (J := wX_step_7 post fu) (m := (mm_ac m, nI (q.filter (fun j => decide (w < zw_du c L j))).length, mm_me m, mm_ri m, rg, qr, qv, qw)) hP hw Q1 (by omega) hrin hcr ha hm hi s1 s2 rfl rfl h4 (fun m' h => hJ m' _ h hf')
  refine ek_if (zw_oi_lt o1 (fun i e => by have := (s1.1 i e).1; omega)) (fun z => ?_) (fun z => ?_)
  · exact go 0 (fun i e => absurd (z.symm.trans e) (by simp))
  · cases o1 with
    | none => exact absurd rfl z
    | some i =>
      obtain ⟨t1, t2, t3⟩ := s1.1 i rfl
      refine zw_calc (m := (mm_ac m, nI (q.filter (fun j => decide (w < zw_du c L j))).length, mm_me m, mm_ri m, rg, qr, qv, qw)) (hP.1.2.2 i t1) (zw_wf hP t1) (zw_h0 t3) ?_ rfl
      refine go _ (fun j e => ?_)
      have := Option.some.inj e
      subst this
      have o16 := zw_h0 t3
      unfold zw_v sx_va
      rw [if_neg (by omega), if_neg (by omega)]
      exact zw_calc_eq (zw_wf hP t1) o16 (fun r h8 hrd => zw_read_rg hP hcr t1 t2 h8 hrd) (fun hrd => zw_read_ac hP ha t1 t2 hrd)
theorem zw_step {post : St1 → Prop} {c : St1} {L : List sx_N} {C : Nat} {ri : Nat → Nat} (hP : zw_P c L C) (hri : ∀ f, f < 4 → uq_a22 c f = nI (ri f)) (hrin : zw_rin (gi_T c) ri)
    (hp : ∀ m, (∀ a, a < 96 → mm_me m a = sx_me (sx_run (gi_T c) L (uq_a23 c, uq_ac c, uq_a21 c, ri)) a) → (∀ f, f < 4 → mm_ri m f = nI (sx_ri (sx_run (gi_T c) L (uq_a23 c, uq_ac c, uq_a21 c, ri)) f)) → post (mm_mk c m)) : wpX_step post c := by
  have e0 := zw_S0 (gi_T c) L (uq_a23 c, uq_ac c, uq_a21 c, ri)
  have main : ∃ fu, wX_step_7 post fu 0 (uq_nc c) (uq_fc c) (uq_lv c) (uq_cp c) (uq_nd c) (uq_pn c) (uq_le c) (uq_wc c) (mm_ac (uq_ac c, (0 : Int32), uq_a21 c, uq_a22 c, uq_a23 c, uq_a24 c, uq_a25 c, uq_a26 c)) (mm_dc (uq_ac c, (0 : Int32), uq_a21 c, uq_a22 c, uq_a23 c, uq_a24 c, uq_a25 c, uq_a26 c)) (uq_sc c) (uq_a1 c) (uq_a2 c) (uq_a3 c) (uq_a4 c) (uq_a5 c) (uq_a6 c) (uq_a7 c) (uq_a8 c) (uq_a9 c) (uq_a10 c) (uq_a11 c) (uq_a12 c) (uq_a13 c) (uq_a14 c) (uq_a15 c) (uq_a16 c) (uq_a17 c) (uq_a18 c) (uq_a19 c) (uq_a20 c) (mm_me (uq_ac c, (0 : Int32), uq_a21 c, uq_a22 c, uq_a23 c, uq_a24 c, uq_a25 c, uq_a26 c)) (mm_ri (uq_ac c, (0 : Int32), uq_a21 c, uq_a22 c, uq_a23 c, uq_a24 c, uq_a25 c, uq_a26 c)) (mm_rg (uq_ac c, (0 : Int32), uq_a21 c, uq_a22 c, uq_a23 c, uq_a24 c, uq_a25 c, uq_a26 c)) (mm_qr (uq_ac c, (0 : Int32), uq_a21 c, uq_a22 c, uq_a23 c, uq_a24 c, uq_a25 c, uq_a26 c)) (mm_qv (uq_ac c, (0 : Int32), uq_a21 c, uq_a22 c, uq_a23 c, uq_a24 c, uq_a25 c, uq_a26 c)) (mm_qw (uq_ac c, (0 : Int32), uq_a21 c, uq_a22 c, uq_a23 c, uq_a24 c, uq_a25 c, uq_a26 c)) := by
    refine loop_m (fun fu (s : Nat × mm_M) => wX_step_7 post fu (nI s.1) (uq_nc c) (uq_fc c) (uq_lv c) (uq_cp c) (uq_nd c) (uq_pn c) (uq_le c) (uq_wc c) (mm_ac s.2) (mm_dc s.2) (uq_sc c) (uq_a1 c) (uq_a2 c) (uq_a3 c) (uq_a4 c) (uq_a5 c) (uq_a6 c) (uq_a7 c) (uq_a8 c) (uq_a9 c) (uq_a10 c) (uq_a11 c) (uq_a12 c) (uq_a13 c) (uq_a14 c) (uq_a15 c) (uq_a16 c) (uq_a17 c) (uq_a18 c) (uq_a19 c) (uq_a20 c) (mm_me s.2) (mm_ri s.2) (mm_rg s.2) (mm_qr s.2) (mm_qv s.2) (mm_qw s.2))
      (fun s => s.1 ≤ C ∧ zw_cr c L (uq_a23 c, uq_ac c, uq_a21 c, ri) s.1 (mm_rg s.2) ∧ zw_ca c L (uq_a23 c, uq_ac c, uq_a21 c, ri) s.1 (mm_ac s.2) ∧ zw_cm c L (uq_a23 c, uq_ac c, uq_a21 c, ri) s.1 (mm_me s.2) ∧ zw_ci c L (uq_a23 c, uq_ac c, uq_a21 c, ri) s.1 (mm_ri s.2) ∧ ∃ q, zw_Q c L (uq_a23 c, uq_ac c, uq_a21 c, ri) q s.2 ∧ zw_qf c L s.1 q)
      (fun s => C - s.1) ?_ (0, (uq_ac c, (0 : Int32), uq_a21 c, uq_a22 c, uq_a23 c, uq_a24 c, uq_a25 c, uq_a26 c)) ⟨Nat.zero_le _, ?_, ?_, ?_, ?_, [], ⟨rfl, fun k j _ h => absurd h (by simp)⟩, fun j hj => absurd hj (by simp), fun j _ _ h => absurd h (by dsimp only; omega), [], [], rfl, Nat.zero_le _, Nat.zero_le _, fun j hj => absurd hj (by simp)⟩
    · rintro fu ⟨w, m⟩ ⟨h1, h2, h3, h4, h5, q, h6, h7⟩ ih
      dsimp only at h1 h2 h3 h4 h5 h6 h7 ih ⊢
      rcases Nat.lt_or_ge w C with g | g
      · refine zw_word (s0 := (uq_a23 c, uq_ac c, uq_a21 c, ri)) hP g hrin h2 h3 h4 h5 h6 h7 (fun m' q' a b => ih (w + 1, m') ⟨g, a.1, a.2.1, a.2.2.1, a.2.2.2.1, q', a.2.2.2.2, b⟩ (by dsimp only; omega))
      · have ew : w = C := by omega
        subst ew
        have allW : ∀ j, j < L.length → zw_W c j < w := fun j hj => (hP.2.2.2.2.2.1 j hj).2.1
        refine pk_le w w (fun _ => hp m (fun a h96 => ?_) (fun f h4' => ?_)) (fun z => absurd z (by omega)) hP.2.2.1 rfl (by have := hP.2.2.2.2.1; have := hP.1.2.1; omega) (by have := hP.2.2.2.2.1; have := hP.1.2.1; omega)
        · rw [← zw_Sn]
          exact h4 a h96 L.length (Nat.le_refl _) (fun j hj _ => allW j hj) (fun j a b => absurd b (by omega))
        · rw [← zw_Sn]
          exact h5 f h4' L.length (Nat.le_refl _) (fun j hj _ => allW j hj) (fun j a b => absurd b (by omega))
    · intro r h8
      have := zw_cut0 (t := zw_du c L) (n := L.length) (P := fun j => zw_dd L j = r) (val := fun k => sx_rg (zw_S (gi_T c) L (uq_a23 c, uq_ac c, uq_a21 c, ri) k) r) zw_fr_rg
      rw [e0] at this
      exact this
    · have := zw_cut0 (t := zw_W c) (n := L.length) (P := fun j => zw_dd L j = 8) (val := fun k => sx_ac (zw_S (gi_T c) L (uq_a23 c, uq_ac c, uq_a21 c, ri) k)) (zw_fr_ac hP)
      rw [e0] at this
      exact this
    · intro a h96
      have := zw_cut0 (t := zw_W c) (n := L.length) (P := fun j => zw_tm (sx_at L j) a) (val := fun k => sx_me (zw_S (gi_T c) L (uq_a23 c, uq_ac c, uq_a21 c, ri) k) a) (zw_fr_me hP)
      rw [e0] at this
      exact this
    · intro f h4
      have := zw_cut0 (t := zw_W c) (n := L.length) (P := fun j => zw_tr (sx_at L j) f) (val := fun k => nI (sx_ri (zw_S (gi_T c) L (uq_a23 c, uq_ac c, uq_a21 c, ri) k) f)) zw_fr_ri
      rw [e0] at this
      show zw_cut _ _ _ _ _ (uq_a22 c f)
      rw [hri f h4]
      exact this
  exact main
end
section
/-! findSame -/
def fs_s (sa : Nat → Int32) (n : Nat) : Nat := (sa n).toNatClampNeg
def fs_al (c : St1) (sa : Nat → Int32) (m n : Nat) : Prop :=
  gi_k c m = gi_k c n ∧ gi_k c n ≠ 5 ∧ gi_k c n ≠ 6 ∧ (gi_k c n < 2 → uq_a4 c m = uq_a4 c n) ∧
  (2 ≤ gi_k c n → fs_s sa (gi_x c m) = fs_s sa (gi_x c n) ∧ (gi_k c n ≠ 8 → (gi_two (gi_k c n) → fs_s sa (gi_y c m) = fs_s sa (gi_y c n)) ∧ (¬ gi_two (gi_k c n) → uq_a5 c m = uq_a5 c n)))
def fs_I (c : St1) (i : Nat) (sa : Nat → Int32) : Prop :=
  ∀ n, n < i → sa n = nI (fs_s sa n) ∧ fs_s sa n ≤ n ∧ fs_s sa (fs_s sa n) = fs_s sa n ∧ (fs_s sa n = n ∨ fs_al c sa (fs_s sa n) n) ∧ (uq_lv c < 2 → fs_s sa n = n)
theorem fs_alike {post : Int32 → Prop} {c : St1} {sa : Nat → Int32} {m n : Nat} {p q : Int32} (G : gi_G c) (hn : n < gi_N c) (hmn : m < n) (hI : ∀ j, j < n → sa j = nI (fs_s sa j) ∧ fs_s sa j ≤ j) (k5 : gi_k c n ≠ 5) (k6 : gi_k c n ≠ 6)
    (f : fs_al c sa m n → post 1) (g : post 0) (hp : p = nI m) (hq : q = nI n) : wpX_areAlike post (uq_nc c, uq_fc c, uq_lv c, uq_cp c, uq_nd c, uq_pn c, uq_le c, uq_wc c, uq_ac c, uq_dc c, uq_sc c, uq_a1 c, uq_a2 c, uq_a3 c, uq_a4 c, uq_a5 c, uq_a6 c, uq_a7 c, uq_a8 c, uq_a9 c, sa, uq_a11 c, uq_a12 c, uq_a13 c, uq_a14 c, uq_a15 c, uq_a16 c, uq_a17 c, uq_a18 c, uq_a19 c, uq_a20 c, uq_a21 c, uq_a22 c, uq_a23 c, uq_a24 c, uq_a25 c, uq_a26 c) p q := by
  subst hp hq
  have hN := gi_n24 G
  have kn := gi_k3 G hn
  have km := gi_k3 G (show m < gi_N c by omega)
  have kn10 := gi_k10 G hn
  have km10 := gi_k10 G (show m < gi_N c by omega)
  have In := pk_in (x := nI n) n 24 (by omega)
  have Im := pk_in (x := nI m) m 24 (by omega)
  unfold wpX_areAlike
  dsimp only
  rw [nu_cl n, nu_cl m, km]
  refine ⟨In, nm_r kn ⟨Im, pk_eq (gi_k c m) (gi_k c n) (fun ke => ?_) (fun ke => g)⟩⟩
  refine pk_le 2 (gi_k c n) (fun k2 => ?_) (fun k2 => ⟨Im, In, ?_⟩)
  · have xm := gi_x4 G (show m < gi_N c by omega) (by omega)
    have xn := gi_x4 G hn (by omega)
    have xml := gi_xln G (show m < gi_N c by omega) (by omega) (by omega)
    have xnl := gi_xln G hn k2 k5
    rw [xm, xn, nu_cl (gi_x c m), nu_cl (gi_x c n)]
    refine ⟨Im, nu_in (by omega), In, nu_in (by omega), ?_⟩
    obtain ⟨sm, sml⟩ := hI (gi_x c m) (by omega)
    obtain ⟨sn, snl⟩ := hI (gi_x c n) (by omega)
    refine pk_eq (fs_s sa (gi_x c m)) (fs_s sa (gi_x c n)) (fun se => ?_) (fun se => g) sm sn
    refine pk_eq (gi_k c n) 8 (fun k8 => f ⟨ke, k5, k6, fun z => absurd z (by omega), fun _ => ⟨se, fun z => absurd k8 z⟩⟩) (fun k8 => ?_)
    refine lf_two (gi_k c n) (by omega) (fun t => br_f (by decide) ?_) (fun t => br_t rfl ⟨Im, In, ?_⟩)
    · obtain ⟨ym, yml⟩ := gi_y5 G (show m < gi_N c by omega) (by rw [ke]; exact t)
      obtain ⟨yn, ynl⟩ := gi_y5 G hn t
      rw [ym, yn, nu_cl (gi_y c m), nu_cl (gi_y c n)]
      refine ⟨Im, nu_in (by omega), In, nu_in (by omega), ?_⟩
      obtain ⟨tm, tml⟩ := hI (gi_y c m) (by omega)
      obtain ⟨tn, tnl⟩ := hI (gi_y c n) (by omega)
      exact pk_eq (fs_s sa (gi_y c m)) (fs_s sa (gi_y c n)) (fun te => f ⟨ke, k5, k6, fun z => absurd z (by omega), fun _ => ⟨se, fun _ => ⟨fun _ => te, fun z => absurd t z⟩⟩⟩) (fun te => g) tm tn
    · exact br_c (fun te => f ⟨ke, k5, k6, fun z => absurd z (by omega), fun _ => ⟨se, fun _ => ⟨fun z => absurd z t, fun _ => te⟩⟩⟩) (fun te => g)
  · exact br_c (fun te => f ⟨ke, k5, k6, fun _ => te, fun z => absurd z (by omega)⟩) (fun te => g)
theorem fs_upd {sa : Nat → Int32} {i m j : Nat} (h : j ≠ i) : fs_s (upd sa i (nI m)) j = fs_s sa j := by unfold fs_s; rw [pk_un h]
theorem fs_al_upd {c : St1} {sa : Nat → Int32} {i v m n : Nat} (G : gi_G c) (hn : n < gi_N c) (hni : n ≤ i) (hm : m < n) (h : fs_al c sa m n) : fs_al c (upd sa i (nI v)) m n := by
  obtain ⟨h1, h2, h3, h4, h5⟩ := h
  refine ⟨h1, h2, h3, h4, fun k2 => ?_⟩
  obtain ⟨g1, g2⟩ := h5 k2
  have xm := gi_xln G (show m < gi_N c by omega) (by omega) (by omega)
  have xn := gi_xln G hn k2 h2
  rw [fs_upd (by omega), fs_upd (by omega)]
  refine ⟨g1, fun k8 => ⟨fun t => ?_, (g2 k8).2⟩⟩
  have ym := (gi_y5 G (show m < gi_N c by omega) (by rw [h1]; exact t)).2
  have yn := (gi_y5 G hn t).2
  rw [fs_upd (by omega), fs_upd (by omega)]
  exact (g2 k8).1 t
theorem fs_put {c : St1} {sa : Nat → Int32} {i m : Nat} (G : gi_G c) (hi : i < gi_N c) (h : fs_I c i sa) (hm : m = i ∨ (m < i ∧ fs_s sa m = m ∧ fs_al c sa m i ∧ ¬ uq_lv c < 2)) : fs_I c (i + 1) (upd sa i (nI m)) := by
  have hN := gi_n24 G
  have si : fs_s (upd sa i (nI m)) i = m := by unfold fs_s; rw [pk_us, nu_cl m]
  intro n hn
  by_cases e : n = i
  · subst e
    rw [si, pk_us]
    refine ⟨rfl, by omega, ?_, ?_, ?_⟩
    · rcases hm with q | ⟨q1, q2, q3, q4⟩
      · rw [q] at si ⊢; exact si
      · rw [fs_upd (by omega)]; exact q2
    · rcases hm with q | ⟨q1, q2, q3, q4⟩
      · exact Or.inl q
      · exact Or.inr (fs_al_upd G hi (Nat.le_refl _) q1 q3)
    · rcases hm with q | ⟨q1, q2, q3, q4⟩
      · exact fun _ => q
      · exact fun z => absurd z q4
  · obtain ⟨h1, h2, h3, h4, h5⟩ := h n (by omega)
    rw [fs_upd e, pk_un e]
    refine ⟨h1, h2, by rw [fs_upd (by omega)]; exact h3, ?_, h5⟩
    rcases h4 with q | q
    · exact Or.inl q
    · by_cases e2 : fs_s sa n = n
      · exact Or.inl e2
      · exact Or.inr (fs_al_upd G (by omega) (by omega) (by omega) q)
theorem fs_52 {post : St1 → Prop} {J : Int32 → (Nat → Int32) → (Nat → Int32) → (Nat → Int32) → (Nat → Int32) → (Nat → Int32) → (Nat → Int32) → (Nat → Int32) → (Nat → Int32) → (Nat → Int32) → (Nat → Int32) → (Nat → Int32) → (Nat → Int32) → (Nat → Int32) → (Nat → Int32) → (Nat → Int32) → (Nat → Int32) → (Nat → Int32) → (Nat → Int32) → (Nat → Int32) → (Nat → Int32) → (Nat → Int32) → (Nat → Int32) → (Nat → Int32) → (Nat → Int32) → (Nat → Int32) → (Nat → Int32) → Prop} {c : St1} {sa : Nat → Int32} {n : Nat} (G : gi_G c) (hn : n < gi_N c) (h : fs_I c n sa) (hlv : ¬ uq_lv c < 2) (k5 : gi_k c n ≠ 5) (k6 : gi_k c n ≠ 6)
    (hJ : ∀ sa', fs_I c (n + 1) sa' → J (nI (n + 1)) (uq_a1 c) (uq_a2 c) (uq_a3 c) (uq_a4 c) (uq_a5 c) (uq_a6 c) (uq_a7 c) (uq_a8 c) (uq_a9 c) (sa') (uq_a11 c) (uq_a12 c) (uq_a13 c) (uq_a14 c) (uq_a15 c) (uq_a16 c) (uq_a17 c) (uq_a18 c) (uq_a19 c) (uq_a20 c) (uq_a21 c) (uq_a22 c) (uq_a23 c) (uq_a24 c) (uq_a25 c) (uq_a26 c)) :
    ∃ fu, wX_findSame_52 post J (nI n) (uq_nc c) (uq_fc c) (uq_lv c) (uq_cp c) (uq_nd c) (uq_pn c) (uq_le c) (uq_wc c) (uq_ac c) (uq_dc c) (uq_sc c) (uq_a1 c) (uq_a2 c) (uq_a3 c) (uq_a4 c) (uq_a5 c) (uq_a6 c) (uq_a7 c) (uq_a8 c) (uq_a9 c) (upd sa n (nI n)) (uq_a11 c) (uq_a12 c) (uq_a13 c) (uq_a14 c) (uq_a15 c) (uq_a16 c) (uq_a17 c) (uq_a18 c) (uq_a19 c) (uq_a20 c) (uq_a21 c) (uq_a22 c) (uq_a23 c) (uq_a24 c) (uq_a25 c) (uq_a26 c) fu 0 := by
  have hN := gi_n24 G
  have hI' := fs_put G hn h (Or.inl rfl)
  refine loop_m (fun fu m => wX_findSame_52 post J (nI n) (uq_nc c) (uq_fc c) (uq_lv c) (uq_cp c) (uq_nd c) (uq_pn c) (uq_le c) (uq_wc c) (uq_ac c) (uq_dc c) (uq_sc c) (uq_a1 c) (uq_a2 c) (uq_a3 c) (uq_a4 c) (uq_a5 c) (uq_a6 c) (uq_a7 c) (uq_a8 c) (uq_a9 c) (upd sa n (nI n)) (uq_a11 c) (uq_a12 c) (uq_a13 c) (uq_a14 c) (uq_a15 c) (uq_a16 c) (uq_a17 c) (uq_a18 c) (uq_a19 c) (uq_a20 c) (uq_a21 c) (uq_a22 c) (uq_a23 c) (uq_a24 c) (uq_a25 c) (uq_a26 c) fu (nI m)) (fun m => m ≤ n) (fun m => n - m) ?_ 0 (Nat.zero_le _)
  intro fu m hm ih
  refine pk_le n m (fun z => nm_r (nI_1 n) (hJ _ hI')) (fun z => ⟨pk_in m 24 (by omega), ?_⟩)
  rw [nu_cl m]
  have nx : ∀ x, x = nI m + 1 → wX_findSame_52 post J (nI n) (uq_nc c) (uq_fc c) (uq_lv c) (uq_cp c) (uq_nd c) (uq_pn c) (uq_le c) (uq_wc c) (uq_ac c) (uq_dc c) (uq_sc c) (uq_a1 c) (uq_a2 c) (uq_a3 c) (uq_a4 c) (uq_a5 c) (uq_a6 c) (uq_a7 c) (uq_a8 c) (uq_a9 c) (upd sa n (nI n)) (uq_a11 c) (uq_a12 c) (uq_a13 c) (uq_a14 c) (uq_a15 c) (uq_a16 c) (uq_a17 c) (uq_a18 c) (uq_a19 c) (uq_a20 c) (uq_a21 c) (uq_a22 c) (uq_a23 c) (uq_a24 c) (uq_a25 c) (uq_a26 c) fu x := nm_r (nI_1 m) (ih (m + 1) (by omega) (by omega))
  obtain ⟨i1, i2, i3, i4, i5⟩ := hI' m (by omega)
  refine pk_eq (fs_s (upd sa n (nI n)) m) m (fun e => ?_) (fun e => nx) i1
  refine fs_alike G hn z (fun j hj => ⟨(hI' j (by omega)).1, (hI' j (by omega)).2.1⟩) k5 k6 (fun al => br_f (by decide) ⟨pk_in n 24 (by omega), ?_⟩) (br_t rfl nx) rfl rfl
  rw [nu_cl n, nu_b8 m (by omega)]
  have eu : upd (upd sa n (nI n)) n (nI m) = upd sa n (nI m) := by
    funext j
    unfold upd
    split <;> rfl
  rw [eu]
  refine nm_e (nm_r (nI_1 n) (hJ _ (fs_put G hn h (Or.inr ⟨z, ?_, ?_, hlv⟩))))
  · rw [fs_upd (by omega)] at e
    exact e
  · obtain ⟨a1, a2, a3, a4, a5⟩ := al
    refine ⟨a1, a2, a3, a4, fun k2 => ?_⟩
    obtain ⟨g1, g2⟩ := a5 k2
    have xm := gi_xln G (show m < gi_N c by omega) (by omega) (by omega)
    have xn := gi_xln G hn k2 k5
    rw [fs_upd (by omega), fs_upd (by omega)] at g1
    refine ⟨g1, fun k8 => ⟨fun t => ?_, (g2 k8).2⟩⟩
    have ym := (gi_y5 G (show m < gi_N c by omega) (by rw [a1]; exact t)).2
    have yn := (gi_y5 G hn t).2
    have := (g2 k8).1 t
    rw [fs_upd (by omega), fs_upd (by omega)] at this
    exact this
theorem fs_same {post : St1 → Prop} {c : St1} (G : gi_G c) (hp : ∀ sa, fs_I c (gi_N c) sa → post (uq_nc c, uq_fc c, uq_lv c, uq_cp c, uq_nd c, uq_pn c, uq_le c, uq_wc c, uq_ac c, uq_dc c, uq_sc c, uq_a1 c, uq_a2 c, uq_a3 c, uq_a4 c, uq_a5 c, uq_a6 c, uq_a7 c, uq_a8 c, uq_a9 c, sa, uq_a11 c, uq_a12 c, uq_a13 c, uq_a14 c, uq_a15 c, uq_a16 c, uq_a17 c, uq_a18 c, uq_a19 c, uq_a20 c, uq_a21 c, uq_a22 c, uq_a23 c, uq_a24 c, uq_a25 c, uq_a26 c)) : wpX_findSame post c := by
  have hN := gi_n24 G
  have main : ∃ fu, wX_findSame_2 post (uq_nc c) (uq_fc c) (uq_lv c) (uq_cp c) (uq_nd c) (uq_pn c) (uq_le c) (uq_wc c) (uq_ac c) (uq_dc c) (uq_sc c) fu 0 (uq_a1 c) (uq_a2 c) (uq_a3 c) (uq_a4 c) (uq_a5 c) (uq_a6 c) (uq_a7 c) (uq_a8 c) (uq_a9 c) (uq_a10 c) (uq_a11 c) (uq_a12 c) (uq_a13 c) (uq_a14 c) (uq_a15 c) (uq_a16 c) (uq_a17 c) (uq_a18 c) (uq_a19 c) (uq_a20 c) (uq_a21 c) (uq_a22 c) (uq_a23 c) (uq_a24 c) (uq_a25 c) (uq_a26 c) := by
    refine pk_loop (fun fu i (sa : Nat → Int32) => wX_findSame_2 post (uq_nc c) (uq_fc c) (uq_lv c) (uq_cp c) (uq_nd c) (uq_pn c) (uq_le c) (uq_wc c) (uq_ac c) (uq_dc c) (uq_sc c) fu (nI i) (uq_a1 c) (uq_a2 c) (uq_a3 c) (uq_a4 c) (uq_a5 c) (uq_a6 c) (uq_a7 c) (uq_a8 c) (uq_a9 c) (sa) (uq_a11 c) (uq_a12 c) (uq_a13 c) (uq_a14 c) (uq_a15 c) (uq_a16 c) (uq_a17 c) (uq_a18 c) (uq_a19 c) (uq_a20 c) (uq_a21 c) (uq_a22 c) (uq_a23 c) (uq_a24 c) (uq_a25 c) (uq_a26 c)) (fun i sa => fs_I c i sa) (gi_N c) 0 (uq_a10 c) (Nat.zero_le _) (fun n hn => absurd hn (by omega)) ?_ ?_
    · intro fu sa h
      exact pk_le (gi_N c) (gi_N c) (fun _ => hp sa h) (fun z => absurd z (by omega)) (gi_nc G)
    · intro fu i sa hi h ih
      refine pk_le (gi_N c) i (fun z => absurd z (by omega)) (fun _ => ⟨pk_in i 24 (by omega), ?_⟩) (gi_nc G)
      rw [nu_cl i, nu_b8 i (by omega)]
      have stay : ∀ x, x = nI i + 1 → wX_findSame_2 post (uq_nc c) (uq_fc c) (uq_lv c) (uq_cp c) (uq_nd c) (uq_pn c) (uq_le c) (uq_wc c) (uq_ac c) (uq_dc c) (uq_sc c) fu x (uq_a1 c) (uq_a2 c) (uq_a3 c) (uq_a4 c) (uq_a5 c) (uq_a6 c) (uq_a7 c) (uq_a8 c) (uq_a9 c) (upd sa i (nI i)) (uq_a11 c) (uq_a12 c) (uq_a13 c) (uq_a14 c) (uq_a15 c) (uq_a16 c) (uq_a17 c) (uq_a18 c) (uq_a19 c) (uq_a20 c) (uq_a21 c) (uq_a22 c) (uq_a23 c) (uq_a24 c) (uq_a25 c) (uq_a26 c) := nm_r (nI_1 i) (ih _ (fs_put G hi h (Or.inl rfl)))
      have k3 := gi_k3 G hi
      have k10 := gi_k10 G hi
      refine nm_e (br_c (fun _ => stay) (fun hlv => ⟨pk_in i 24 (by omega), ?_⟩))
      refine pk_eq (gi_k c i) 5 (fun _ => stay) (fun k5 => ⟨pk_in i 24 (by omega), ?_⟩) k3
      refine pk_eq (gi_k c i) 6 (fun _ => stay) (fun k6 => ?_) k3
      exact fs_52 (J := wX_findSame_2 post (uq_nc c) (uq_fc c) (uq_lv c) (uq_cp c) (uq_nd c) (uq_pn c) (uq_le c) (uq_wc c) (uq_ac c) (uq_dc c) (uq_sc c) fu) G hi h hlv k5 k6 ih
  exact main
end
section
/-! findNeeded -/
def fn_B (c : St1) (nd : Int32) : Prop := ∀ n, bt nd n = true → n < gi_N c ∧ gi_s c n = n
def fn_O (c : St1) (j : Nat) (nd : Int32) : Prop := ∀ o, o < j → uq_a9 c o ≠ -1 → bt nd (gi_s c (gi_o c o)) = true
def fn_C (c : St1) (lo : Nat) (bf nd : Int32) : Prop := ∀ n, lo ≤ n → bt bf n = true → 2 ≤ gi_k c n → bt nd (gi_s c (gi_x c n)) = true ∧ (gi_two (gi_k c n) → bt nd (gi_s c (gi_y c n)) = true)
def fn_F (c : St1) (nd : Int32) : Prop := fn_B c nd ∧ fn_O c 4 nd ∧ fn_C c 0 nd nd
/-- every number stands for itself or for one that stands for itself -/
def fn_S (c : St1) : Prop := ∀ n, n < gi_N c → uq_a10 c n = nI (gi_s c n) ∧ gi_s c n ≤ n ∧ gi_s c (gi_s c n) = gi_s c n
def fn_z (i : Nat) : Int32 := nI i - 1
theorem fn_z_s (i : Nat) : fn_z (i + 1) = nI i := nI_pred i
theorem fn_z_m (i : Nat) : nI i + (-1) = fn_z i := by
  unfold fn_z
  rw [Int32.sub_eq_add_neg]
theorem fn_bt {nd : Int32} {i j : Nat} (hi : i < 32) : bt (nd ||| ((1 : Int32) <<< (nI i &&& 31))) j = true ↔ (bt nd j = true ∨ j = i) := by
  rcases Nat.lt_or_ge j 32 with h | h
  · rw [nu_or nd hi h, Bool.or_eq_true, decide_eq_true_eq]
  · rw [b_big h, b_big h]
    constructor
    · intro z; exact absurd z (by decide)
    · rintro (z | z)
      · exact absurd z (by decide)
      · omega
theorem fn_B_or {c : St1} {nd : Int32} {i : Nat} (G : gi_G c) (S : fn_S c) (h : fn_B c nd) (hi : i < gi_N c) : fn_B c (nd ||| ((1 : Int32) <<< (nI (gi_s c i) &&& 31))) := by
  have hN := gi_n24 G
  obtain ⟨s1, s2, s3⟩ := S i hi
  intro n hn
  rcases (fn_bt (by omega)).mp hn with g | g
  · exact h n g
  · rw [g]
    exact ⟨by omega, s3⟩
theorem fn_89 {post : St1 → Prop} {J : Int32 → Int32 → Prop} {c : St1} {bf : Int32} (G : gi_G c) (S : fn_S c)
    (hB : fn_B c bf) (hO : fn_O c 4 bf) (hJ : ∀ nd, fn_B c nd → fn_O c 4 nd → (∀ j, bt bf j = true → bt nd j = true) → fn_C c 0 bf nd → J bf nd) :
    ∃ fu, wX_findNeeded_89 post J bf (uq_nc c) (uq_fc c) (uq_lv c) (uq_cp c) (uq_pn c) (uq_le c) (uq_wc c) (uq_ac c) (uq_dc c) (uq_sc c) (uq_a1 c) (uq_a2 c) (uq_a3 c) (uq_a4 c) (uq_a5 c) (uq_a6 c) (uq_a7 c) (uq_a8 c) (uq_a9 c) (uq_a10 c) (uq_a11 c) (uq_a12 c) (uq_a13 c) (uq_a14 c) (uq_a15 c) (uq_a16 c) (uq_a17 c) (uq_a18 c) (uq_a19 c) (uq_a20 c) (uq_a21 c) (uq_a22 c) (uq_a23 c) (uq_a24 c) (uq_a25 c) (uq_a26 c) fu (fn_z (gi_N c)) bf := by
  have hN := gi_n24 G
  refine loop_m (fun fu (s : Nat × Int32) => wX_findNeeded_89 post J bf (uq_nc c) (uq_fc c) (uq_lv c) (uq_cp c) (uq_pn c) (uq_le c) (uq_wc c) (uq_ac c) (uq_dc c) (uq_sc c) (uq_a1 c) (uq_a2 c) (uq_a3 c) (uq_a4 c) (uq_a5 c) (uq_a6 c) (uq_a7 c) (uq_a8 c) (uq_a9 c) (uq_a10 c) (uq_a11 c) (uq_a12 c) (uq_a13 c) (uq_a14 c) (uq_a15 c) (uq_a16 c) (uq_a17 c) (uq_a18 c) (uq_a19 c) (uq_a20 c) (uq_a21 c) (uq_a22 c) (uq_a23 c) (uq_a24 c) (uq_a25 c) (uq_a26 c) fu (fn_z s.1) s.2) (fun s => s.1 ≤ gi_N c ∧ fn_B c s.2 ∧ fn_O c 4 s.2 ∧ (∀ j, bt bf j = true → bt s.2 j = true) ∧ fn_C c s.1 bf s.2) (fun s => s.1) ?_ (gi_N c, bf) ⟨Nat.le_refl _, hB, hO, fun j z => z, fun n h1 h2 => absurd (hB n h2).1 (by dsimp only at h1; omega)⟩
  rintro fu ⟨i, nd⟩ ⟨h1, h2, h3, h4, h5⟩ ih
  dsimp only at h1 h2 h3 h4 h5 ih ⊢
  cases i with
  | zero => exact br_t (by decide : fn_z 0 < 0) (hJ nd h2 h3 h4 h5)
  | succ i =>
    rw [fn_z_s]
    have iN : i < gi_N c := by omega
    have k3 := gi_k3 G iN
    have k10 := gi_k10 G iN
    have I := pk_in (x := nI i) i 24 (by omega)
    have or_mono : ∀ (nd : Int32) (a : Nat), a < 32 → ∀ j, bt nd j = true → bt (nd ||| ((1 : Int32) <<< (nI a &&& 31))) j = true := fun nd a ha j z => (fn_bt ha).mpr (Or.inl z)
    have nx : ∀ nd', fn_B c nd' → fn_O c 4 nd' → (∀ j, bt nd j = true → bt nd' j = true) → (bt bf i = true → 2 ≤ gi_k c i → bt nd' (gi_s c (gi_x c i)) = true ∧ (gi_two (gi_k c i) → bt nd' (gi_s c (gi_y c i)) = true)) → ∀ x, x = nI i + (-1) → wX_findNeeded_89 post J bf (uq_nc c) (uq_fc c) (uq_lv c) (uq_cp c) (uq_pn c) (uq_le c) (uq_wc c) (uq_ac c) (uq_dc c) (uq_sc c) (uq_a1 c) (uq_a2 c) (uq_a3 c) (uq_a4 c) (uq_a5 c) (uq_a6 c) (uq_a7 c) (uq_a8 c) (uq_a9 c) (uq_a10 c) (uq_a11 c) (uq_a12 c) (uq_a13 c) (uq_a14 c) (uq_a15 c) (uq_a16 c) (uq_a17 c) (uq_a18 c) (uq_a19 c) (uq_a20 c) (uq_a21 c) (uq_a22 c) (uq_a23 c) (uq_a24 c) (uq_a25 c) (uq_a26 c) fu x nd' := by
      intro nd' b1 b2 b3 b4
      refine nm_r (fn_z_m i) (ih (i, nd') ⟨by dsimp only; omega, b1, b2, fun j z => b3 j (h4 j z), fun n n1 n2 n3 => ?_⟩ (by dsimp only; omega))
      dsimp only at n1
      by_cases e : n = i
      · subst e
        exact b4 n2 n3
      · obtain ⟨g1, g2⟩ := h5 n (by omega) n2 n3
        exact ⟨b3 _ g1, fun t => b3 _ (g2 t)⟩
    refine br_f (nI_pos (by omega)) ?_
    refine lf_isn i nd (by omega) (fun hb => br_t rfl ?_) (fun hb => br_f (by decide) ⟨I, ?_⟩)
    · refine nx nd h2 h3 (fun j z => z) (fun z => ?_)
      rw [h4 i z] at hb
      exact absurd hb (by decide)
    · rw [nu_cl i]
      refine pk_le 2 (gi_k c i) (fun k2 => ?_) (fun k2 => nx nd h2 h3 (fun j z => z) (fun _ z => absurd z (by omega))) rfl k3
      have xN := gi_xlt G iN k2
      have x4 := gi_x4 G iN (by omega)
      obtain ⟨s1, s2, s3⟩ := S (gi_x c i) xN
      rw [x4, nu_cl (gi_x c i), s1]
      have B1 := fn_B_or G S h2 xN
      have O1 : fn_O c 4 (nd ||| ((1 : Int32) <<< (nI (gi_s c (gi_x c i)) &&& 31))) := fun o ho h9 => or_mono _ _ (by omega) _ (h3 o ho h9)
      refine ⟨I, nu_in (by omega), nm_e ⟨I, ?_⟩⟩
      refine lf_two (gi_k c i) (by omega) (fun t => br_f (by decide) ?_) (fun t => br_t rfl ?_) k3
      · obtain ⟨y5, yl⟩ := gi_y5 G iN t
        obtain ⟨t1, t2, t3⟩ := S (gi_y c i) (by omega)
        rw [y5, nu_cl (gi_y c i), t1]
        refine ⟨I, nu_in (by omega), nm_e ?_⟩
        refine nx _ (fn_B_or G S B1 (by omega)) (fun o ho h9 => or_mono _ _ (by omega) _ (O1 o ho h9)) (fun j z => or_mono _ _ (by omega) _ (or_mono _ _ (by omega) _ z)) (fun _ _ => ⟨?_, fun _ => ?_⟩)
        · exact or_mono _ _ (by omega) _ ((fn_bt (by omega)).mpr (Or.inr rfl))
        · exact (fn_bt (by omega)).mpr (Or.inr rfl)
      · exact nx _ B1 O1 (fun j z => or_mono _ _ (by omega) _ z) (fun _ _ => ⟨(fn_bt (by omega)).mpr (Or.inr rfl), fun z => absurd z t⟩)
theorem fn_69 {post : St1 → Prop} {c : St1} (G : gi_G c) (S : fn_S c) (hp : ∀ nd, fn_F c nd → post (uq_nc c, uq_fc c, uq_lv c, uq_cp c, nd, uq_pn c, uq_le c, uq_wc c, uq_ac c, uq_dc c, uq_sc c, uq_a1 c, uq_a2 c, uq_a3 c, uq_a4 c, uq_a5 c, uq_a6 c, uq_a7 c, uq_a8 c, uq_a9 c, uq_a10 c, uq_a11 c, uq_a12 c, uq_a13 c, uq_a14 c, uq_a15 c, uq_a16 c, uq_a17 c, uq_a18 c, uq_a19 c, uq_a20 c, uq_a21 c, uq_a22 c, uq_a23 c, uq_a24 c, uq_a25 c, uq_a26 c)) {nd : Int32} (hB : fn_B c nd) (hO : fn_O c 4 nd) :
    ∃ fu, wX_findNeeded_69 post (uq_nc c) (uq_fc c) (uq_lv c) (uq_cp c) (uq_pn c) (uq_le c) (uq_wc c) (uq_ac c) (uq_dc c) (uq_sc c) (uq_a1 c) (uq_a2 c) (uq_a3 c) (uq_a4 c) (uq_a5 c) (uq_a6 c) (uq_a7 c) (uq_a8 c) (uq_a9 c) (uq_a10 c) (uq_a11 c) (uq_a12 c) (uq_a13 c) (uq_a14 c) (uq_a15 c) (uq_a16 c) (uq_a17 c) (uq_a18 c) (uq_a19 c) (uq_a20 c) (uq_a21 c) (uq_a22 c) (uq_a23 c) (uq_a24 c) (uq_a25 c) (uq_a26 c) fu (-1) nd := by
  have hN := gi_n24 G
  refine loop_m (fun fu (s : Int32 × Int32) => wX_findNeeded_69 post (uq_nc c) (uq_fc c) (uq_lv c) (uq_cp c) (uq_pn c) (uq_le c) (uq_wc c) (uq_ac c) (uq_dc c) (uq_sc c) (uq_a1 c) (uq_a2 c) (uq_a3 c) (uq_a4 c) (uq_a5 c) (uq_a6 c) (uq_a7 c) (uq_a8 c) (uq_a9 c) (uq_a10 c) (uq_a11 c) (uq_a12 c) (uq_a13 c) (uq_a14 c) (uq_a15 c) (uq_a16 c) (uq_a17 c) (uq_a18 c) (uq_a19 c) (uq_a20 c) (uq_a21 c) (uq_a22 c) (uq_a23 c) (uq_a24 c) (uq_a25 c) (uq_a26 c) fu s.1 s.2) (fun s => fn_B c s.2 ∧ fn_O c 4 s.2 ∧ (s.2 = s.1 → fn_C c 0 s.2 s.2)) (fun s => 2 * nu_M s.2 + (if s.2 = s.1 then 0 else 1)) ?_ (-1, nd) ⟨hB, hO, fun e => ?_⟩
  · rintro fu ⟨bf, nd⟩ ⟨h1, h2, h3⟩ ih
    dsimp only at h1 h2 h3 ih ⊢
    refine br_c (fun e => hp nd ⟨h1, h2, h3 e⟩) (fun e => ?_)
    refine nm_r (show uq_nc c - 1 = fn_z (gi_N c) by rw [gi_nc G]; rfl) (fn_89 (J := wX_findNeeded_69 post (uq_nc c) (uq_fc c) (uq_lv c) (uq_cp c) (uq_pn c) (uq_le c) (uq_wc c) (uq_ac c) (uq_dc c) (uq_sc c) (uq_a1 c) (uq_a2 c) (uq_a3 c) (uq_a4 c) (uq_a5 c) (uq_a6 c) (uq_a7 c) (uq_a8 c) (uq_a9 c) (uq_a10 c) (uq_a11 c) (uq_a12 c) (uq_a13 c) (uq_a14 c) (uq_a15 c) (uq_a16 c) (uq_a17 c) (uq_a18 c) (uq_a19 c) (uq_a20 c) (uq_a21 c) (uq_a22 c) (uq_a23 c) (uq_a24 c) (uq_a25 c) (uq_a26 c) fu) G S h1 h2 (fun nd' b1 b2 b3 b4 => ih (nd, nd') ⟨b1, b2, fun e => ?_⟩ ?_))
    · dsimp only at e ⊢
      rw [e] at b4 ⊢
      exact b4
    · dsimp only
      rw [if_neg e]
      by_cases e' : nd' = nd
      · rw [if_pos e', e']
        omega
      · rw [if_neg e']
        have := nu_grow (fun i _ z => b3 i z) (fun z => e' z.symm)
        omega
  · dsimp only at e
    have := hB 31 (by rw [e]; exact b_m1 31 (by omega))
    omega
theorem fn_25 {post : St1 → Prop} {c : St1} (G : gi_G c) (S : fn_S c) (hp : ∀ nd, fn_F c nd → post (uq_nc c, uq_fc c, uq_lv c, uq_cp c, nd, uq_pn c, uq_le c, uq_wc c, uq_ac c, uq_dc c, uq_sc c, uq_a1 c, uq_a2 c, uq_a3 c, uq_a4 c, uq_a5 c, uq_a6 c, uq_a7 c, uq_a8 c, uq_a9 c, uq_a10 c, uq_a11 c, uq_a12 c, uq_a13 c, uq_a14 c, uq_a15 c, uq_a16 c, uq_a17 c, uq_a18 c, uq_a19 c, uq_a20 c, uq_a21 c, uq_a22 c, uq_a23 c, uq_a24 c, uq_a25 c, uq_a26 c)) {nd : Int32} (hB : fn_B c nd) :
    ∃ fu, wX_findNeeded_25 post (uq_nc c) (uq_fc c) (uq_lv c) (uq_cp c) (uq_pn c) (uq_le c) (uq_wc c) (uq_ac c) (uq_dc c) (uq_sc c) (uq_a1 c) (uq_a2 c) (uq_a3 c) (uq_a4 c) (uq_a5 c) (uq_a6 c) (uq_a7 c) (uq_a8 c) (uq_a9 c) (uq_a10 c) (uq_a11 c) (uq_a12 c) (uq_a13 c) (uq_a14 c) (uq_a15 c) (uq_a16 c) (uq_a17 c) (uq_a18 c) (uq_a19 c) (uq_a20 c) (uq_a21 c) (uq_a22 c) (uq_a23 c) (uq_a24 c) (uq_a25 c) (uq_a26 c) fu 0 nd := by
  have hN := gi_n24 G
  refine pk_loop (fun fu j (nd : Int32) => wX_findNeeded_25 post (uq_nc c) (uq_fc c) (uq_lv c) (uq_cp c) (uq_pn c) (uq_le c) (uq_wc c) (uq_ac c) (uq_dc c) (uq_sc c) (uq_a1 c) (uq_a2 c) (uq_a3 c) (uq_a4 c) (uq_a5 c) (uq_a6 c) (uq_a7 c) (uq_a8 c) (uq_a9 c) (uq_a10 c) (uq_a11 c) (uq_a12 c) (uq_a13 c) (uq_a14 c) (uq_a15 c) (uq_a16 c) (uq_a17 c) (uq_a18 c) (uq_a19 c) (uq_a20 c) (uq_a21 c) (uq_a22 c) (uq_a23 c) (uq_a24 c) (uq_a25 c) (uq_a26 c) fu (nI j) nd) (fun j nd => fn_B c nd ∧ fn_O c j nd) 4 0 nd (by omega) ⟨hB, fun o ho => absurd ho (by omega)⟩ ?_ ?_
  · intro fu nd ⟨h1, h2⟩
    exact pk_le 4 4 (fun _ => fn_69 G S hp h1 h2) (fun z => absurd z (by omega))
  · intro fu j nd hj ⟨h1, h2⟩ ih
    refine pk_le 4 j (fun z => absurd z (by omega)) (fun _ => ⟨pk_in j 4 hj, ?_⟩)
    rw [nu_cl j]
    rcases gi_o9 G hj with h9 | ⟨h9, ho⟩
    · refine br_t (by rw [h9]; decide) (nm_r (nI_1 j) (ih nd ⟨h1, fun o ho hn => ?_⟩))
      by_cases e : o = j
      · rw [e] at hn
        exact absurd h9 hn
      · exact h2 o (by omega) hn
    · refine br_f (by rw [h9]; exact nI_pos (by omega)) ⟨pk_in j 4 hj, pk_in (gi_o c j) 24 (by omega) h9, ?_⟩
      obtain ⟨s1, s2, s3⟩ := S (gi_o c j) ho
      rw [h9, nu_cl (gi_o c j), s1]
      refine nm_e (nm_r (nI_1 j) (ih _ ⟨fn_B_or G S h1 ho, fun o ho hn => ?_⟩))
      by_cases e : o = j
      · rw [e]
        exact (fn_bt (by omega)).mpr (Or.inr rfl)
      · exact (fn_bt (by omega)).mpr (Or.inl (h2 o (by omega) hn))
theorem fn_needed {post : St1 → Prop} {c : St1} (G : gi_G c) (S : fn_S c) (h0 : uq_lv c = 0 → ∀ n, n < gi_N c → gi_s c n = n) (hp : ∀ nd, fn_F c nd → post (uq_nc c, uq_fc c, uq_lv c, uq_cp c, nd, uq_pn c, uq_le c, uq_wc c, uq_ac c, uq_dc c, uq_sc c, uq_a1 c, uq_a2 c, uq_a3 c, uq_a4 c, uq_a5 c, uq_a6 c, uq_a7 c, uq_a8 c, uq_a9 c, uq_a10 c, uq_a11 c, uq_a12 c, uq_a13 c, uq_a14 c, uq_a15 c, uq_a16 c, uq_a17 c, uq_a18 c, uq_a19 c, uq_a20 c, uq_a21 c, uq_a22 c, uq_a23 c, uq_a24 c, uq_a25 c, uq_a26 c)) : wpX_findNeeded post c := by
  have hN := gi_n24 G
  have main : ((uq_lv c = 0 → (∀ f_30 : Int32, f_30 = ((1 : Int32) <<< (uq_nc c &&& 31)) - 1 → (∃ fu25 : Nat, wX_findNeeded_25 post (uq_nc c) (uq_fc c) (uq_lv c) (uq_cp c) (uq_pn c) (uq_le c) (uq_wc c) (uq_ac c) (uq_dc c) (uq_sc c) (uq_a1 c) (uq_a2 c) (uq_a3 c) (uq_a4 c) (uq_a5 c) (uq_a6 c) (uq_a7 c) (uq_a8 c) (uq_a9 c) (uq_a10 c) (uq_a11 c) (uq_a12 c) (uq_a13 c) (uq_a14 c) (uq_a15 c) (uq_a16 c) (uq_a17 c) (uq_a18 c) (uq_a19 c) (uq_a20 c) (uq_a21 c) (uq_a22 c) (uq_a23 c) (uq_a24 c) (uq_a25 c) (uq_a26 c) fu25 0 f_30))) ∧ (¬ uq_lv c = 0 → (∃ fu25 : Nat, wX_findNeeded_25 post (uq_nc c) (uq_fc c) (uq_lv c) (uq_cp c) (uq_pn c) (uq_le c) (uq_wc c) (uq_ac c) (uq_dc c) (uq_sc c) (uq_a1 c) (uq_a2 c) (uq_a3 c) (uq_a4 c) (uq_a5 c) (uq_a6 c) (uq_a7 c) (uq_a8 c) (uq_a9 c) (uq_a10 c) (uq_a11 c) (uq_a12 c) (uq_a13 c) (uq_a14 c) (uq_a15 c) (uq_a16 c) (uq_a17 c) (uq_a18 c) (uq_a19 c) (uq_a20 c) (uq_a21 c) (uq_a22 c) (uq_a23 c) (uq_a24 c) (uq_a25 c) (uq_a26 c) fu25 0 0))) := by
    refine br_c (fun z => ?_) (fun z => ?_)
    · refine nm_r (show ((1 : Int32) <<< (uq_nc c &&& 31)) - 1 = ((1 : Int32) <<< (nI (gi_N c) &&& 31)) - 1 by rw [gi_nc G]) (fn_25 G S hp (fun n hn => ?_))
      have n32 : n < 32 := by
        rcases Nat.lt_or_ge n 32 with g | g
        · exact g
        · rw [b_big g] at hn
          exact absurd hn (by decide)
      rw [nu_full (gi_N c) (by omega) n n32, decide_eq_true_eq] at hn
      exact ⟨hn, h0 z n hn⟩
    · refine fn_25 G S hp (fun n hn => ?_)
      rw [b_0] at hn
      exact absurd hn (by decide)
  exact main
end
section
/-! emitDelay -/
def em_M2 (c : St1) (j : Nat) (L : List sx_N) : Prop := ∀ s0 v, em_good c s0 v →
  (sx_me (sx_run (gi_T c) L s0) 0 = sx_me s0 0 ∧ sx_me (sx_run (gi_T c) L s0) 1 = sx_me s0 1) ∧
  (∀ o, o < 4 → uq_a9 c o ≠ -1 → sx_me (sx_run (gi_T c) L s0) (2 + o) = v (gi_s c (gi_o c o))) ∧
  (∀ n, gi_D c n → gi_k c n = 5 → n < j → sx_me (sx_run (gi_T c) L s0) (8 + n) = v (gi_s c (gi_x c n))) ∧
  (∀ n, gi_D c n → gi_k c n = 6 → sx_ri (sx_run (gi_T c) L s0) (gi_f c n) = (sx_ri s0 (gi_f c n) + 1) % gi_T c (gi_f c n) ∧
    ∀ a, 32 + 8 * gi_f c n ≤ a → a < 40 + 8 * gi_f c n → sx_me (sx_run (gi_T c) L s0) a = upd (sx_me s0) (sx_pl (gi_T c) (sx_ri s0) (8 * gi_f c n)) (v (gi_s c (gi_x c n))) a)
theorem em_M2_of {c : St1} {L : List sx_N} (G : gi_G c) (C : gi_C c) (h : em_M c (fun o => gi_s c (gi_o c o) < gi_N c) (gi_N c) L) : em_M2 c 0 L := by
  intro s0 v hg
  obtain ⟨h0, h2, h3, h4, h5⟩ := h s0 v hg
  refine ⟨h0, fun o ho h9 => h2 o ho h9 ?_, fun n _ _ hn => absurd hn (by omega), fun n a b => h4 n a b (em_D24 G C a).1⟩
  exact (em_D24 G C (C.2.2.2 o ho h9)).1
theorem em_M2_skip {c : St1} {j : Nat} {L : List sx_N} (h : em_M2 c j L) (hj : ¬ gi_D c j ∨ gi_k c j ≠ 5) : em_M2 c (j + 1) L := by
  intro s0 v hg
  obtain ⟨h0, h2, h3, h4⟩ := h s0 v hg
  refine ⟨h0, h2, fun n a b d => ?_, h4⟩
  by_cases e : n = j
  · subst e
    rcases hj with q | q
    · exact absurd a q
    · exact absurd b q
  · exact h3 n a b (by omega)
theorem em_delay {post : St1 → Prop} {c : St1} {e : em_E} {L : List sx_N} (n : Nat) {x : Int32} (G : gi_G c) (C : gi_C c) (hD : gi_D c n) (k5 : gi_k c n = 5) (h : em_A c (gi_N c) (100 + n) e L) (hL : L.length + 3 ≤ 300) (h0 : em_pn e = 0) (hx : x = nI n)
    (hM : em_M2 c n L)
    (hp : ∀ e' L', em_A c (gi_N c) (100 + (n + 1)) e' L' → em_pn e' = 0 → em_M2 c (n + 1) L' → L'.length ≤ L.length + 3 → post (em_mk c e')) : wpX_emitDelay post (em_mk c e) x := by
  subst hx
  obtain ⟨hN, h24⟩ := em_D24 G C hD
  have hN24 := gi_n24 G
  have xl := gi_xlt G hN (by omega)
  have x4 := gi_x4 G hN (by omega)
  obtain ⟨dx, _⟩ := C.2.2.1 n hD (by omega)
  have dxN := (em_D24 G C dx).1
  unfold wpX_emitDelay em_mk
  dsimp only
  rw [nu_cl n]
  refine ⟨pk_in n 24 h24, ?_⟩
  refine em_bring (e := e) (gi_x c n) (100 + n) G C h (by omega) (by omega) ⟨0, by omega, by rw [h0]; exact b_0 0⟩ x4 (by rw [← nI_add]; rfl) xl dxN dx ?_ ?_
  · exact h.2.2.2.1.2 _ dxN dx (Or.inr ⟨n, by omega, hN, hD, k5, rfl⟩)
  intro ra e1 L1 ⟨b1, b2, b3, b4, b5, b6, b7⟩
  dsimp only [em_mk]
  refine em_put (e := e1) 17 100 ra 100 (nI (8 + n)) b2 (by omega) (by omega) rfl rfl (by rw [sx_r_lt (by omega)]) rfl (by rw [← nI_add]; rfl) ?_ (fun s q _ hne => ?_) (fun s m _ => ?_) ?_
  · exact Or.inr (Or.inr (Or.inr (Or.inr (Or.inr (Or.inr (Or.inr (Or.inl ⟨rfl, rfl, b1, rfl, 8 + n, rfl, by omega, by omega⟩)))))))
  · rw [sx_e17 _ (by omega)]; rfl
  · rw [sx_e17 _ (by omega)]
    exact pk_un (by omega)
  intro e2 A2 p2 o2 q2 s2
  refine hp (0, em_le e2, em_ho e2, em_ro e2, em_sv e2, em_op e2, em_it e2, em_fs e2, em_sn e2, em_nu e2) _ ⟨A2.1, em_mono A2.2 (by omega)⟩ rfl ?_ (by rw [List.length_append, List.length_singleton]; omega)
  intro s0 v hg
  obtain ⟨⟨g0, g1⟩, g2, g3, g4⟩ := hM s0 v hg
  obtain ⟨_, _, f3, f4⟩ := b7 s0
  have va := (b2.2.2.2.2 s0 v hg).1 ra _ b1 (by omega) b4
  rw [sx_run_app, sx_e17 _ (by omega)]
  have out : ∀ a, a < 64 → a ≠ 8 + n → upd (sx_me (sx_run (gi_T c) L1 s0)) (8 + n) (sx_rg (sx_run (gi_T c) L1 s0) ra) a = sx_me (sx_run (gi_T c) L s0) a := fun a ha hne => (pk_un hne).trans (f4 a ha)
  refine ⟨⟨(out 0 (by omega) (by omega)).trans g0, (out 1 (by omega) (by omega)).trans g1⟩, fun o ho h9 => (out _ (by omega) (by omega)).trans (g2 o ho h9), fun m a b d => ?_, fun m a b => ?_⟩
  · by_cases em : m = n
    · subst em
      show upd _ _ _ _ = _
      rw [pk_us]
      exact va
    · exact (out _ (by have := (em_D24 G C a).2; omega) (by omega)).trans (g3 m a b (by omega))
  · have := gi_f4 G (em_D24 G C a).1 b
    obtain ⟨i1, i2⟩ := g4 m a b
    exact ⟨(congrFun f3 _).trans i1, fun x x1 x2 => (out x (by omega) (by omega)).trans (i2 x x1 x2)⟩
/-! counting filters -/
def em_fc (c : St1) : Nat → Nat
  | 0 => 0
  | n + 1 => em_fc c n + (if gi_k c n = 6 then 1 else 0)
theorem em_fc_le {c : St1} (G : gi_G c) : ∀ n, n ≤ gi_N c → em_fc c n ≤ gi_F c ∧ ∀ m, n ≤ m → m < gi_N c → gi_k c m = 6 → em_fc c n ≤ gi_f c m := by
  intro n
  induction n with
  | zero => exact fun _ => ⟨Nat.zero_le _, fun m _ _ _ => Nat.zero_le _⟩
  | succ n ih =>
    intro hn
    obtain ⟨i1, i2⟩ := ih (by omega)
    unfold em_fc
    by_cases k6 : gi_k c n = 6
    · rw [if_pos k6]
      have := i2 n (Nat.le_refl _) (by omega) k6
      have fF := ((gi_nd G (show n < gi_N c by omega)).2.2.2.2.2.2.2 k6).2
      refine ⟨by omega, fun m a b d => ?_⟩
      have := G.2.2.2.2.2.1 n m (by omega) b k6 d
      omega
    · rw [if_neg k6]
      exact ⟨i1, fun m a b d => i2 m (by omega) b d⟩
/-! the code that was emitted, as the scheduler reads it -/
theorem sd_code_of {c : St1} {e : em_E} {L : List sx_N} (h : em_rep e L) (hw : ∀ x, x ∈ L → sx_wf (gi_T c) x) (hL : L.length ≤ 300) : sd_code (em_mk c e) L := by
  refine ⟨h.1, hL, fun i hi => ?_⟩
  obtain ⟨r1, r2, r3, r4, r5⟩ := h.2 i (sx_at L i) (sx_at_get hi)
  have w := hw _ (sx_at_mem hi)
  refine ⟨r1, r2, r3, r4, r5, by omega, ?_, ?_, ?_, ?_, fun ho => ?_⟩
  · have ws := sx_wf_ws w; unfold sx_ws at ws; omega
  · have ws := sx_wf_ws w; unfold sx_ws at ws; omega
  · have ws := sx_wf_ws w; unfold sx_ws at ws; omega
  · have ws := sx_wf_ws w; unfold sx_ws at ws; omega
  · have nm := zw_num w ho
    rcases Nat.lt_or_ge (sx_o (sx_at L i)) 18 with g | g
    · exact ⟨_, (nm.1 g).1, (nm.1 g).2.1⟩
    · exact ⟨_, (nm.2 g).1, by have := (nm.2 g).2.1; omega⟩
/-! the loops of compile -/
/-- what compiling leaves: a program, and what it computes -/
def em_fin (c : St1) (L : List sx_N) : Prop := em_M2 c (gi_N c) L
theorem em_103 {post : St1 → Prop} {c : St1} {e : em_E} {L : List sx_N} {lv : Nat} (G : gi_G c) (C : gi_C c) (hlv : uq_lv c = nI lv) (hl2 : lv ≤ 2) (h : em_A c (gi_N c) 100 e L) (h0 : em_pn e = 0) (hM : em_M2 c 0 L) (hL : L.length + 3 * gi_N c ≤ 300)
    (hp : ∀ e' L' K wo ws, em_rep e' L' → (∀ x, x ∈ L' → sx_wf (gi_T c) x) → L'.length ≤ 300 → em_fin c L' → sd_I L' L'.length K wo ws → post (uq_nc (em_mk c e'), uq_fc (em_mk c e'), uq_lv (em_mk c e'), uq_cp (em_mk c e'), uq_nd (em_mk c e'), uq_pn (em_mk c e'), uq_le (em_mk c e'), nI K, uq_ac (em_mk c e'), uq_dc (em_mk c e'), uq_sc (em_mk c e'), uq_a1 (em_mk c e'), uq_a2 (em_mk c e'), uq_a3 (em_mk c e'), uq_a4 (em_mk c e'), uq_a5 (em_mk c e'), uq_a6 (em_mk c e'), uq_a7 (em_mk c e'), uq_a8 (em_mk c e'), uq_a9 (em_mk c e'), uq_a10 (em_mk c e'), uq_a11 (em_mk c e'), uq_a12 (em_mk c e'), uq_a13 (em_mk c e'), uq_a14 (em_mk c e'), uq_a15 (em_mk c e'), uq_a16 (em_mk c e'), uq_a17 (em_mk c e'), uq_a18 (em_mk c e'), wo, ws, uq_a21 (em_mk c e'), uq_a22 (em_mk c e'), uq_a23 (em_mk c e'), uq_a24 (em_mk c e'), uq_a25 (em_mk c e'), uq_a26 (em_mk c e'))) :
    ∃ fu, wX_compile_103 post fu 0 (uq_nc c) (uq_fc c) (uq_lv c) (uq_cp c) (uq_nd c) (em_pn e) (em_le e) (uq_wc c) (uq_ac c) (uq_dc c) (uq_sc c) (uq_a1 c) (uq_a2 c) (uq_a3 c) (uq_a4 c) (uq_a5 c) (uq_a6 c) (uq_a7 c) (uq_a8 c) (uq_a9 c) (uq_a10 c) (em_ho e) (em_ro e) (em_sv e) (em_op e) (em_it e) (em_fs e) (em_sn e) (em_nu e) (uq_a19 c) (uq_a20 c) (uq_a21 c) (uq_a22 c) (uq_a23 c) (uq_a24 c) (uq_a25 c) (uq_a26 c) := by
  have hN24 := gi_n24 G
  refine loop_m (fun fu (s : em_E × Nat) => wX_compile_103 post fu (nI s.2) (uq_nc c) (uq_fc c) (uq_lv c) (uq_cp c) (uq_nd c) (em_pn s.1) (em_le s.1) (uq_wc c) (uq_ac c) (uq_dc c) (uq_sc c) (uq_a1 c) (uq_a2 c) (uq_a3 c) (uq_a4 c) (uq_a5 c) (uq_a6 c) (uq_a7 c) (uq_a8 c) (uq_a9 c) (uq_a10 c) (em_ho s.1) (em_ro s.1) (em_sv s.1) (em_op s.1) (em_it s.1) (em_fs s.1) (em_sn s.1) (em_nu s.1) (uq_a19 c) (uq_a20 c) (uq_a21 c) (uq_a22 c) (uq_a23 c) (uq_a24 c) (uq_a25 c) (uq_a26 c)) (fun s => s.2 ≤ gi_N c ∧ em_pn s.1 = 0 ∧ ∃ L', em_A c (gi_N c) (100 + s.2) s.1 L' ∧ em_M2 c s.2 L' ∧ L'.length ≤ L.length + 3 * s.2) (fun s => gi_N c - s.2) ?_ (e, 0) ⟨Nat.zero_le _, h0, L, h, hM, by dsimp only; omega⟩
  rintro fu ⟨e1, n⟩ ⟨hn, p1, L1, A1, M1, l1⟩ ih
  dsimp only at hn p1 A1 M1 l1 ih ⊢
  refine pk_le (gi_N c) n (fun z => ?_) (fun z => ?_) (gi_nc G)
  · have en : n = gi_N c := by omega
    subst en
    refine sd_sched (u := em_mk c e1) (sd_code_of A1.1 A1.2.1 (by omega)) hlv hl2 (fun K wo ws hI => ?_)
    exact hp e1 L1 K wo ws A1.1 A1.2.1 (by omega) M1 hI
  · have nx : (¬ gi_D c n ∨ gi_k c n ≠ 5) → ∀ x, x = nI n + 1 → wX_compile_103 post fu x (uq_nc c) (uq_fc c) (uq_lv c) (uq_cp c) (uq_nd c) (em_pn e1) (em_le e1) (uq_wc c) (uq_ac c) (uq_dc c) (uq_sc c) (uq_a1 c) (uq_a2 c) (uq_a3 c) (uq_a4 c) (uq_a5 c) (uq_a6 c) (uq_a7 c) (uq_a8 c) (uq_a9 c) (uq_a10 c) (em_ho e1) (em_ro e1) (em_sv e1) (em_op e1) (em_it e1) (em_fs e1) (em_sn e1) (em_nu e1) (uq_a19 c) (uq_a20 c) (uq_a21 c) (uq_a22 c) (uq_a23 c) (uq_a24 c) (uq_a25 c) (uq_a26 c) := by
      intro hq
      exact nm_r (nI_1 n) (ih (e1, n + 1) ⟨z, p1, L1, ⟨A1.1, em_mono A1.2 (by omega)⟩, em_M2_skip M1 hq, by dsimp only; omega⟩ (by dsimp only; omega))
    refine lf_isn n (uq_nd c) (by omega) (fun hb => br_t rfl (nx (Or.inl (gi_Dn hb)))) (fun hb => br_f (by decide) ⟨pk_in n 24 (by omega), ?_⟩)
    rw [nu_cl n]
    have k10 := gi_k10 G z
    refine pk_eq (gi_k c n) 5 (fun k5 => ?_) (fun k5 => nx (Or.inr k5)) (gi_k3 G z)
    refine em_delay (e := e1) n G C hb k5 A1 (by omega) p1 rfl M1 ?_
    intro e2 L2 A2 p2 M2 l2
    dsimp only [em_mk]
    exact nm_r (nI_1 n) (ih (e2, n + 1) ⟨z, p2, L2, A2, M2, by dsimp only; omega⟩ (by dsimp only; omega))
theorem em_74 {post : St1 → Prop} {c : St1} {e : em_E} {lv : Nat} (G : gi_G c) (C : gi_C c) (hlv : uq_lv c = nI lv) (hl2 : lv ≤ 2) (h : em_A c 0 0 e []) (h0 : em_pn e = 0)
    (hp : ∀ e' L' K wo ws, em_rep e' L' → (∀ x, x ∈ L' → sx_wf (gi_T c) x) → L'.length ≤ 300 → em_fin c L' → sd_I L' L'.length K wo ws → post (uq_nc (em_mk c e'), uq_fc (em_mk c e'), uq_lv (em_mk c e'), uq_cp (em_mk c e'), uq_nd (em_mk c e'), uq_pn (em_mk c e'), uq_le (em_mk c e'), nI K, uq_ac (em_mk c e'), uq_dc (em_mk c e'), uq_sc (em_mk c e'), uq_a1 (em_mk c e'), uq_a2 (em_mk c e'), uq_a3 (em_mk c e'), uq_a4 (em_mk c e'), uq_a5 (em_mk c e'), uq_a6 (em_mk c e'), uq_a7 (em_mk c e'), uq_a8 (em_mk c e'), uq_a9 (em_mk c e'), uq_a10 (em_mk c e'), uq_a11 (em_mk c e'), uq_a12 (em_mk c e'), uq_a13 (em_mk c e'), uq_a14 (em_mk c e'), uq_a15 (em_mk c e'), uq_a16 (em_mk c e'), uq_a17 (em_mk c e'), uq_a18 (em_mk c e'), wo, ws, uq_a21 (em_mk c e'), uq_a22 (em_mk c e'), uq_a23 (em_mk c e'), uq_a24 (em_mk c e'), uq_a25 (em_mk c e'), uq_a26 (em_mk c e'))) :
    ∃ fu, wX_compile_74 post fu 0 (uq_nc c) (uq_fc c) (uq_lv c) (uq_cp c) (uq_nd c) (em_pn e) (em_le e) (uq_wc c) (uq_ac c) (uq_dc c) (uq_sc c) (uq_a1 c) (uq_a2 c) (uq_a3 c) (uq_a4 c) (uq_a5 c) (uq_a6 c) (uq_a7 c) (uq_a8 c) (uq_a9 c) (uq_a10 c) (em_ho e) (em_ro e) (em_sv e) (em_op e) (em_it e) (em_fs e) (em_sn e) (em_nu e) (uq_a19 c) (uq_a20 c) (uq_a21 c) (uq_a22 c) (uq_a23 c) (uq_a24 c) (uq_a25 c) (uq_a26 c) := by
  have hN24 := gi_n24 G
  have F4 : gi_F c ≤ 4 := G.2.2.2.1
  refine loop_m (fun fu (s : em_E × Nat) => wX_compile_74 post fu (nI s.2) (uq_nc c) (uq_fc c) (uq_lv c) (uq_cp c) (uq_nd c) (em_pn s.1) (em_le s.1) (uq_wc c) (uq_ac c) (uq_dc c) (uq_sc c) (uq_a1 c) (uq_a2 c) (uq_a3 c) (uq_a4 c) (uq_a5 c) (uq_a6 c) (uq_a7 c) (uq_a8 c) (uq_a9 c) (uq_a10 c) (em_ho s.1) (em_ro s.1) (em_sv s.1) (em_op s.1) (em_it s.1) (em_fs s.1) (em_sn s.1) (em_nu s.1) (uq_a19 c) (uq_a20 c) (uq_a21 c) (uq_a22 c) (uq_a23 c) (uq_a24 c) (uq_a25 c) (uq_a26 c)) (fun s => s.2 ≤ gi_N c ∧ em_pn s.1 = 0 ∧ ∃ L', em_A c s.2 s.2 s.1 L' ∧ em_M c (fun o => gi_s c (gi_o c o) < s.2) s.2 L' ∧ L'.length ≤ 6 * s.2 + 20 * em_fc c s.2 + em_ow c s.2 4) (fun s => gi_N c - s.2) ?_ (e, 0) ⟨Nat.zero_le _, h0, [], h, ?_, Nat.zero_le _⟩
  · rintro fu ⟨e1, n⟩ ⟨hn, p1, L1, A1, M1, l1⟩ ih
    dsimp only at hn p1 A1 M1 l1 ih ⊢
    have fcn := (em_fc_le G n hn).1
    have own := em_ow_le c n 4
    refine pk_le (gi_N c) n (fun z => ?_) (fun z => ?_) (gi_nc G)
    · have en : n = gi_N c := by omega
      subst en
      exact em_103 G C hlv hl2 ⟨A1.1, em_mono A1.2 (by omega)⟩ p1 (em_M2_of G C M1) (by omega) hp
    · have fcs : em_fc c (n + 1) = em_fc c n + (if gi_k c n = 6 then 1 else 0) := rfl
      have ows := em_ow_s c n 4
      refine lf_isn n (uq_nd c) (by omega) (fun hb => br_t rfl ?_) (fun hb => br_f (by decide) ?_)
      · refine nm_r (nI_1 n) (ih (e1, n + 1) ⟨z, p1, L1, ⟨A1.1, em_skip (em_mono A1.2 (by omega)) (Or.inl (gi_Dn hb))⟩, em_M_P (em_M_skip M1 (Or.inl (gi_Dn hb))) (fun o ho h9 q => ?_), by dsimp only; omega⟩ (by dsimp only; omega))
        dsimp only at q ⊢
        by_cases eo : gi_s c (gi_o c o) = n
        · have := C.2.2.2 o ho h9
          rw [eo] at this
          exact absurd this (gi_Dn hb)
        · omega
      · refine em_node (e := e1) n G C hb A1 (by omega) p1 rfl M1 ?_
        intro e2 L2 ⟨d1, d2, d3, d4⟩
        dsimp only [em_mk]
        refine nm_r (nI_1 n) (ih (e2, n + 1) ⟨z, d2, L2, d1, d3, ?_⟩ (by dsimp only; omega))
        dsimp only
        rw [fcs, ows]
        by_cases k6 : gi_k c n = 6
        · rw [if_pos k6] at d4 ⊢
          omega
        · rw [if_neg k6] at d4 ⊢
          omega
  · intro s0 v _
    rw [sx_run_nil]
    exact ⟨⟨rfl, rfl⟩, fun o _ _ q => absurd q (by dsimp only; omega), fun n _ => rfl, fun n _ _ q => absurd q (by dsimp only; omega), fun n _ _ _ => ⟨rfl, fun a _ _ => rfl⟩⟩
/-- the state with which the emitting begins -/
def em_ctx (u : St1) (sa : Nat → Int32) (nd : Int32) : St1 := (uq_nc u, uq_fc u, uq_lv u, 1, nd, uq_pn u, uq_le u, uq_wc u, uq_ac u, uq_dc u, uq_sc u, uq_a1 u, uq_a2 u, uq_a3 u, uq_a4 u, uq_a5 u, uq_a6 u, uq_a7 u, uq_a8 u, uq_a9 u, sa, uq_a11 u, uq_a12 u, uq_a13 u, uq_a14 u, uq_a15 u, uq_a16 u, uq_a17 u, uq_a18 u, uq_a19 u, uq_a20 u, uq_a21 u, uq_a22 u, uq_a23 u, uq_a24 u, uq_a25 u, uq_a26 u)
theorem em_25 {post : St1 → Prop} {c : St1} {e : em_E} {lv : Nat} (G : gi_G c) (C : gi_C c) (hlv : uq_lv c = nI lv) (hl2 : lv ≤ 2) (h0 : em_pn e = 0) (hle : em_le e = 0)
    (hp : ∀ e' L' K wo ws, em_rep e' L' → (∀ x, x ∈ L' → sx_wf (gi_T c) x) → L'.length ≤ 300 → em_fin c L' → sd_I L' L'.length K wo ws → post (uq_nc (em_mk c e'), uq_fc (em_mk c e'), uq_lv (em_mk c e'), uq_cp (em_mk c e'), uq_nd (em_mk c e'), uq_pn (em_mk c e'), uq_le (em_mk c e'), nI K, uq_ac (em_mk c e'), uq_dc (em_mk c e'), uq_sc (em_mk c e'), uq_a1 (em_mk c e'), uq_a2 (em_mk c e'), uq_a3 (em_mk c e'), uq_a4 (em_mk c e'), uq_a5 (em_mk c e'), uq_a6 (em_mk c e'), uq_a7 (em_mk c e'), uq_a8 (em_mk c e'), uq_a9 (em_mk c e'), uq_a10 (em_mk c e'), uq_a11 (em_mk c e'), uq_a12 (em_mk c e'), uq_a13 (em_mk c e'), uq_a14 (em_mk c e'), uq_a15 (em_mk c e'), uq_a16 (em_mk c e'), uq_a17 (em_mk c e'), uq_a18 (em_mk c e'), wo, ws, uq_a21 (em_mk c e'), uq_a22 (em_mk c e'), uq_a23 (em_mk c e'), uq_a24 (em_mk c e'), uq_a25 (em_mk c e'), uq_a26 (em_mk c e'))) :
    ∃ fu, wX_compile_25 post (uq_nc c) (uq_fc c) (uq_lv c) (uq_cp c) (uq_nd c) (em_pn e) (em_le e) (uq_wc c) (uq_ac c) (uq_dc c) (uq_sc c) fu 0 (uq_a1 c) (uq_a2 c) (uq_a3 c) (uq_a4 c) (uq_a5 c) (uq_a6 c) (uq_a7 c) (uq_a8 c) (uq_a9 c) (uq_a10 c) (em_ho e) (em_ro e) (em_sv e) (em_op e) (em_it e) (em_fs e) (em_sn e) (em_nu e) (uq_a19 c) (uq_a20 c) (uq_a21 c) (uq_a22 c) (uq_a23 c) (uq_a24 c) (uq_a25 c) (uq_a26 c) := by
  refine pk_loop (fun fu i (ho : Nat → Int32) => wX_compile_25 post (uq_nc c) (uq_fc c) (uq_lv c) (uq_cp c) (uq_nd c) (em_pn e) (em_le e) (uq_wc c) (uq_ac c) (uq_dc c) (uq_sc c) fu (nI i) (uq_a1 c) (uq_a2 c) (uq_a3 c) (uq_a4 c) (uq_a5 c) (uq_a6 c) (uq_a7 c) (uq_a8 c) (uq_a9 c) (uq_a10 c) (ho) (em_ro e) (em_sv e) (em_op e) (em_it e) (em_fs e) (em_sn e) (em_nu e) (uq_a19 c) (uq_a20 c) (uq_a21 c) (uq_a22 c) (uq_a23 c) (uq_a24 c) (uq_a25 c) (uq_a26 c)) (fun i ho => ∀ r, r < i → ho r = -1) 8 0 (em_ho e) (by omega) (fun r hr => absurd hr (by omega)) ?_ ?_
  · intro fu ho hho
    refine pk_le 8 8 (fun _ => ?_) (fun z => absurd z (by omega))
    refine pk_loop (fun fu i (s : (Nat → Int32) × (Nat → Int32)) => wX_compile_46 post (uq_nc c) (uq_fc c) (uq_lv c) (uq_cp c) (uq_nd c) (em_pn e) (em_le e) (uq_wc c) (uq_ac c) (uq_dc c) (uq_sc c) fu (nI i) (uq_a1 c) (uq_a2 c) (uq_a3 c) (uq_a4 c) (uq_a5 c) (uq_a6 c) (uq_a7 c) (uq_a8 c) (uq_a9 c) (uq_a10 c) (ho) (s.1) (s.2) (em_op e) (em_it e) (em_fs e) (em_sn e) (em_nu e) (uq_a19 c) (uq_a20 c) (uq_a21 c) (uq_a22 c) (uq_a23 c) (uq_a24 c) (uq_a25 c) (uq_a26 c)) (fun i s => ∀ n, n < i → s.1 n = -1 ∧ s.2 n = 0) 24 0 (em_ro e, em_sv e) (by omega) (fun r hr => absurd hr (by omega)) ?_ ?_
    · rintro fu ⟨ro, sv⟩ hs
      dsimp only at hs ⊢
      refine pk_le 24 24 (fun _ => ?_) (fun z => absurd z (by omega))
      refine em_74 (e := (em_pn e, em_le e, ho, ro, sv, em_op e, em_it e, em_fs e, em_sn e, em_nu e)) G C hlv hl2 ?_ h0 hp
      refine ⟨⟨hle, fun i x hx => absurd hx (by simp)⟩, fun x hx => absurd hx (by simp), ⟨fun r hr => Or.inl (hho r hr), fun n hn => Or.inl (hs n hn).1, fun n hn => Or.inl (hs n hn).2⟩, ⟨fun n _ hn => (hs n hn).1, fun n hn => absurd hn (by omega)⟩, fun s0 v _ => ⟨fun r n hr hn e => ?_, fun n hn e => ?_⟩⟩
      · have e' : ho r = nI n := e
        rw [hho r hr] at e'
        exact absurd e'.symm (nu_m1 (by omega))
      · have e' : sv n = 1 := e
        rw [(hs n hn).2] at e'
        exact absurd e' (by decide)
    · rintro fu i ⟨ro, sv⟩ hi hs ih
      dsimp only at hs ih ⊢
      refine pk_le 24 i (fun z => absurd z (by omega)) (fun _ => ?_)
      rw [nu_cl i]
      refine ⟨pk_in i 24 hi, nm_e ⟨pk_in i 24 hi, nm_e (nm_r (nI_1 i) (ih (upd ro i (-1), upd sv i 0) (fun n hn => ?_)))⟩⟩
      dsimp only
      by_cases e : n = i
      · exact ⟨nu_us e, nu_us e⟩
      · rw [pk_un e, pk_un e]
        exact hs n (by omega)
  · intro fu i ho hi hho ih
    refine pk_le 8 i (fun z => absurd z (by omega)) (fun _ => ?_)
    rw [nu_cl i]
    refine ⟨pk_in i 8 hi, nm_e (nm_r (nI_1 i) (ih (upd ho i (-1)) (fun n hn => ?_)))⟩
    by_cases e : n = i
    · exact nu_us e
    · rw [pk_un e]
      exact hho n (by omega)
end
section
/-! the reference: all values of a step, out of memory M and ring places A -/
def rf_vs (c : St1) (M : Nat → Int32) (A : Nat → Nat) : Nat → Nat → Int32
  | 0 => fun _ => 0
  | k + 1 => upd (rf_vs c M A k) k (rf_fv c M A k (rf_vs c M A k (gi_x c k)) (rf_vs c M A k (gi_y c k)))
def rf_v (c : St1) (M : Nat → Int32) (A : Nat → Nat) (n : Nat) : Int32 := rf_vs c M A (n + 1) n
theorem rf_vs_lt (c : St1) (M : Nat → Int32) (A : Nat → Nat) {n k : Nat} (h : n < k) : rf_vs c M A k n = rf_v c M A n := by
  induction k with
  | zero => omega
  | succ k ih =>
    by_cases e : n = k
    · rw [e]; rfl
    · show upd (rf_vs c M A k) k _ n = _
      rw [pk_un e]
      exact ih (by omega)
theorem rf_fv_congr {c : St1} {M : Nat → Int32} {A : Nat → Nat} {n : Nat} {x x' y y' : Int32} (k10 : gi_k c n ≤ 10) (hx : 2 ≤ gi_k c n → gi_k c n ≠ 5 → x = x') (hy : gi_two (gi_k c n) → y = y') : rf_fv c M A n x y = rf_fv c M A n x' y' := by
  unfold rf_fv
  by_cases k0 : gi_k c n = 0
  · rw [if_pos k0, if_pos k0]
  rw [if_neg k0, if_neg k0]
  by_cases k1 : gi_k c n = 1
  · rw [if_pos k1, if_pos k1]
  rw [if_neg k1, if_neg k1]
  by_cases k5 : gi_k c n = 5
  · rw [if_pos k5, if_pos k5]
  rw [if_neg k5, if_neg k5, hx (by omega) k5]
  by_cases k6 : gi_k c n = 6
  · rw [if_pos k6, if_pos k6]
  rw [if_neg k6, if_neg k6]
  by_cases k4 : gi_k c n = 4
  · rw [if_pos k4, if_pos k4]
  rw [if_neg k4, if_neg k4]
  by_cases t : gi_two (gi_k c n)
  · rw [hy t]
  · exact sx_calc_y (by unfold gi_two at t; omega) _ _ _ _ _ _
theorem rf_v_eq {c : St1} {M : Nat → Int32} {A : Nat → Nat} {n : Nat} (G : gi_G c) (h : n < gi_N c) : rf_v c M A n = rf_fv c M A n (rf_v c M A (gi_x c n)) (rf_v c M A (gi_y c n)) := by
  show upd (rf_vs c M A n) n _ n = _
  rw [pk_us]
  refine rf_fv_congr (gi_k10 G h) (fun k2 k5 => rf_vs_lt c M A (gi_xln G h k2 k5)) (fun t => rf_vs_lt c M A (gi_y5 G h t).2)
/-- a node that is stood for has the value of the one that stands for it -/
def rn_al (c : St1) : Prop := ∀ n, n < gi_N c → gi_s c n = n ∨ fs_al c (uq_a10 c) (gi_s c n) n
theorem sx_calc_n {o : Nat} (ho : o = 2 ∨ o = 3 ∨ o = 8 ∨ o = 9 ∨ o = 10) (n n' x y : Int32) (ac : Int64) : sx_calc o n x y ac = sx_calc o n' x y ac := by
  rcases ho with h | h | h | h | h <;> subst h <;> simp [sx_calc]
theorem rf_same {c : St1} {M : Nat → Int32} {A : Nat → Nat} (G : gi_G c) (C : gi_C c) (hal : rn_al c) : ∀ b n, n < b → n < gi_N c → rf_v c M A (gi_s c n) = rf_v c M A n := by
  intro b
  induction b with
  | zero => intro n hn; omega
  | succ b ih =>
    intro n hb hn
    rcases hal n hn with e | al
    · rw [e]
    by_cases e : gi_s c n = n
    · rw [e]
    have sl := gi_sle C hn
    have mN : gi_s c n < gi_N c := by omega
    generalize gi_s c n = m at *
    obtain ⟨ke, k5, k6, hk1, hk2⟩ := al
    have k10 := gi_k10 G hn
    rw [rf_v_eq G mN, rf_v_eq G hn]
    unfold rf_fv
    rw [ke]
    by_cases k0 : gi_k c n = 0
    · rw [if_pos k0, if_pos k0]
      have := hk1 (by omega)
      unfold gi_x
      rw [this]
    rw [if_neg k0, if_neg k0]
    by_cases k1 : gi_k c n = 1
    · rw [if_pos k1, if_pos k1]
      exact hk1 (by omega)
    rw [if_neg k1, if_neg k1, if_neg k5, if_neg k5, if_neg k6, if_neg k6]
    obtain ⟨hx, h8⟩ := hk2 (by omega)
    have hx' : gi_s c (gi_x c m) = gi_s c (gi_x c n) := hx
    have xm := gi_xln G mN (by omega) (by omega)
    have xn := gi_xln G hn (by omega) k5
    have ex : rf_v c M A (gi_x c m) = rf_v c M A (gi_x c n) := by
      rw [← ih (gi_x c m) (by omega) (by omega), ← ih (gi_x c n) (by omega) (by omega), hx']
    rw [ex]
    by_cases k8 : gi_k c n = 8
    · rw [if_neg (by omega), if_neg (by omega), k8, sx_c8, sx_c8]
    obtain ⟨hy, hn5⟩ := h8 k8
    by_cases t : gi_two (gi_k c n)
    · have hy' : gi_s c (gi_y c m) = gi_s c (gi_y c n) := hy t
      have ym := (gi_y5 G mN (by rw [ke]; exact t)).2
      have yn := (gi_y5 G hn t).2
      have ey : rf_v c M A (gi_y c m) = rf_v c M A (gi_y c n) := by
        rw [← ih (gi_y c m) (by omega) (by omega), ← ih (gi_y c n) (by omega) (by omega), hy']
      unfold gi_two at t
      rw [if_neg (by omega), if_neg (by omega), ey]
      exact sx_calc_n (by omega) _ _ _ _ _
    · rw [hn5 t]
      unfold gi_two at t
      by_cases k4 : gi_k c n = 4
      · rw [if_pos k4, if_pos k4]
      · rw [if_neg k4, if_neg k4]
        exact sx_calc_y (by omega) _ _ _ _ _ _
/-! the reference's step -/
noncomputable def rf_fn (c : St1) (f : Nat) : Nat := Classical.epsilon (fun n => n < gi_N c ∧ gi_k c n = 6 ∧ gi_f c n = f)
theorem rf_fn_eq {c : St1} (G : gi_G c) {n : Nat} (hn : n < gi_N c) (k6 : gi_k c n = 6) : rf_fn c (gi_f c n) = n := by
  have h : ∃ m, m < gi_N c ∧ gi_k c m = 6 ∧ gi_f c m = gi_f c n := ⟨n, hn, k6, rfl⟩
  obtain ⟨a, b, d⟩ := Classical.epsilon_spec h
  have : rf_fn c (gi_f c n) = Classical.epsilon (fun m => m < gi_N c ∧ gi_k c m = 6 ∧ gi_f c m = gi_f c n) := rfl
  rw [← this] at a b d
  by_cases e : rf_fn c (gi_f c n) = n
  · exact e
  · exact absurd d (gi_fne G hn a k6 b e)
noncomputable def rf_M (c : St1) (M : Nat → Int32) (A : Nat → Nat) (a : Nat) : Int32 :=
  if 2 ≤ a ∧ a < 6 ∧ uq_a9 c (a - 2) ≠ -1 then rf_v c M A (gi_o c (a - 2))
  else if 8 ≤ a ∧ a < 32 ∧ a - 8 < gi_N c ∧ gi_k c (a - 8) = 5 then rf_v c M A (gi_x c (a - 8))
  else if 32 ≤ a ∧ a < 64 ∧ a = sx_pl (gi_T c) A (8 * ((a - 32) / 8)) ∧ rf_fn c ((a - 32) / 8) < gi_N c ∧ gi_k c (rf_fn c ((a - 32) / 8)) = 6 then rf_v c M A (gi_x c (rf_fn c ((a - 32) / 8)))
  else M a
def rf_A (c : St1) (A : Nat → Nat) (f : Nat) : Nat := if gi_T c f = 0 then A f else (A f + 1) % gi_T c f
/-- the state agrees with the reference where it matters -/
def ag_N (c : St1) (me : Nat → Int32) (ri : Nat → Int32) (M : Nat → Int32) (A : Nat → Nat) : Prop :=
  me 0 = M 0 ∧ me 1 = M 1 ∧ (∀ o, o < 4 → uq_a9 c o ≠ -1 → me (2 + o) = M (2 + o)) ∧
  (∀ n, gi_D c n → gi_k c n = 5 → me (8 + n) = M (8 + n)) ∧
  (∀ n, gi_D c n → gi_k c n = 6 → ri (gi_f c n) = nI (A (gi_f c n)) ∧ ∀ a, 32 + 8 * gi_f c n ≤ a → a < 40 + 8 * gi_f c n → me a = M a)
theorem ag_good {c : St1} {me : Nat → Int32} {ri M : Nat → Int32} {A ρ : Nat → Nat} {rg : Nat → Int32} {ac : Int64} (G : gi_G c) (C : gi_C c) (hal : rn_al c) (h : ag_N c me ri M A)
    (hρ : ∀ n, gi_D c n → gi_k c n = 6 → ρ (gi_f c n) = A (gi_f c n)) : em_good c (rg, ac, me, ρ) (rf_v c M A) := by
  intro n hD
  obtain ⟨hN, h24⟩ := em_D24 G C hD
  obtain ⟨h0, h1, h2, h3, h4⟩ := h
  have k10 := gi_k10 G hN
  rw [rf_v_eq G hN]
  refine (rf_fv_congr (x' := rf_v c M A (gi_s c (gi_x c n))) (y' := rf_v c M A (gi_s c (gi_y c n))) k10 (fun k2 k5 => ?_) (fun t => ?_)).trans ?_
  · have := gi_xlt G hN k2
    exact (rf_same G C hal (gi_x c n + 1) (gi_x c n) (by omega) this).symm
  · have := (gi_y5 G hN t).2
    exact (rf_same G C hal (gi_y c n + 1) (gi_y c n) (by omega) (by omega)).symm
  · show rf_fv c M A n _ _ = rf_fv c me ρ n _ _
    unfold rf_fv
    by_cases k0 : gi_k c n = 0
    · rw [if_pos k0, if_pos k0]
      have := (gi_nd G hN).2.2.2.1 k0
      rcases (show gi_x c n = 0 ∨ gi_x c n = 1 by omega) with q | q
      · rw [q, h0]
      · rw [q, h1]
    rw [if_neg k0, if_neg k0]
    by_cases k1 : gi_k c n = 1
    · rw [if_pos k1, if_pos k1]
    rw [if_neg k1, if_neg k1]
    by_cases k5 : gi_k c n = 5
    · rw [if_pos k5, if_pos k5, h3 n hD k5]
    rw [if_neg k5, if_neg k5]
    by_cases k6 : gi_k c n = 6
    · rw [if_pos k6, if_pos k6]
      obtain ⟨f4, T1, T6⟩ := gi_f4 G hN k6
      obtain ⟨r1, r2⟩ := h4 n hD k6
      have er := hρ n hD k6
      unfold rf_filt
      rw [rf_facc_congr (me' := upd me (sx_pl (gi_T c) ρ (8 * gi_f c n)) (rf_v c M A (gi_s c (gi_x c n)))) (ri' := ρ) T1 T6 er.symm (fun a a1 a2 => ?_) _ (by omega)]
      have pe : sx_pl (gi_T c) A (8 * gi_f c n) = sx_pl (gi_T c) ρ (8 * gi_f c n) := by
        rw [← Nat.add_zero (8 * gi_f c n), sx_pl_fk (by omega), sx_pl_fk (by omega), er]
      rw [pe, nu_upd, nu_upd, r2 a a1 a2]
    rw [if_neg k6, if_neg k6]
/-- a step of the program is a step of the reference -/
theorem ag_step {c : St1} {me : Nat → Int32} {ri ri' me' M : Nat → Int32} {A ρ : Nat → Nat} {rg : Nat → Int32} {ac : Int64} {L : List sx_N} (G : gi_G c) (C : gi_C c) (hal : rn_al c) (hfin : em_fin c L) (h : ag_N c me ri M A)
    (hρ : ∀ n, gi_D c n → gi_k c n = 6 → ρ (gi_f c n) = A (gi_f c n))
    (e1 : ∀ a, a < 96 → me' a = sx_me (sx_run (gi_T c) L (rg, ac, me, ρ)) a) (e2 : ∀ f, f < 4 → ri' f = nI (sx_ri (sx_run (gi_T c) L (rg, ac, me, ρ)) f)) : ag_N c me' ri' (rf_M c M A) (rf_A c A) := by
  have hg := ag_good (rg := rg) (ac := ac) G C hal h hρ
  obtain ⟨⟨f0, f1⟩, f2, f3, f4⟩ := hfin _ _ hg
  have hN24 := gi_n24 G
  have sx0 : sx_me (rg, ac, me, ρ) = me := rfl
  have sx1 : sx_ri (rg, ac, me, ρ) = ρ := rfl
  rw [sx0] at f0 f1
  obtain ⟨h0, h1, h2, h3, h4⟩ := h
  refine ⟨?_, ?_, fun o ho h9 => ?_, fun n hD k5 => ?_, fun n hD k6 => ?_⟩
  · rw [e1 0 (by omega), f0, h0]
    unfold rf_M
    rw [if_neg (by omega), if_neg (by omega), if_neg (by omega)]
  · rw [e1 1 (by omega), f1, h1]
    unfold rf_M
    rw [if_neg (by omega), if_neg (by omega), if_neg (by omega)]
  · rw [e1 _ (by omega), f2 o ho h9]
    have oN : gi_o c o < gi_N c := by
      rcases gi_o9 G ho with q | q
      · exact absurd q h9
      · exact q.2
    rw [rf_same G C hal (gi_o c o + 1) _ (by omega) oN]
    unfold rf_M
    rw [if_pos ⟨by omega, by omega, by rw [show 2 + o - 2 = o by omega]; exact h9⟩, show 2 + o - 2 = o by omega]
  · obtain ⟨hN, h24⟩ := em_D24 G C hD
    have xN := gi_xlt G hN (by omega)
    rw [e1 _ (by omega), f3 n hD k5 hN, rf_same G C hal (gi_x c n + 1) _ (by omega) xN]
    unfold rf_M
    rw [if_neg (by omega), if_pos ⟨by omega, by omega, by omega, by rw [show 8 + n - 8 = n by omega]; exact k5⟩, show 8 + n - 8 = n by omega]
  · obtain ⟨hN, h24⟩ := em_D24 G C hD
    obtain ⟨lt4, T1, T6⟩ := gi_f4 G hN k6
    have xN := gi_xlt G hN (by omega)
    obtain ⟨g1, g2⟩ := f4 n hD k6
    have er := hρ n hD k6
    obtain ⟨r1, r2⟩ := h4 n hD k6
    rw [sx1] at g1 g2
    rw [sx0] at g2
    refine ⟨by rw [e2 _ lt4, g1, er]; unfold rf_A; rw [if_neg (by omega)], fun a a1 a2 => ?_⟩
    have pe : sx_pl (gi_T c) ρ (8 * gi_f c n) = sx_pl (gi_T c) A (8 * gi_f c n) := by
      rw [← Nat.add_zero (8 * gi_f c n), sx_pl_fk (by omega), sx_pl_fk (by omega), er]
    have ea : (a - 32) / 8 = gi_f c n := by omega
    have efn := rf_fn_eq G hN k6
    rw [e1 a (by omega), g2 a a1 a2, rf_same G C hal (gi_x c n + 1) _ (by omega) xN]
    unfold rf_M
    rw [if_neg (by omega), if_neg (by omega), ea, efn, pe]
    by_cases eq : a = sx_pl (gi_T c) A (8 * gi_f c n)
    · rw [if_pos ⟨by omega, by omega, eq, hN, k6⟩, nu_us eq]
    · rw [if_neg (fun z => eq z.2.2.1), pk_un eq, r2 a a1 a2]
end
section
/-! the graph alone -/
abbrev rn_T : Type := Int32 × Int32 × (Nat → Int32) × (Nat → Int32) × (Nat → Int32) × (Nat → Int32) × (Nat → Int32) × (Nat → Int32) × (Nat → Int32) × (Nat → Int32) × (Nat → Int32)
def rn_g (u : St1) : rn_T := (uq_nc u, uq_fc u, uq_a1 u, uq_a2 u, uq_a3 u, uq_a4 u, uq_a5 u, uq_a6 u, uq_a7 u, uq_a8 u, uq_a9 u)
def rn_c (g : rn_T) : St1 := (g.1, g.2.1, 0, 0, 0, 0, 0, 0, 0, 0, 0, g.2.2.1, g.2.2.2.1, g.2.2.2.2.1, g.2.2.2.2.2.1, g.2.2.2.2.2.2.1, g.2.2.2.2.2.2.2.1, g.2.2.2.2.2.2.2.2.1, g.2.2.2.2.2.2.2.2.2.1, g.2.2.2.2.2.2.2.2.2.2, fun _ => 0, fun _ => 0, fun _ => 0, fun _ => 0, fun _ => 0, fun _ => 0, fun _ => 0, fun _ => 0, fun _ => 0, fun _ => 0, fun _ => 0, fun _ => 0, fun _ => 0, fun _ => 0, fun _ => 0, fun _ => 0, fun _ => 0)
theorem rf_fv_canon (c : St1) (M : Nat → Int32) (A : Nat → Nat) (n : Nat) (x y : Int32) : rf_fv (rn_c (rn_g c)) M A n x y = rf_fv c M A n x y := by
  have hf : ∀ (me : Nat → Int32) (f k : Nat), rf_facc (rn_c (rn_g c)) me A f k = rf_facc c me A f k := by
    intro me f k
    induction k with
    | zero => rfl
    | succ k ih =>
      show rf_facc (rn_c (rn_g c)) me A f k + _ = rf_facc c me A f k + _
      rw [ih]
      rfl
  unfold rf_fv rf_filt
  rw [hf]
  rfl
theorem rf_vs_canon (c : St1) (M : Nat → Int32) (A : Nat → Nat) (k : Nat) : rf_vs (rn_c (rn_g c)) M A k = rf_vs c M A k := by
  induction k with
  | zero => rfl
  | succ k ih =>
    show upd (rf_vs (rn_c (rn_g c)) M A k) k (rf_fv (rn_c (rn_g c)) M A k (rf_vs (rn_c (rn_g c)) M A k (gi_x c k)) (rf_vs (rn_c (rn_g c)) M A k (gi_y c k))) = _
    rw [ih, rf_fv_canon]
    rfl
theorem rf_v_canon (c : St1) (M : Nat → Int32) (A : Nat → Nat) : rf_v (rn_c (rn_g c)) M A = rf_v c M A := by
  funext n
  unfold rf_v
  rw [rf_vs_canon]
theorem rf_M_canon (c : St1) (M : Nat → Int32) (A : Nat → Nat) : rf_M (rn_c (rn_g c)) M A = rf_M c M A := by
  funext a
  unfold rf_M
  rw [rf_v_canon]
  rfl
noncomputable def rf_it (g : rn_T) : Nat → (Nat → Int32) × (Nat → Nat) → (Nat → Int32) × (Nat → Nat)
  | 0, s => s
  | k + 1, s => (rf_M (rn_c g) (rf_it g k s).1 (rf_it g k s).2, rf_A (rn_c g) (rf_it g k s).2)
/-! the state between runs: only what matters of it -/
def rn_m (u : St1) : St1 := (uq_nc u, uq_fc u, 0, 0, uq_nd u, 0, 0, 0, 0, 0, 0, fun _ => 0, fun _ => 0, uq_a3 u, uq_a4 u, uq_a5 u, uq_a6 u, uq_a7 u, uq_a8 u, uq_a9 u, uq_a10 u, fun _ => 0, fun _ => 0, fun _ => 0, fun _ => 0, fun _ => 0, fun _ => 0, fun _ => 0, fun _ => 0, fun _ => 0, fun _ => 0, fun _ => 0, fun _ => 0, fun _ => 0, fun _ => 0, fun _ => 0, fun _ => 0)
def rn_n (u : St1) : St1 := (0, 0, 0, 0, 0, 0, uq_le u, uq_wc u, 0, 0, 0, fun _ => 0, fun _ => 0, fun _ => 0, fun _ => 0, fun _ => 0, fun _ => 0, uq_a7 u, fun _ => 0, fun _ => 0, fun _ => 0, fun _ => 0, fun _ => 0, fun _ => 0, uq_a14 u, uq_a15 u, uq_a16 u, uq_a17 u, uq_a18 u, uq_a19 u, uq_a20 u, fun _ => 0, fun _ => 0, fun _ => 0, fun _ => 0, fun _ => 0, fun _ => 0)
theorem rf_fv_m (c : St1) (M : Nat → Int32) (A : Nat → Nat) (n : Nat) (x y : Int32) : rf_fv (rn_m c) M A n x y = rf_fv c M A n x y := by
  have hf : ∀ (me : Nat → Int32) (f k : Nat), rf_facc (rn_m c) me A f k = rf_facc c me A f k := by
    intro me f k
    induction k with
    | zero => rfl
    | succ k ih =>
      show rf_facc (rn_m c) me A f k + _ = rf_facc c me A f k + _
      rw [ih]
      rfl
  unfold rf_fv rf_filt
  rw [hf]
  rfl
theorem rf_vs_m (c : St1) (M : Nat → Int32) (A : Nat → Nat) (k : Nat) : rf_vs (rn_m c) M A k = rf_vs c M A k := by
  induction k with
  | zero => rfl
  | succ k ih =>
    show upd (rf_vs (rn_m c) M A k) k (rf_fv (rn_m c) M A k (rf_vs (rn_m c) M A k (gi_x c k)) (rf_vs (rn_m c) M A k (gi_y c k))) = _
    rw [ih, rf_fv_m]
    rfl
theorem rf_M_m (c : St1) (M : Nat → Int32) (A : Nat → Nat) : rf_M (rn_m c) M A = rf_M c M A := by
  have e : rf_v (rn_m c) M A = rf_v c M A := by
    funext n
    unfold rf_v
    rw [rf_vs_m]
  funext a
  unfold rf_M
  rw [e]
  rfl
theorem em_fin_m {c : St1} {L : List sx_N} (h : em_fin c L) : em_fin (rn_m c) L := by
  intro s0 v hg
  have hg' : em_good c s0 v := by
    intro n hD
    have := hg n hD
    rw [rf_fv_m] at this
    exact this
  exact h s0 v hg'
def rn_Q (a b : St1) : Prop := gi_C a ∧ rn_al a ∧ ∃ L K, zw_P b L K ∧ em_fin a L
def rn_S (T : Nat → Nat) (ri : Nat → Int32) (A : Nat → Nat) : Prop := (∀ f, f < 4 → ri f = nI (ri f).toNatClampNeg) ∧ zw_rin T (fun f => (ri f).toNatClampNeg) ∧ zw_rin T A
def rn_JJ (a b : St1) (cp : Int32) (me ri M : Nat → Int32) (A : Nat → Nat) : Prop := gi_G a ∧ rn_S (gi_T a) ri A ∧ cp ≠ 0 ∧ rn_Q a b ∧ ag_N a me ri M A
def rn_FF (a : St1) (cp : Int32) (me ri M : Nat → Int32) (A : Nat → Nat) : Prop := gi_G a ∧ rn_S (gi_T a) ri A ∧ cp = 0 ∧ (∀ x, x < 96 → me x = M x) ∧ ∀ f, f < 4 → ri f = nI (A f)
def rn_J (u : St1) (M : Nat → Int32) (A : Nat → Nat) : Prop := rn_JJ (rn_m u) (rn_n u) (uq_cp u) (uq_a21 u) (uq_a22 u) M A
def rn_F (u : St1) (M : Nat → Int32) (A : Nat → Nat) : Prop := rn_FF (rn_m u) (uq_cp u) (uq_a21 u) (uq_a22 u) M A
def rn_I (u : St1) (M : Nat → Int32) (A : Nat → Nat) : Prop := (∃ lv, uq_lv u = nI lv ∧ lv ≤ 2) ∧ (rn_J u M A ∨ rn_F u M A)
theorem gi_Gm {u : St1} (h : gi_G (rn_m u)) : gi_G u := h
theorem gi_mG {u : St1} (h : gi_G u) : gi_G (rn_m u) := h
theorem zw_Pn {u : St1} {L : List sx_N} {K : Nat} (h : zw_P (rn_n u) L K) : zw_P u L K := h
theorem zw_nP {u : St1} {L : List sx_N} {K : Nat} (h : zw_P u L K) : zw_P (rn_n u) L K := h
theorem rn_I_G {u : St1} {M : Nat → Int32} {A : Nat → Nat} (h : rn_I u M A) : gi_G u := by
  rcases h.2 with q | q
  · exact gi_Gm q.1
  · exact gi_Gm q.1
end
section
/-! compile -/
theorem gi_C_of {u : St1} {sa : Nat → Int32} {nd : Int32} (hI : fs_I (uq_nc u, uq_fc u, uq_lv u, 1, uq_nd u, uq_pn u, uq_le u, uq_wc u, uq_ac u, uq_dc u, uq_sc u, uq_a1 u, uq_a2 u, uq_a3 u, uq_a4 u, uq_a5 u, uq_a6 u, uq_a7 u, uq_a8 u, uq_a9 u, uq_a10 u, uq_a11 u, uq_a12 u, uq_a13 u, uq_a14 u, uq_a15 u, uq_a16 u, uq_a17 u, uq_a18 u, uq_a19 u, uq_a20 u, uq_a21 u, uq_a22 u, uq_a23 u, uq_a24 u, uq_a25 u, uq_a26 u) (gi_N u) sa) (hF : fn_F (uq_nc u, uq_fc u, uq_lv u, 1, uq_nd u, uq_pn u, uq_le u, uq_wc u, uq_ac u, uq_dc u, uq_sc u, uq_a1 u, uq_a2 u, uq_a3 u, uq_a4 u, uq_a5 u, uq_a6 u, uq_a7 u, uq_a8 u, uq_a9 u, sa, uq_a11 u, uq_a12 u, uq_a13 u, uq_a14 u, uq_a15 u, uq_a16 u, uq_a17 u, uq_a18 u, uq_a19 u, uq_a20 u, uq_a21 u, uq_a22 u, uq_a23 u, uq_a24 u, uq_a25 u, uq_a26 u) nd) : gi_C (em_ctx u sa nd) := by
  refine ⟨fun n hn => ?_, hF.1, fun n hD k2 => hF.2.2 n (Nat.zero_le _) hD k2, hF.2.1⟩
  obtain ⟨h1, h2, h3, h4, h5⟩ := hI n hn
  refine ⟨h1, h2, ?_, h3⟩
  rcases h4 with q | q
  · have q' : gi_s (em_ctx u sa nd) n = n := q
    rw [q']
  · exact q.1
theorem gi_Cm {u : St1} (h : gi_C u) : gi_C (rn_m u) := h
theorem rn_alm {u : St1} (h : rn_al u) : rn_al (rn_m u) := h
theorem cp_unf {post : St1 → Prop} {u : St1} (h : wpX_findSame (fun v => wpX_findNeeded (fun w => ∃ fu, wX_compile_25 post (uq_nc w) (uq_fc w) (uq_lv w) (uq_cp w) (uq_nd w) 0 0 (uq_wc w) (uq_ac w) (uq_dc w) (uq_sc w) fu 0 (uq_a1 w) (uq_a2 w) (uq_a3 w) (uq_a4 w) (uq_a5 w) (uq_a6 w) (uq_a7 w) (uq_a8 w) (uq_a9 w) (uq_a10 w) (uq_a11 w) (uq_a12 w) (uq_a13 w) (uq_a14 w) (uq_a15 w) (uq_a16 w) (uq_a17 w) (uq_a18 w) (uq_a19 w) (uq_a20 w) (uq_a21 w) (uq_a22 w) (uq_a23 w) (uq_a24 w) (uq_a25 w) (uq_a26 w)) v) (uq_nc u, uq_fc u, uq_lv u, 1, uq_nd u, uq_pn u, uq_le u, uq_wc u, uq_ac u, uq_dc u, uq_sc u, uq_a1 u, uq_a2 u, uq_a3 u, uq_a4 u, uq_a5 u, uq_a6 u, uq_a7 u, uq_a8 u, uq_a9 u, uq_a10 u, uq_a11 u, uq_a12 u, uq_a13 u, uq_a14 u, uq_a15 u, uq_a16 u, uq_a17 u, uq_a18 u, uq_a19 u, uq_a20 u, uq_a21 u, uq_a22 u, uq_a23 u, uq_a24 u, uq_a25 u, uq_a26 u)) : wpX_compile post u := by
  obtain ⟨nc, fc, lv, cp, nd, pn, le, wc, ac, dc, sc, a1, a2, a3, a4, a5, a6, a7, a8, a9, a10, a11, a12, a13, a14, a15, a16, a17, a18, a19, a20, a21, a22, a23, a24, a25, a26⟩ := u
  exact h
theorem cp_end {u : St1} {sa : Nat → Int32} {nd : Int32} {e' : em_E} {L' : List sx_N} {K : Nat} {wo ws M : Nat → Int32} {A : Nat → Nat} (G : gi_G u) (C : gi_C (em_ctx u sa nd)) (al : rn_al (em_ctx u sa nd)) (R : rn_S (gi_T (rn_m u)) (uq_a22 u) A)
    (hM : ∀ x, x < 96 → uq_a21 u x = M x) (hA : ∀ f, f < 4 → uq_a22 u f = nI (A f)) (r1 : em_rep e' L') (w1 : ∀ x, x ∈ L' → sx_wf (gi_T (em_ctx u sa nd)) x) (l1 : L'.length ≤ 300) (f1 : em_fin (em_ctx u sa nd) L') (I1 : sd_I L' L'.length K wo ws) :
    rn_J (uq_nc (em_mk (em_ctx u sa nd) e'), uq_fc (em_mk (em_ctx u sa nd) e'), uq_lv (em_mk (em_ctx u sa nd) e'), uq_cp (em_mk (em_ctx u sa nd) e'), uq_nd (em_mk (em_ctx u sa nd) e'), uq_pn (em_mk (em_ctx u sa nd) e'), uq_le (em_mk (em_ctx u sa nd) e'), nI K, uq_ac (em_mk (em_ctx u sa nd) e'), uq_dc (em_mk (em_ctx u sa nd) e'), uq_sc (em_mk (em_ctx u sa nd) e'), uq_a1 (em_mk (em_ctx u sa nd) e'), uq_a2 (em_mk (em_ctx u sa nd) e'), uq_a3 (em_mk (em_ctx u sa nd) e'), uq_a4 (em_mk (em_ctx u sa nd) e'), uq_a5 (em_mk (em_ctx u sa nd) e'), uq_a6 (em_mk (em_ctx u sa nd) e'), uq_a7 (em_mk (em_ctx u sa nd) e'), uq_a8 (em_mk (em_ctx u sa nd) e'), uq_a9 (em_mk (em_ctx u sa nd) e'), uq_a10 (em_mk (em_ctx u sa nd) e'), uq_a11 (em_mk (em_ctx u sa nd) e'), uq_a12 (em_mk (em_ctx u sa nd) e'), uq_a13 (em_mk (em_ctx u sa nd) e'), uq_a14 (em_mk (em_ctx u sa nd) e'), uq_a15 (em_mk (em_ctx u sa nd) e'), uq_a16 (em_mk (em_ctx u sa nd) e'), uq_a17 (em_mk (em_ctx u sa nd) e'), uq_a18 (em_mk (em_ctx u sa nd) e'), wo, ws, uq_a21 (em_mk (em_ctx u sa nd) e'), uq_a22 (em_mk (em_ctx u sa nd) e'), uq_a23 (em_mk (em_ctx u sa nd) e'), uq_a24 (em_mk (em_ctx u sa nd) e'), uq_a25 (em_mk (em_ctx u sa nd) e'), uq_a26 (em_mk (em_ctx u sa nd) e')) M A := by
  have cd := sd_code_of (c := em_ctx u sa nd) r1 w1 l1
  have P1 : zw_P (uq_nc (em_mk (em_ctx u sa nd) e'), uq_fc (em_mk (em_ctx u sa nd) e'), uq_lv (em_mk (em_ctx u sa nd) e'), uq_cp (em_mk (em_ctx u sa nd) e'), uq_nd (em_mk (em_ctx u sa nd) e'), uq_pn (em_mk (em_ctx u sa nd) e'), uq_le (em_mk (em_ctx u sa nd) e'), nI K, uq_ac (em_mk (em_ctx u sa nd) e'), uq_dc (em_mk (em_ctx u sa nd) e'), uq_sc (em_mk (em_ctx u sa nd) e'), uq_a1 (em_mk (em_ctx u sa nd) e'), uq_a2 (em_mk (em_ctx u sa nd) e'), uq_a3 (em_mk (em_ctx u sa nd) e'), uq_a4 (em_mk (em_ctx u sa nd) e'), uq_a5 (em_mk (em_ctx u sa nd) e'), uq_a6 (em_mk (em_ctx u sa nd) e'), uq_a7 (em_mk (em_ctx u sa nd) e'), uq_a8 (em_mk (em_ctx u sa nd) e'), uq_a9 (em_mk (em_ctx u sa nd) e'), uq_a10 (em_mk (em_ctx u sa nd) e'), uq_a11 (em_mk (em_ctx u sa nd) e'), uq_a12 (em_mk (em_ctx u sa nd) e'), uq_a13 (em_mk (em_ctx u sa nd) e'), uq_a14 (em_mk (em_ctx u sa nd) e'), uq_a15 (em_mk (em_ctx u sa nd) e'), uq_a16 (em_mk (em_ctx u sa nd) e'), uq_a17 (em_mk (em_ctx u sa nd) e'), uq_a18 (em_mk (em_ctx u sa nd) e'), wo, ws, uq_a21 (em_mk (em_ctx u sa nd) e'), uq_a22 (em_mk (em_ctx u sa nd) e'), uq_a23 (em_mk (em_ctx u sa nd) e'), uq_a24 (em_mk (em_ctx u sa nd) e'), uq_a25 (em_mk (em_ctx u sa nd) e'), uq_a26 (em_mk (em_ctx u sa nd) e')) L' K := ⟨cd, w1, rfl, I1⟩
  have Q1 : rn_Q (rn_m (em_ctx u sa nd)) (rn_n (uq_nc (em_mk (em_ctx u sa nd) e'), uq_fc (em_mk (em_ctx u sa nd) e'), uq_lv (em_mk (em_ctx u sa nd) e'), uq_cp (em_mk (em_ctx u sa nd) e'), uq_nd (em_mk (em_ctx u sa nd) e'), uq_pn (em_mk (em_ctx u sa nd) e'), uq_le (em_mk (em_ctx u sa nd) e'), nI K, uq_ac (em_mk (em_ctx u sa nd) e'), uq_dc (em_mk (em_ctx u sa nd) e'), uq_sc (em_mk (em_ctx u sa nd) e'), uq_a1 (em_mk (em_ctx u sa nd) e'), uq_a2 (em_mk (em_ctx u sa nd) e'), uq_a3 (em_mk (em_ctx u sa nd) e'), uq_a4 (em_mk (em_ctx u sa nd) e'), uq_a5 (em_mk (em_ctx u sa nd) e'), uq_a6 (em_mk (em_ctx u sa nd) e'), uq_a7 (em_mk (em_ctx u sa nd) e'), uq_a8 (em_mk (em_ctx u sa nd) e'), uq_a9 (em_mk (em_ctx u sa nd) e'), uq_a10 (em_mk (em_ctx u sa nd) e'), uq_a11 (em_mk (em_ctx u sa nd) e'), uq_a12 (em_mk (em_ctx u sa nd) e'), uq_a13 (em_mk (em_ctx u sa nd) e'), uq_a14 (em_mk (em_ctx u sa nd) e'), uq_a15 (em_mk (em_ctx u sa nd) e'), uq_a16 (em_mk (em_ctx u sa nd) e'), uq_a17 (em_mk (em_ctx u sa nd) e'), uq_a18 (em_mk (em_ctx u sa nd) e'), wo, ws, uq_a21 (em_mk (em_ctx u sa nd) e'), uq_a22 (em_mk (em_ctx u sa nd) e'), uq_a23 (em_mk (em_ctx u sa nd) e'), uq_a24 (em_mk (em_ctx u sa nd) e'), uq_a25 (em_mk (em_ctx u sa nd) e'), uq_a26 (em_mk (em_ctx u sa nd) e'))) := ⟨gi_Cm C, rn_alm al, L', K, zw_nP P1, em_fin_m f1⟩
  have Gm : gi_G (rn_m (em_ctx u sa nd)) := G
  have ag1 : ag_N (rn_m (em_ctx u sa nd)) (uq_a21 u) (uq_a22 u) M A := by
    refine ⟨hM 0 (by omega), hM 1 (by omega), fun o ho _ => hM _ (by omega), fun n hD _ => ?_, fun n hD k6 => ?_⟩
    · have := (em_D24 (c := rn_m (em_ctx u sa nd)) Gm (gi_Cm C) hD).2
      exact hM _ (by omega)
    · have f4 := (gi_f4 (c := rn_m (em_ctx u sa nd)) Gm (em_D24 (c := rn_m (em_ctx u sa nd)) Gm (gi_Cm C) hD).1 k6).1
      exact ⟨hA _ f4, fun a a1 a2 => hM _ (by omega)⟩
  have R' : rn_S (gi_T (rn_m (em_ctx u sa nd))) (uq_a22 u) A := R
  have J1 : rn_JJ (rn_m (em_ctx u sa nd)) (rn_n (uq_nc (em_mk (em_ctx u sa nd) e'), uq_fc (em_mk (em_ctx u sa nd) e'), uq_lv (em_mk (em_ctx u sa nd) e'), uq_cp (em_mk (em_ctx u sa nd) e'), uq_nd (em_mk (em_ctx u sa nd) e'), uq_pn (em_mk (em_ctx u sa nd) e'), uq_le (em_mk (em_ctx u sa nd) e'), nI K, uq_ac (em_mk (em_ctx u sa nd) e'), uq_dc (em_mk (em_ctx u sa nd) e'), uq_sc (em_mk (em_ctx u sa nd) e'), uq_a1 (em_mk (em_ctx u sa nd) e'), uq_a2 (em_mk (em_ctx u sa nd) e'), uq_a3 (em_mk (em_ctx u sa nd) e'), uq_a4 (em_mk (em_ctx u sa nd) e'), uq_a5 (em_mk (em_ctx u sa nd) e'), uq_a6 (em_mk (em_ctx u sa nd) e'), uq_a7 (em_mk (em_ctx u sa nd) e'), uq_a8 (em_mk (em_ctx u sa nd) e'), uq_a9 (em_mk (em_ctx u sa nd) e'), uq_a10 (em_mk (em_ctx u sa nd) e'), uq_a11 (em_mk (em_ctx u sa nd) e'), uq_a12 (em_mk (em_ctx u sa nd) e'), uq_a13 (em_mk (em_ctx u sa nd) e'), uq_a14 (em_mk (em_ctx u sa nd) e'), uq_a15 (em_mk (em_ctx u sa nd) e'), uq_a16 (em_mk (em_ctx u sa nd) e'), uq_a17 (em_mk (em_ctx u sa nd) e'), uq_a18 (em_mk (em_ctx u sa nd) e'), wo, ws, uq_a21 (em_mk (em_ctx u sa nd) e'), uq_a22 (em_mk (em_ctx u sa nd) e'), uq_a23 (em_mk (em_ctx u sa nd) e'), uq_a24 (em_mk (em_ctx u sa nd) e'), uq_a25 (em_mk (em_ctx u sa nd) e'), uq_a26 (em_mk (em_ctx u sa nd) e'))) 1 (uq_a21 u) (uq_a22 u) M A := ⟨Gm, R', by decide, Q1, ag1⟩
  have e1 : rn_m (uq_nc (em_mk (em_ctx u sa nd) e'), uq_fc (em_mk (em_ctx u sa nd) e'), uq_lv (em_mk (em_ctx u sa nd) e'), uq_cp (em_mk (em_ctx u sa nd) e'), uq_nd (em_mk (em_ctx u sa nd) e'), uq_pn (em_mk (em_ctx u sa nd) e'), uq_le (em_mk (em_ctx u sa nd) e'), nI K, uq_ac (em_mk (em_ctx u sa nd) e'), uq_dc (em_mk (em_ctx u sa nd) e'), uq_sc (em_mk (em_ctx u sa nd) e'), uq_a1 (em_mk (em_ctx u sa nd) e'), uq_a2 (em_mk (em_ctx u sa nd) e'), uq_a3 (em_mk (em_ctx u sa nd) e'), uq_a4 (em_mk (em_ctx u sa nd) e'), uq_a5 (em_mk (em_ctx u sa nd) e'), uq_a6 (em_mk (em_ctx u sa nd) e'), uq_a7 (em_mk (em_ctx u sa nd) e'), uq_a8 (em_mk (em_ctx u sa nd) e'), uq_a9 (em_mk (em_ctx u sa nd) e'), uq_a10 (em_mk (em_ctx u sa nd) e'), uq_a11 (em_mk (em_ctx u sa nd) e'), uq_a12 (em_mk (em_ctx u sa nd) e'), uq_a13 (em_mk (em_ctx u sa nd) e'), uq_a14 (em_mk (em_ctx u sa nd) e'), uq_a15 (em_mk (em_ctx u sa nd) e'), uq_a16 (em_mk (em_ctx u sa nd) e'), uq_a17 (em_mk (em_ctx u sa nd) e'), uq_a18 (em_mk (em_ctx u sa nd) e'), wo, ws, uq_a21 (em_mk (em_ctx u sa nd) e'), uq_a22 (em_mk (em_ctx u sa nd) e'), uq_a23 (em_mk (em_ctx u sa nd) e'), uq_a24 (em_mk (em_ctx u sa nd) e'), uq_a25 (em_mk (em_ctx u sa nd) e'), uq_a26 (em_mk (em_ctx u sa nd) e')) = rn_m (em_ctx u sa nd) := rfl
  unfold rn_J
  rw [e1]
  exact J1
theorem cp_need {post : St1 → Prop} {u : St1} {sa : Nat → Int32} {lv : Nat} (hlv : uq_lv u = nI lv) (hl2 : lv ≤ 2) (G : gi_G u) (hI : fs_I (uq_nc u, uq_fc u, uq_lv u, 1, uq_nd u, uq_pn u, uq_le u, uq_wc u, uq_ac u, uq_dc u, uq_sc u, uq_a1 u, uq_a2 u, uq_a3 u, uq_a4 u, uq_a5 u, uq_a6 u, uq_a7 u, uq_a8 u, uq_a9 u, uq_a10 u, uq_a11 u, uq_a12 u, uq_a13 u, uq_a14 u, uq_a15 u, uq_a16 u, uq_a17 u, uq_a18 u, uq_a19 u, uq_a20 u, uq_a21 u, uq_a22 u, uq_a23 u, uq_a24 u, uq_a25 u, uq_a26 u) (gi_N u) sa)
    (hp : ∀ nd e' L' K wo ws, gi_C (em_ctx u sa nd) → em_rep e' L' → (∀ x, x ∈ L' → sx_wf (gi_T (em_ctx u sa nd)) x) → L'.length ≤ 300 → em_fin (em_ctx u sa nd) L' → sd_I L' L'.length K wo ws → post (uq_nc (em_mk (em_ctx u sa nd) e'), uq_fc (em_mk (em_ctx u sa nd) e'), uq_lv (em_mk (em_ctx u sa nd) e'), uq_cp (em_mk (em_ctx u sa nd) e'), uq_nd (em_mk (em_ctx u sa nd) e'), uq_pn (em_mk (em_ctx u sa nd) e'), uq_le (em_mk (em_ctx u sa nd) e'), nI K, uq_ac (em_mk (em_ctx u sa nd) e'), uq_dc (em_mk (em_ctx u sa nd) e'), uq_sc (em_mk (em_ctx u sa nd) e'), uq_a1 (em_mk (em_ctx u sa nd) e'), uq_a2 (em_mk (em_ctx u sa nd) e'), uq_a3 (em_mk (em_ctx u sa nd) e'), uq_a4 (em_mk (em_ctx u sa nd) e'), uq_a5 (em_mk (em_ctx u sa nd) e'), uq_a6 (em_mk (em_ctx u sa nd) e'), uq_a7 (em_mk (em_ctx u sa nd) e'), uq_a8 (em_mk (em_ctx u sa nd) e'), uq_a9 (em_mk (em_ctx u sa nd) e'), uq_a10 (em_mk (em_ctx u sa nd) e'), uq_a11 (em_mk (em_ctx u sa nd) e'), uq_a12 (em_mk (em_ctx u sa nd) e'), uq_a13 (em_mk (em_ctx u sa nd) e'), uq_a14 (em_mk (em_ctx u sa nd) e'), uq_a15 (em_mk (em_ctx u sa nd) e'), uq_a16 (em_mk (em_ctx u sa nd) e'), uq_a17 (em_mk (em_ctx u sa nd) e'), uq_a18 (em_mk (em_ctx u sa nd) e'), wo, ws, uq_a21 (em_mk (em_ctx u sa nd) e'), uq_a22 (em_mk (em_ctx u sa nd) e'), uq_a23 (em_mk (em_ctx u sa nd) e'), uq_a24 (em_mk (em_ctx u sa nd) e'), uq_a25 (em_mk (em_ctx u sa nd) e'), uq_a26 (em_mk (em_ctx u sa nd) e'))) :
    wpX_findNeeded (fun w => ∃ fu, wX_compile_25 post (uq_nc w) (uq_fc w) (uq_lv w) (uq_cp w) (uq_nd w) 0 0 (uq_wc w) (uq_ac w) (uq_dc w) (uq_sc w) fu 0 (uq_a1 w) (uq_a2 w) (uq_a3 w) (uq_a4 w) (uq_a5 w) (uq_a6 w) (uq_a7 w) (uq_a8 w) (uq_a9 w) (uq_a10 w) (uq_a11 w) (uq_a12 w) (uq_a13 w) (uq_a14 w) (uq_a15 w) (uq_a16 w) (uq_a17 w) (uq_a18 w) (uq_a19 w) (uq_a20 w) (uq_a21 w) (uq_a22 w) (uq_a23 w) (uq_a24 w) (uq_a25 w) (uq_a26 w)) (uq_nc u, uq_fc u, uq_lv u, 1, uq_nd u, uq_pn u, uq_le u, uq_wc u, uq_ac u, uq_dc u, uq_sc u, uq_a1 u, uq_a2 u, uq_a3 u, uq_a4 u, uq_a5 u, uq_a6 u, uq_a7 u, uq_a8 u, uq_a9 u, sa, uq_a11 u, uq_a12 u, uq_a13 u, uq_a14 u, uq_a15 u, uq_a16 u, uq_a17 u, uq_a18 u, uq_a19 u, uq_a20 u, uq_a21 u, uq_a22 u, uq_a23 u, uq_a24 u, uq_a25 u, uq_a26 u) := by
  have S : fn_S (uq_nc u, uq_fc u, uq_lv u, 1, uq_nd u, uq_pn u, uq_le u, uq_wc u, uq_ac u, uq_dc u, uq_sc u, uq_a1 u, uq_a2 u, uq_a3 u, uq_a4 u, uq_a5 u, uq_a6 u, uq_a7 u, uq_a8 u, uq_a9 u, sa, uq_a11 u, uq_a12 u, uq_a13 u, uq_a14 u, uq_a15 u, uq_a16 u, uq_a17 u, uq_a18 u, uq_a19 u, uq_a20 u, uq_a21 u, uq_a22 u, uq_a23 u, uq_a24 u, uq_a25 u, uq_a26 u) := fun n hn => ⟨(hI n hn).1, (hI n hn).2.1, (hI n hn).2.2.1⟩
  have G1 : gi_G (uq_nc u, uq_fc u, uq_lv u, 1, uq_nd u, uq_pn u, uq_le u, uq_wc u, uq_ac u, uq_dc u, uq_sc u, uq_a1 u, uq_a2 u, uq_a3 u, uq_a4 u, uq_a5 u, uq_a6 u, uq_a7 u, uq_a8 u, uq_a9 u, sa, uq_a11 u, uq_a12 u, uq_a13 u, uq_a14 u, uq_a15 u, uq_a16 u, uq_a17 u, uq_a18 u, uq_a19 u, uq_a20 u, uq_a21 u, uq_a22 u, uq_a23 u, uq_a24 u, uq_a25 u, uq_a26 u) := G
  refine fn_needed (c := (uq_nc u, uq_fc u, uq_lv u, 1, uq_nd u, uq_pn u, uq_le u, uq_wc u, uq_ac u, uq_dc u, uq_sc u, uq_a1 u, uq_a2 u, uq_a3 u, uq_a4 u, uq_a5 u, uq_a6 u, uq_a7 u, uq_a8 u, uq_a9 u, sa, uq_a11 u, uq_a12 u, uq_a13 u, uq_a14 u, uq_a15 u, uq_a16 u, uq_a17 u, uq_a18 u, uq_a19 u, uq_a20 u, uq_a21 u, uq_a22 u, uq_a23 u, uq_a24 u, uq_a25 u, uq_a26 u)) G1 S (fun z n hn => (hI n hn).2.2.2.2 ?_) (fun nd hF => ?_)
  · have z' : uq_lv u = 0 := z
    show uq_lv u < 2
    rw [z']
    decide
  · have C := gi_C_of hI hF
    have G2 : gi_G (em_ctx u sa nd) := G
    have h2 : uq_lv (em_ctx u sa nd) = nI lv := hlv
    have H := em_25 (post := post) (c := em_ctx u sa nd) (e := (0, 0, uq_a11 u, uq_a12 u, uq_a13 u, uq_a14 u, uq_a15 u, uq_a16 u, uq_a17 u, uq_a18 u)) G2 C h2 hl2 rfl rfl (fun e' L' K wo ws r1 w1 l1 f1 I1 => hp nd e' L' K wo ws C r1 w1 l1 f1 I1)
    exact H
theorem rn_compile {post : St1 → Prop} {u : St1} {M : Nat → Int32} {A : Nat → Nat} {lv : Nat} (hlv : uq_lv u = nI lv) (hl2 : lv ≤ 2) (h : rn_F u M A)
    (hp : ∀ u', rn_g u' = rn_g u → uq_lv u' = uq_lv u → uq_sc u' = uq_sc u → rn_J u' M A → post u') : wpX_compile post u := by
  obtain ⟨Gm, R, hc, hM, hA⟩ := h
  have G := gi_Gm Gm
  have G1 : gi_G (uq_nc u, uq_fc u, uq_lv u, 1, uq_nd u, uq_pn u, uq_le u, uq_wc u, uq_ac u, uq_dc u, uq_sc u, uq_a1 u, uq_a2 u, uq_a3 u, uq_a4 u, uq_a5 u, uq_a6 u, uq_a7 u, uq_a8 u, uq_a9 u, uq_a10 u, uq_a11 u, uq_a12 u, uq_a13 u, uq_a14 u, uq_a15 u, uq_a16 u, uq_a17 u, uq_a18 u, uq_a19 u, uq_a20 u, uq_a21 u, uq_a22 u, uq_a23 u, uq_a24 u, uq_a25 u, uq_a26 u) := G
  refine cp_unf (fs_same (c := (uq_nc u, uq_fc u, uq_lv u, 1, uq_nd u, uq_pn u, uq_le u, uq_wc u, uq_ac u, uq_dc u, uq_sc u, uq_a1 u, uq_a2 u, uq_a3 u, uq_a4 u, uq_a5 u, uq_a6 u, uq_a7 u, uq_a8 u, uq_a9 u, uq_a10 u, uq_a11 u, uq_a12 u, uq_a13 u, uq_a14 u, uq_a15 u, uq_a16 u, uq_a17 u, uq_a18 u, uq_a19 u, uq_a20 u, uq_a21 u, uq_a22 u, uq_a23 u, uq_a24 u, uq_a25 u, uq_a26 u)) G1 (fun sa hI => ?_))
  have al : ∀ nd, rn_al (em_ctx u sa nd) := fun nd n hn => (hI n hn).2.2.2.1
  exact cp_need hlv hl2 G hI (fun nd e' L' K wo ws C r1 w1 l1 f1 I1 => hp _ rfl rfl rfl (cp_end G C (al nd) R hM hA r1 w1 l1 f1 I1))
end
section
/-! step and run -/
theorem rn_step {post : St1 → Prop} {u : St1} {M : Nat → Int32} {A : Nat → Nat} (h : rn_J u M A)
    (hp : ∀ u', rn_g u' = rn_g u → uq_lv u' = uq_lv u → uq_sc u' = uq_sc u → rn_J u' (rf_M (rn_m u) M A) (rf_A (rn_m u) A) → post u') : wpX_step post u := by
  obtain ⟨G, ⟨R1, R2, R3⟩, hc, ⟨C, al, L, K, P, fin⟩, ag⟩ := h
  have eT : gi_T (rn_m u) = gi_T u := rfl
  have P' := zw_Pn P
  refine zw_step (ri := fun f => (uq_a22 u f).toNatClampNeg) P' R1 R2 (fun m e1 e2 => ?_)
  have hρ : ∀ n, gi_D (rn_m u) n → gi_k (rn_m u) n = 6 → (uq_a22 u (gi_f (rn_m u) n)).toNatClampNeg = A (gi_f (rn_m u) n) := by
    intro n hD k6
    obtain ⟨f4, T1, T6⟩ := gi_f4 G (em_D24 G C hD).1 k6
    obtain ⟨r1, _⟩ := ag.2.2.2.2 n hD k6
    rw [r1, nI_clamp (R3 _ f4).1]
  rw [← eT] at e1 e2
  have ag' := ag_step (A := A) (M := M) G C al fin ag hρ e1 e2
  have rs := zw_rin_S (L := L) (s0 := (uq_a23 u, uq_ac u, uq_a21 u, fun f => (uq_a22 u f).toNatClampNeg)) P'.2.1 R2 L.length (Nat.le_refl _)
  rw [zw_Sn, ← eT] at rs
  have S' : rn_S (gi_T (rn_m u)) (mm_ri m) (rf_A (rn_m u) A) := by
    refine ⟨fun f hf => ?_, fun f hf => ?_, fun f hf => ?_⟩
    · rw [e2 f hf, nI_clamp (rs f hf).1]
    · show (mm_ri m f).toNatClampNeg < 2 ^ 31 ∧ (1 ≤ gi_T (rn_m u) f → (mm_ri m f).toNatClampNeg < gi_T (rn_m u) f)
      rw [e2 f hf, nI_clamp (rs f hf).1]
      exact rs f hf
    · unfold rf_A
      have TF : gi_T (rn_m u) f < 2 ^ 31 := by
        unfold gi_T
        have := (uq_a7 (rn_m u) f).toNatClampNeg_lt
        omega
      rcases Nat.eq_zero_or_pos (gi_T (rn_m u) f) with z | z
      · rw [if_pos z]
        exact R3 f hf
      · rw [if_neg (by omega)]
        have := Nat.mod_lt (A f + 1) z
        exact ⟨by omega, fun _ => this⟩
  have J1 : rn_JJ (rn_m u) (rn_n u) (uq_cp u) (mm_me m) (mm_ri m) (rf_M (rn_m u) M A) (rf_A (rn_m u) A) := ⟨G, S', hc, ⟨C, al, L, K, P, fin⟩, ag'⟩
  exact hp (mm_mk u m) rfl rfl rfl J1
end
section
theorem lf_valid {post : Int32 → Prop} {u : St1} (G : gi_G u) (hp : post 1) : wpX_valid post u := by
  have hN := gi_n24 G
  have main : ∃ fu, wX_valid_2 post (uq_nc u) (uq_fc u) (uq_lv u) (uq_cp u) (uq_nd u) (uq_pn u) (uq_le u) (uq_wc u) (uq_ac u) (uq_dc u) (uq_sc u) (uq_a1 u) (uq_a2 u) (uq_a3 u) (uq_a4 u) (uq_a5 u) (uq_a6 u) (uq_a7 u) (uq_a8 u) (uq_a9 u) (uq_a10 u) (uq_a11 u) (uq_a12 u) (uq_a13 u) (uq_a14 u) (uq_a15 u) (uq_a16 u) (uq_a17 u) (uq_a18 u) (uq_a19 u) (uq_a20 u) (uq_a21 u) (uq_a22 u) (uq_a23 u) (uq_a24 u) (uq_a25 u) (uq_a26 u) fu 0 := by
    refine loop_m (fun fu i => wX_valid_2 post (uq_nc u) (uq_fc u) (uq_lv u) (uq_cp u) (uq_nd u) (uq_pn u) (uq_le u) (uq_wc u) (uq_ac u) (uq_dc u) (uq_sc u) (uq_a1 u) (uq_a2 u) (uq_a3 u) (uq_a4 u) (uq_a5 u) (uq_a6 u) (uq_a7 u) (uq_a8 u) (uq_a9 u) (uq_a10 u) (uq_a11 u) (uq_a12 u) (uq_a13 u) (uq_a14 u) (uq_a15 u) (uq_a16 u) (uq_a17 u) (uq_a18 u) (uq_a19 u) (uq_a20 u) (uq_a21 u) (uq_a22 u) (uq_a23 u) (uq_a24 u) (uq_a25 u) (uq_a26 u) fu (nI i)) (fun i => i ≤ gi_N u) (fun i => gi_N u - i) ?_ 0 (Nat.zero_le _)
    intro fu i hi ih
    refine pk_le (gi_N u) i (fun z => hp) (fun z => ⟨pk_in i 24 (by omega), ?_⟩) (gi_nc G)
    rw [nu_cl i]
    have k10 := gi_k10 G z
    refine pk_eq (gi_k u i) 5 (fun k5 => ⟨pk_in i 24 (by omega), ?_⟩) (fun k5 => nm_r (nI_1 i) (ih (i + 1) (by omega) (by omega))) (gi_k3 G z)
    have xl := gi_xlt G z (by omega)
    exact pk_lt (gi_x u i) (gi_N u) (fun _ => nm_r (nI_1 i) (ih (i + 1) (by omega) (by omega))) (fun q => absurd q (by omega)) (gi_x4 G z (by omega)) (gi_nc G)
  exact main
theorem rn_run44 {post : Int32 → St1 → Prop} {u : St1} {M : Nat → Int32} {A : Nat → Nat} {k : Nat} (hk : k ≤ 50) (h : rn_J u M A)
    (hp : ∀ u', rn_g u' = rn_g u → uq_lv u' = uq_lv u → uq_sc u' = uq_sc u + nI k → rn_J u' (rf_it (rn_g u) k (M, A)).1 (rf_it (rn_g u) k (M, A)).2 → post (nI k) u') :
    ∃ fu, wX_run_44 post (nI k) fu 0 (uq_nc u) (uq_fc u) (uq_lv u) (uq_cp u) (uq_nd u) (uq_pn u) (uq_le u) (uq_wc u) (uq_ac u) (uq_dc u) (uq_sc u) (uq_a1 u) (uq_a2 u) (uq_a3 u) (uq_a4 u) (uq_a5 u) (uq_a6 u) (uq_a7 u) (uq_a8 u) (uq_a9 u) (uq_a10 u) (uq_a11 u) (uq_a12 u) (uq_a13 u) (uq_a14 u) (uq_a15 u) (uq_a16 u) (uq_a17 u) (uq_a18 u) (uq_a19 u) (uq_a20 u) (uq_a21 u) (uq_a22 u) (uq_a23 u) (uq_a24 u) (uq_a25 u) (uq_a26 u) := by
  refine loop_m (fun fu (s : St1 × Nat) => wX_run_44 post (nI k) fu (nI s.2) (uq_nc s.1) (uq_fc s.1) (uq_lv s.1) (uq_cp s.1) (uq_nd s.1) (uq_pn s.1) (uq_le s.1) (uq_wc s.1) (uq_ac s.1) (uq_dc s.1) (uq_sc s.1) (uq_a1 s.1) (uq_a2 s.1) (uq_a3 s.1) (uq_a4 s.1) (uq_a5 s.1) (uq_a6 s.1) (uq_a7 s.1) (uq_a8 s.1) (uq_a9 s.1) (uq_a10 s.1) (uq_a11 s.1) (uq_a12 s.1) (uq_a13 s.1) (uq_a14 s.1) (uq_a15 s.1) (uq_a16 s.1) (uq_a17 s.1) (uq_a18 s.1) (uq_a19 s.1) (uq_a20 s.1) (uq_a21 s.1) (uq_a22 s.1) (uq_a23 s.1) (uq_a24 s.1) (uq_a25 s.1) (uq_a26 s.1)) (fun s => s.2 ≤ k ∧ rn_g s.1 = rn_g u ∧ uq_lv s.1 = uq_lv u ∧ uq_sc s.1 = uq_sc u ∧ rn_J s.1 (rf_it (rn_g u) s.2 (M, A)).1 (rf_it (rn_g u) s.2 (M, A)).2) (fun s => k - s.2) ?_ (u, 0) ⟨Nat.zero_le _, rfl, rfl, rfl, h⟩
  rintro fu ⟨v, i⟩ ⟨h1, h2, h3, h4, h5⟩ ih
  dsimp only at h1 h2 h3 h4 h5 ih ⊢
  refine pk_le k i (fun z => ?_) (fun z => ?_)
  · have e : i = k := by omega
    subst e
    refine nm_r (show uq_sc v + nI i = uq_sc u + nI i by rw [h4]) ?_
    exact hp (uq_nc v, uq_fc v, uq_lv v, uq_cp v, uq_nd v, uq_pn v, uq_le v, uq_wc v, uq_ac v, uq_dc v, uq_sc u + nI i, uq_a1 v, uq_a2 v, uq_a3 v, uq_a4 v, uq_a5 v, uq_a6 v, uq_a7 v, uq_a8 v, uq_a9 v, uq_a10 v, uq_a11 v, uq_a12 v, uq_a13 v, uq_a14 v, uq_a15 v, uq_a16 v, uq_a17 v, uq_a18 v, uq_a19 v, uq_a20 v, uq_a21 v, uq_a22 v, uq_a23 v, uq_a24 v, uq_a25 v, uq_a26 v) h2 h3 rfl h5
  · refine rn_step (u := v) h5 (fun v' g1 g2 g3 g4 => ?_)
    have H := ih (v', i + 1) ⟨z, g1.trans h2, g2.trans h3, g3.trans h4, ?_⟩ (by dsimp only; omega)
    · exact nm_r (nI_1 i) H
    · have e1 : rf_M (rn_m v) = rf_M (rn_c (rn_g u)) := by
        funext M A
        rw [← h2]
        exact (rf_M_m v M A).trans (rf_M_canon v M A).symm
      have e2 : rf_A (rn_m v) = rf_A (rn_c (rn_g u)) := by
        rw [← h2]
        rfl
      rw [e1, e2] at g4
      exact g4
theorem rn_run {post : Int32 → St1 → Prop} {u : St1} {M : Nat → Int32} {A : Nat → Nat} {k : Nat} {x : Int32} (hk : k ≤ 50) (hx : x = nI k) (h : rn_I u M A)
    (hp : ∀ u', rn_g u' = rn_g u → uq_sc u' = uq_sc u + nI k → rn_I u' (rf_it (rn_g u) k (M, A)).1 (rf_it (rn_g u) k (M, A)).2 → post (nI k) u') : wpX_run post u x := by
  subst hx
  obtain ⟨⟨lv, hlv, hl2⟩, h⟩ := h
  have G : gi_G u := rn_I_G ⟨⟨lv, hlv, hl2⟩, h⟩
  have r30 : wX_run_30 post (nI k) (uq_nc u) (uq_fc u) (uq_lv u) (uq_cp u) (uq_nd u) (uq_pn u) (uq_le u) (uq_wc u) (uq_ac u) (uq_dc u) (uq_sc u) (uq_a1 u) (uq_a2 u) (uq_a3 u) (uq_a4 u) (uq_a5 u) (uq_a6 u) (uq_a7 u) (uq_a8 u) (uq_a9 u) (uq_a10 u) (uq_a11 u) (uq_a12 u) (uq_a13 u) (uq_a14 u) (uq_a15 u) (uq_a16 u) (uq_a17 u) (uq_a18 u) (uq_a19 u) (uq_a20 u) (uq_a21 u) (uq_a22 u) (uq_a23 u) (uq_a24 u) (uq_a25 u) (uq_a26 u) := by
    rcases h with h | h
    · have hc : uq_cp u ≠ 0 := h.2.2.1
      exact br_f hc (rn_run44 hk h (fun u' a b c d => hp u' a c ⟨⟨lv, b.trans hlv, hl2⟩, Or.inl d⟩))
    · have hc : uq_cp u = 0 := h.2.2.1
      refine br_t hc ?_
      refine rn_compile (u := u) hlv hl2 h (fun v g1 g2 g3 g4 => ?_)
      refine rn_run44 (u := v) hk g4 (fun u' a b c d => hp u' (a.trans g1) (by rw [c, g3]) ⟨⟨lv, (b.trans g2).trans hlv, hl2⟩, Or.inl (by rw [g1] at d; exact d)⟩)
  have main : wpX_valid (fun r_1 => (((r_1 = 0 → (post (-100002) u)) ∧ (¬ r_1 = 0 → (((0 ≤ nI k → (((nI k ≤ 50 → (wX_run_30 post (nI k) (uq_nc u) (uq_fc u) (uq_lv u) (uq_cp u) (uq_nd u) (uq_pn u) (uq_le u) (uq_wc u) (uq_ac u) (uq_dc u) (uq_sc u) (uq_a1 u) (uq_a2 u) (uq_a3 u) (uq_a4 u) (uq_a5 u) (uq_a6 u) (uq_a7 u) (uq_a8 u) (uq_a9 u) (uq_a10 u) (uq_a11 u) (uq_a12 u) (uq_a13 u) (uq_a14 u) (uq_a15 u) (uq_a16 u) (uq_a17 u) (uq_a18 u) (uq_a19 u) (uq_a20 u) (uq_a21 u) (uq_a22 u) (uq_a23 u) (uq_a24 u) (uq_a25 u) (uq_a26 u))) ∧ (¬ nI k ≤ 50 → (wX_run_30 post 50 (uq_nc u) (uq_fc u) (uq_lv u) (uq_cp u) (uq_nd u) (uq_pn u) (uq_le u) (uq_wc u) (uq_ac u) (uq_dc u) (uq_sc u) (uq_a1 u) (uq_a2 u) (uq_a3 u) (uq_a4 u) (uq_a5 u) (uq_a6 u) (uq_a7 u) (uq_a8 u) (uq_a9 u) (uq_a10 u) (uq_a11 u) (uq_a12 u) (uq_a13 u) (uq_a14 u) (uq_a15 u) (uq_a16 u) (uq_a17 u) (uq_a18 u) (uq_a19 u) (uq_a20 u) (uq_a21 u) (uq_a22 u) (uq_a23 u) (uq_a24 u) (uq_a25 u) (uq_a26 u)))))) ∧ (¬ 0 ≤ nI k → (wX_run_30 post 0 (uq_nc u) (uq_fc u) (uq_lv u) (uq_cp u) (uq_nd u) (uq_pn u) (uq_le u) (uq_wc u) (uq_ac u) (uq_dc u) (uq_sc u) (uq_a1 u) (uq_a2 u) (uq_a3 u) (uq_a4 u) (uq_a5 u) (uq_a6 u) (uq_a7 u) (uq_a8 u) (uq_a9 u) (uq_a10 u) (uq_a11 u) (uq_a12 u) (uq_a13 u) (uq_a14 u) (uq_a15 u) (uq_a16 u) (uq_a17 u) (uq_a18 u) (uq_a19 u) (uq_a20 u) (uq_a21 u) (uq_a22 u) (uq_a23 u) (uq_a24 u) (uq_a25 u) (uq_a26 u))))))))) u := by
    refine lf_valid G (br_f (by decide) (br_t (nI_pos' (by omega)) (br_t ?_ r30)))
    exact nI_le (b := 50) hk (by omega)
  exact main
end
section
/-! reset, change -/
def la_rm (M : Nat → Int32) (a : Nat) : Int32 := if 2 ≤ a ∧ a < 96 then 0 else M a
theorem la_reset {post : St1 → Prop} {u : St1} (hp : ∀ me ri, (∀ a, me a = la_rm (uq_a21 u) a) → (∀ f, f < 4 → ri f = 0) → post (uq_nc u, uq_fc u, uq_lv u, uq_cp u, uq_nd u, uq_pn u, uq_le u, uq_wc u, uq_ac u, uq_dc u, 0, uq_a1 u, uq_a2 u, uq_a3 u, uq_a4 u, uq_a5 u, uq_a6 u, uq_a7 u, uq_a8 u, uq_a9 u, uq_a10 u, uq_a11 u, uq_a12 u, uq_a13 u, uq_a14 u, uq_a15 u, uq_a16 u, uq_a17 u, uq_a18 u, uq_a19 u, uq_a20 u, me, ri, uq_a23 u, uq_a24 u, uq_a25 u, uq_a26 u)) : wpX_reset post u := by
  have main : ∃ fu, wX_reset_2 post (uq_nc u) (uq_fc u) (uq_lv u) (uq_cp u) (uq_nd u) (uq_pn u) (uq_le u) (uq_wc u) (uq_ac u) (uq_dc u) (uq_sc u) fu (nI 2) (uq_a1 u) (uq_a2 u) (uq_a3 u) (uq_a4 u) (uq_a5 u) (uq_a6 u) (uq_a7 u) (uq_a8 u) (uq_a9 u) (uq_a10 u) (uq_a11 u) (uq_a12 u) (uq_a13 u) (uq_a14 u) (uq_a15 u) (uq_a16 u) (uq_a17 u) (uq_a18 u) (uq_a19 u) (uq_a20 u) (uq_a21 u) (uq_a22 u) (uq_a23 u) (uq_a24 u) (uq_a25 u) (uq_a26 u) := by
    refine pk_loop (fun fu i (me : Nat → Int32) => wX_reset_2 post (uq_nc u) (uq_fc u) (uq_lv u) (uq_cp u) (uq_nd u) (uq_pn u) (uq_le u) (uq_wc u) (uq_ac u) (uq_dc u) (uq_sc u) fu (nI i) (uq_a1 u) (uq_a2 u) (uq_a3 u) (uq_a4 u) (uq_a5 u) (uq_a6 u) (uq_a7 u) (uq_a8 u) (uq_a9 u) (uq_a10 u) (uq_a11 u) (uq_a12 u) (uq_a13 u) (uq_a14 u) (uq_a15 u) (uq_a16 u) (uq_a17 u) (uq_a18 u) (uq_a19 u) (uq_a20 u) (me) (uq_a22 u) (uq_a23 u) (uq_a24 u) (uq_a25 u) (uq_a26 u)) (fun i me => 2 ≤ i ∧ ∀ a, me a = if 2 ≤ a ∧ a < i then 0 else uq_a21 u a) 96 2 (uq_a21 u) (by omega) ⟨by omega, fun a => by rw [if_neg (by omega)]⟩ ?_ ?_
    · intro fu me ⟨_, hm⟩
      refine pk_le 96 96 (fun _ => ?_) (fun z => absurd z (by omega))
      refine pk_loop (fun fu i (ri : Nat → Int32) => wX_reset_23 post (uq_nc u) (uq_fc u) (uq_lv u) (uq_cp u) (uq_nd u) (uq_pn u) (uq_le u) (uq_wc u) (uq_ac u) (uq_dc u) (uq_sc u) fu (nI i) (uq_a1 u) (uq_a2 u) (uq_a3 u) (uq_a4 u) (uq_a5 u) (uq_a6 u) (uq_a7 u) (uq_a8 u) (uq_a9 u) (uq_a10 u) (uq_a11 u) (uq_a12 u) (uq_a13 u) (uq_a14 u) (uq_a15 u) (uq_a16 u) (uq_a17 u) (uq_a18 u) (uq_a19 u) (uq_a20 u) (me) (ri) (uq_a23 u) (uq_a24 u) (uq_a25 u) (uq_a26 u)) (fun i ri => ∀ f, f < i → ri f = 0) 4 0 (uq_a22 u) (by omega) (fun f hf => absurd hf (by omega)) ?_ ?_
      · intro fu ri hr
        exact pk_le 4 4 (fun _ => hp me ri hm hr) (fun z => absurd z (by omega))
      · intro fu i ri hi hr ih
        refine pk_le 4 i (fun z => absurd z (by omega)) (fun _ => ?_)
        rw [nu_cl i]
        refine ⟨pk_in i 4 hi, nm_e (nm_r (nI_1 i) (ih _ (fun f hf => ?_)))⟩
        by_cases e : f = i
        · exact nu_us e
        · rw [pk_un e]
          exact hr f (by omega)
    · intro fu i me hi ⟨h2, hm⟩ ih
      refine pk_le 96 i (fun z => absurd z (by omega)) (fun _ => ?_)
      rw [nu_cl i]
      refine ⟨pk_in i 96 hi, nm_e (nm_r (nI_1 i) (ih _ ⟨by omega, fun a => ?_⟩))⟩
      by_cases e : a = i
      · rw [nu_us e, if_pos (by omega)]
      · rw [pk_un e, hm a]
        by_cases q : 2 ≤ a ∧ a < i
        · rw [if_pos q, if_pos (by omega)]
        · rw [if_neg q, if_neg (by omega)]
  exact main
theorem rn_S0 {T : Nat → Nat} {ri : Nat → Int32} (h : ∀ f, f < 4 → ri f = 0) : rn_S T ri (fun _ => 0) := by
  refine ⟨fun f hf => by rw [h f hf]; rfl, fun f hf => ?_, fun f _ => ⟨by dsimp only; omega, fun h => by dsimp only; omega⟩⟩
  have e : (ri f).toNatClampNeg = 0 := by rw [h f hf]; rfl
  dsimp only
  rw [e]
  exact ⟨by omega, fun h => by omega⟩
theorem la_me01 {u : St1} {M : Nat → Int32} {A : Nat → Nat} (h : rn_I u M A) : uq_a21 u 0 = M 0 ∧ uq_a21 u 1 = M 1 := by
  rcases h.2 with q | q
  · exact ⟨q.2.2.2.2.1, q.2.2.2.2.2.1⟩
  · exact ⟨q.2.2.2.1 0 (by omega), q.2.2.2.1 1 (by omega)⟩
theorem la_rm_eq {me M : Nat → Int32} (h0 : me 0 = M 0) (h1 : me 1 = M 1) {a : Nat} (ha : a < 96) : la_rm me a = la_rm M a := by
  unfold la_rm
  by_cases q : 2 ≤ a ∧ a < 96
  · rw [if_pos q, if_pos q]
  · rw [if_neg q, if_neg q]
    rcases (show a = 0 ∨ a = 1 by omega) with e | e
    · rw [e, h0]
    · rw [e, h1]
theorem la_rm_hi {M : Nat → Int32} {a : Nat} (h : 2 ≤ a) (h' : a < 96) : la_rm M a = 0 := if_pos ⟨h, h'⟩
theorem rn_reset {post : St1 → Prop} {u : St1} {M : Nat → Int32} {A : Nat → Nat} (h : rn_I u M A)
    (hp : ∀ u', rn_g u' = rn_g u → uq_sc u' = 0 → rn_I u' (la_rm M) (fun _ => 0) → post u') : wpX_reset post u := by
  obtain ⟨m0, m1⟩ := la_me01 h
  refine la_reset (fun me ri hm hr => ?_)
  have eq : ∀ a, a < 96 → me a = la_rm M a := fun a ha => (hm a).trans (la_rm_eq m0 m1 ha)
  rcases h.2 with ⟨G, R, c1, Q, ag⟩ | ⟨G, R, c1, _⟩
  · have ag1 : ag_N (rn_m u) me ri (la_rm M) (fun _ => 0) := by
      refine ⟨eq 0 (by omega), eq 1 (by omega), fun o ho _ => eq _ (by omega), fun n hD _ => eq _ ?_, fun n hD k6 => ?_⟩
      · have := (em_D24 G Q.1 hD).2
        omega
      · have f4 := (gi_f4 G (em_D24 G Q.1 hD).1 k6).1
        exact ⟨hr _ f4, fun a a1 a2 => eq a (by omega)⟩
    have J1 : rn_JJ (rn_m u) (rn_n u) (uq_cp u) me ri (la_rm M) (fun _ => 0) := ⟨G, rn_S0 hr, c1, Q, ag1⟩
    exact hp _ rfl rfl ⟨h.1, Or.inl J1⟩
  · have F1 : rn_FF (rn_m u) (uq_cp u) me ri (la_rm M) (fun _ => 0) := ⟨G, rn_S0 hr, c1, eq, fun f hf => hr f hf⟩
    exact hp _ rfl rfl ⟨h.1, Or.inr F1⟩
theorem rn_change {post : St1 → Prop} {u : St1} {M : Nat → Int32} (G : gi_G u) (hlv : ∃ lv, uq_lv u = nI lv ∧ lv ≤ 2) (m0 : uq_a21 u 0 = M 0) (m1 : uq_a21 u 1 = M 1)
    (hp : ∀ u', rn_g u' = rn_g u → uq_nc u' = uq_nc u → uq_sc u' = 0 → rn_I u' (la_rm M) (fun _ => 0) → post u') : wpX_change post u := by
  have main : wpX_reset (fun v => post v) (uq_nc u, uq_fc u, uq_lv u, 0, uq_nd u, uq_pn u, uq_le u, uq_wc u, uq_ac u, uq_dc u, uq_sc u, uq_a1 u, uq_a2 u, uq_a3 u, uq_a4 u, uq_a5 u, uq_a6 u, uq_a7 u, uq_a8 u, uq_a9 u, uq_a10 u, uq_a11 u, uq_a12 u, uq_a13 u, uq_a14 u, uq_a15 u, uq_a16 u, uq_a17 u, uq_a18 u, uq_a19 u, uq_a20 u, uq_a21 u, uq_a22 u, uq_a23 u, uq_a24 u, uq_a25 u, uq_a26 u) := by
    refine la_reset (u := (uq_nc u, uq_fc u, uq_lv u, 0, uq_nd u, uq_pn u, uq_le u, uq_wc u, uq_ac u, uq_dc u, uq_sc u, uq_a1 u, uq_a2 u, uq_a3 u, uq_a4 u, uq_a5 u, uq_a6 u, uq_a7 u, uq_a8 u, uq_a9 u, uq_a10 u, uq_a11 u, uq_a12 u, uq_a13 u, uq_a14 u, uq_a15 u, uq_a16 u, uq_a17 u, uq_a18 u, uq_a19 u, uq_a20 u, uq_a21 u, uq_a22 u, uq_a23 u, uq_a24 u, uq_a25 u, uq_a26 u)) (fun me ri hm hr => ?_)
    have F1 : rn_FF (rn_m u) 0 me ri (la_rm M) (fun _ => 0) := ⟨gi_mG G, rn_S0 hr, rfl, fun a ha => (hm a).trans (la_rm_eq m0 m1 ha), fun f hf => hr f hf⟩
    exact hp _ rfl rfl rfl ⟨hlv, Or.inr F1⟩
  obtain ⟨nc, fc, lv, cp, nd, pn, le, wc, ac, dc, sc, a1, a2, a3, a4, a5, a6, a7, a8, a9, a10, a11, a12, a13, a14, a15, a16, a17, a18, a19, a20, a21, a22, a23, a24, a25, a26⟩ := u
  exact main
end
section
/-! samples, input, coefficient, output -/
def la_smp (v : Int32) : Prop := -32768 ≤ v.toInt ∧ v.toInt ≤ 32767
theorem la_short (x : Int32) : la_smp x.toInt16.toInt32 := by
  have e : (x.toInt16.toInt32).toInt = x.toInt16.toInt := Int16.toInt_toInt32 _
  have h1 := x.toInt16.le_toInt
  have h2 := x.toInt16.toInt_lt
  unfold la_smp
  rw [e]
  omega
theorem lf_sample {post : Int32 → Prop} {u : St1} {v : Int32} (h : la_smp v) (hp : post 1) : wpX_isSample post u v := by
  obtain ⟨h1, h2⟩ := h
  have e1 : (-32768 : Int32).toInt = -32768 := by decide
  have e2 : (32767 : Int32).toInt = 32767 := by decide
  obtain ⟨nc, fc, lv, cp, nd, pn, le, wc, ac, dc, sc, a1, a2, a3, a4, a5, a6, a7, a8, a9, a10, a11, a12, a13, a14, a15, a16, a17, a18, a19, a20, a21, a22, a23, a24, a25, a26⟩ := u
  refine br_f (fun z => ?_) (br_f (fun z => ?_) hp)
  · rw [nu_lt] at z
    omega
  · rw [nu_lt] at z
    omega
theorem rn_input {post : Int32 → St1 → Prop} {u : St1} {M : Nat → Int32} {A : Nat → Nat} {i : Nat} {p v : Int32} (h : rn_I u M A) (hi : i < 2) (hp0 : p = nI i) (hv : la_smp v)
    (hp : ∀ u', rn_g u' = rn_g u → uq_sc u' = uq_sc u → rn_I u' (upd M i v) A → post 1 u') : wpX_input post u p v := by
  subst hp0
  have fin : post 1 (uq_nc u, uq_fc u, uq_lv u, uq_cp u, uq_nd u, uq_pn u, uq_le u, uq_wc u, uq_ac u, uq_dc u, uq_sc u, uq_a1 u, uq_a2 u, uq_a3 u, uq_a4 u, uq_a5 u, uq_a6 u, uq_a7 u, uq_a8 u, uq_a9 u, uq_a10 u, uq_a11 u, uq_a12 u, uq_a13 u, uq_a14 u, uq_a15 u, uq_a16 u, uq_a17 u, uq_a18 u, uq_a19 u, uq_a20 u, upd (uq_a21 u) i v, uq_a22 u, uq_a23 u, uq_a24 u, uq_a25 u, uq_a26 u) := by
    have ue : ∀ a, uq_a21 u a = M a → upd (uq_a21 u) i v a = upd M i v a := fun a ha => by rw [nu_upd, nu_upd, ha]
    rcases h.2 with ⟨G, R, c1, Q, ag⟩ | ⟨G, R, c1, hM, hA⟩
    · have ag1 : ag_N (rn_m u) (upd (uq_a21 u) i v) (uq_a22 u) (upd M i v) A := by
        obtain ⟨a0, a1, a2, a3, a4⟩ := ag
        exact ⟨ue 0 a0, ue 1 a1, fun o ho h9 => ue _ (a2 o ho h9), fun n hD k5 => ue _ (a3 n hD k5), fun n hD k6 => ⟨(a4 n hD k6).1, fun a x1 x2 => ue _ ((a4 n hD k6).2 a x1 x2)⟩⟩
      have J1 : rn_JJ (rn_m u) (rn_n u) (uq_cp u) (upd (uq_a21 u) i v) (uq_a22 u) (upd M i v) A := ⟨G, R, c1, Q, ag1⟩
      exact hp _ rfl rfl ⟨h.1, Or.inl J1⟩
    · have F1 : rn_FF (rn_m u) (uq_cp u) (upd (uq_a21 u) i v) (uq_a22 u) (upd M i v) A := ⟨G, R, c1, fun a ha => ue a (hM a ha), hA⟩
      exact hp _ rfl rfl ⟨h.1, Or.inr F1⟩
  obtain ⟨nc, fc, lv, cp, nd, pn, le, wc, ac, dc, sc, a1, a2, a3, a4, a5, a6, a7, a8, a9, a10, a11, a12, a13, a14, a15, a16, a17, a18, a19, a20, a21, a22, a23, a24, a25, a26⟩ := u
  refine br_f (nI_pos (by omega)) (br_f (nI_nlt (a := 1) (b := i) (by omega) (by omega)) ?_)
  refine lf_sample hv (br_f (by decide) ?_)
  rw [nu_cl i]
  exact ⟨pk_in i 96 (by omega), nm_e fin⟩
/-! lists -/
def la_L (c : St1) : Prop := ∀ l, l < 4 → ∃ t, uq_a1 c l = nI t ∧ 1 ≤ t ∧ t ≤ 6
def la_ca (c : St1) (l k : Nat) (v : Int32) (j : Nat) : Int32 := if j = 6 * l + k then v else if 6 * l + (uq_a1 c l).toNatClampNeg ≤ j ∧ j < 6 * l + k then 0 else uq_a2 c j
def la_coe (g : rn_T) (l k : Nat) (v : Int32) : rn_T := rn_g (uq_nc (rn_c g), uq_fc (rn_c g), uq_lv (rn_c g), uq_cp (rn_c g), uq_nd (rn_c g), uq_pn (rn_c g), uq_le (rn_c g), uq_wc (rn_c g), uq_ac (rn_c g), uq_dc (rn_c g), uq_sc (rn_c g), upd (uq_a1 (rn_c g)) l (nI (k + 1)), la_ca (rn_c g) l k v, uq_a3 (rn_c g), uq_a4 (rn_c g), uq_a5 (rn_c g), uq_a6 (rn_c g), uq_a7 (rn_c g), uq_a8 (rn_c g), uq_a9 (rn_c g), uq_a10 (rn_c g), uq_a11 (rn_c g), uq_a12 (rn_c g), uq_a13 (rn_c g), uq_a14 (rn_c g), uq_a15 (rn_c g), uq_a16 (rn_c g), uq_a17 (rn_c g), uq_a18 (rn_c g), uq_a19 (rn_c g), uq_a20 (rn_c g), uq_a21 (rn_c g), uq_a22 (rn_c g), uq_a23 (rn_c g), uq_a24 (rn_c g), uq_a25 (rn_c g), uq_a26 (rn_c g))
theorem la_coeff {post : Int32 → St1 → Prop} {u : St1} {l k : Nat} {p q v : Int32} (hL : la_L u) (hl : l < 4) (hk : k < 6) (hp0 : p = nI l) (hq0 : q = nI k) (hv : la_smp v)
    (hp : post 1 (uq_nc u, uq_fc u, uq_lv u, uq_cp u, uq_nd u, uq_pn u, uq_le u, uq_wc u, uq_ac u, uq_dc u, uq_sc u, upd (uq_a1 u) l (nI (k + 1)), la_ca u l k v, uq_a3 u, uq_a4 u, uq_a5 u, uq_a6 u, uq_a7 u, uq_a8 u, uq_a9 u, uq_a10 u, uq_a11 u, uq_a12 u, uq_a13 u, uq_a14 u, uq_a15 u, uq_a16 u, uq_a17 u, uq_a18 u, uq_a19 u, uq_a20 u, uq_a21 u, uq_a22 u, uq_a23 u, uq_a24 u, uq_a25 u, uq_a26 u)) : wpX_coefficient post u p q v := by
  subst hp0 hq0
  obtain ⟨t, ht, t1, t6⟩ := hL l hl
  have loop : ∃ fu, wX_coefficient_36 post (nI l) (nI k) v (uq_nc u) (uq_fc u) (uq_lv u) (uq_cp u) (uq_nd u) (uq_pn u) (uq_le u) (uq_wc u) (uq_ac u) (uq_dc u) (uq_sc u) fu (nI t) (uq_a1 u) (uq_a2 u) (uq_a3 u) (uq_a4 u) (uq_a5 u) (uq_a6 u) (uq_a7 u) (uq_a8 u) (uq_a9 u) (uq_a10 u) (uq_a11 u) (uq_a12 u) (uq_a13 u) (uq_a14 u) (uq_a15 u) (uq_a16 u) (uq_a17 u) (uq_a18 u) (uq_a19 u) (uq_a20 u) (uq_a21 u) (uq_a22 u) (uq_a23 u) (uq_a24 u) (uq_a25 u) (uq_a26 u) := by
    refine loop_m (fun fu (s : Nat × (Nat → Int32)) => wX_coefficient_36 post (nI l) (nI k) v (uq_nc u) (uq_fc u) (uq_lv u) (uq_cp u) (uq_nd u) (uq_pn u) (uq_le u) (uq_wc u) (uq_ac u) (uq_dc u) (uq_sc u) fu (nI s.1) (uq_a1 u) (s.2) (uq_a3 u) (uq_a4 u) (uq_a5 u) (uq_a6 u) (uq_a7 u) (uq_a8 u) (uq_a9 u) (uq_a10 u) (uq_a11 u) (uq_a12 u) (uq_a13 u) (uq_a14 u) (uq_a15 u) (uq_a16 u) (uq_a17 u) (uq_a18 u) (uq_a19 u) (uq_a20 u) (uq_a21 u) (uq_a22 u) (uq_a23 u) (uq_a24 u) (uq_a25 u) (uq_a26 u)) (fun s => t ≤ s.1 ∧ (s.1 ≤ 6 ∧ (s.1 = t ∨ s.1 ≤ k)) ∧ ∀ j, s.2 j = if 6 * l + t ≤ j ∧ j < 6 * l + s.1 then 0 else uq_a2 u j) (fun s => 6 - s.1) ?_ (t, uq_a2 u) ⟨Nat.le_refl _, ⟨t6, Or.inl rfl⟩, fun j => by dsimp only; rw [if_neg (by omega)]⟩
    rintro fu ⟨i, a2⟩ ⟨i1, i2, i3⟩ ih
    dsimp only at i1 i2 i3 ih ⊢
    refine pk_le k i (fun z => ?_) (fun z => ?_)
    · have ix : 6 * nI l + nI k = nI (6 * l + k) := by rw [← nI_add, ← pk_mul]; rfl
      rw [ix, nu_cl (6 * l + k), nu_cl l, nI_1, nu_b8 (k + 1) (by omega)]
      refine ⟨nu_in (by omega), nm_r ?_ ⟨nu_in hl, nm_e hp⟩⟩
      funext j
      unfold la_ca
      rw [ht, nu_cl t]
      by_cases e : j = 6 * l + k
      · rw [nu_us e, if_pos e]
      · rw [pk_un e, if_neg e, i3 j]
        by_cases q : 6 * l + t ≤ j ∧ j < 6 * l + k
        · rw [if_pos (by omega), if_pos q]
        · rw [if_neg (by omega), if_neg q]
    · have ix : 6 * nI l + nI i = nI (6 * l + i) := by rw [← nI_add, ← pk_mul]; rfl
      rw [ix, nu_cl (6 * l + i)]
      refine ⟨nu_in (by omega), nm_e (nm_r (nI_1 i) (ih (i + 1, upd a2 (6 * l + i) 0) ⟨by dsimp only; omega, by dsimp only; omega, fun j => ?_⟩ (by dsimp only; omega)))⟩
      dsimp only
      by_cases e : j = 6 * l + i
      · rw [nu_us e, if_pos (by omega)]
      · rw [pk_un e, i3 j]
        by_cases q : 6 * l + t ≤ j ∧ j < 6 * l + i
        · rw [if_pos q, if_pos (by omega)]
        · rw [if_neg q, if_neg (by omega)]
  obtain ⟨nc, fc, lv, cp, nd, pn, le, wc, ac, dc, sc, a1, a2, a3, a4, a5, a6, a7, a8, a9, a10, a11, a12, a13, a14, a15, a16, a17, a18, a19, a20, a21, a22, a23, a24, a25, a26⟩ := u
  refine br_f (nI_pos (by omega)) (br_f (nI_nlt (a := 3) (b := l) (by omega) (by omega)) (br_f (nI_pos (by omega)) (br_f (nI_nlt (a := 5) (b := k) (by omega) (by omega)) ?_)))
  refine lf_sample hv (br_f (by decide) ?_)
  rw [nu_cl l]
  exact ⟨nu_in hl, nm_r ht loop⟩
theorem rn_coeff {post : Int32 → St1 → Prop} {u : St1} {M : Nat → Int32} {A : Nat → Nat} {l k : Nat} {p q v : Int32} (h : rn_I u M A) (hL : la_L u) (hl : l < 4) (hk : k < 6) (hp0 : p = nI l) (hq0 : q = nI k) (hv : la_smp v)
    (hp : ∀ u', rn_g u' = la_coe (rn_g u) l k v → uq_sc u' = uq_sc u → rn_I u' M A → post 1 u') : wpX_coefficient post u p q v :=
  la_coeff hL hl hk hp0 hq0 hv (hp _ rfl rfl h)
theorem la_L_coe {g : rn_T} {l k : Nat} {v : Int32} (hL : la_L (rn_c g)) (hl : l < 4) (hk : k < 6) : la_L (rn_c (la_coe g l k v)) := by
  intro m hm
  show ∃ t, upd (uq_a1 (rn_c g)) l (nI (k + 1)) m = nI t ∧ 1 ≤ t ∧ t ≤ 6
  by_cases e : m = l
  · exact ⟨k + 1, nu_us e, by omega, by omega⟩
  · rw [pk_un e]
    exact hL m hm
/-! output -/
def la_out (g : rn_T) (o : Nat) (v : Int32) : rn_T := rn_g (uq_nc (rn_c g), uq_fc (rn_c g), uq_lv (rn_c g), uq_cp (rn_c g), uq_nd (rn_c g), uq_pn (rn_c g), uq_le (rn_c g), uq_wc (rn_c g), uq_ac (rn_c g), uq_dc (rn_c g), uq_sc (rn_c g), uq_a1 (rn_c g), uq_a2 (rn_c g), uq_a3 (rn_c g), uq_a4 (rn_c g), uq_a5 (rn_c g), uq_a6 (rn_c g), uq_a7 (rn_c g), uq_a8 (rn_c g), upd (uq_a9 (rn_c g)) o v, uq_a10 (rn_c g), uq_a11 (rn_c g), uq_a12 (rn_c g), uq_a13 (rn_c g), uq_a14 (rn_c g), uq_a15 (rn_c g), uq_a16 (rn_c g), uq_a17 (rn_c g), uq_a18 (rn_c g), uq_a19 (rn_c g), uq_a20 (rn_c g), uq_a21 (rn_c g), uq_a22 (rn_c g), uq_a23 (rn_c g), uq_a24 (rn_c g), uq_a25 (rn_c g), uq_a26 (rn_c g))
theorem gi_G_out {u : St1} {o : Nat} {v : Int32} (G : gi_G u) (hv : v = -1 ∨ ∃ k, v = nI k ∧ k < gi_N u) : gi_G (uq_nc u, uq_fc u, uq_lv u, uq_cp u, uq_nd u, uq_pn u, uq_le u, uq_wc u, uq_ac u, uq_dc u, uq_sc u, uq_a1 u, uq_a2 u, uq_a3 u, uq_a4 u, uq_a5 u, uq_a6 u, uq_a7 u, uq_a8 u, upd (uq_a9 u) o v, uq_a10 u, uq_a11 u, uq_a12 u, uq_a13 u, uq_a14 u, uq_a15 u, uq_a16 u, uq_a17 u, uq_a18 u, uq_a19 u, uq_a20 u, uq_a21 u, uq_a22 u, uq_a23 u, uq_a24 u, uq_a25 u, uq_a26 u) := by
  obtain ⟨g1, g2, g3, g4, g5, g6, g7, g8⟩ := id G
  refine ⟨g1, g2, g3, g4, g5, g6, g7, fun m hm => ?_⟩
  show upd (uq_a9 u) o v m = -1 ∨ (upd (uq_a9 u) o v m = nI (upd (uq_a9 u) o v m).toNatClampNeg ∧ (upd (uq_a9 u) o v m).toNatClampNeg < gi_N u)
  by_cases e : m = o
  · rw [nu_us e]
    rcases hv with q | ⟨k, q1, q2⟩
    · exact Or.inl q
    · rw [q1, nu_cl k]
      exact Or.inr ⟨rfl, q2⟩
  · rw [pk_un e]
    exact g8 m hm
theorem rn_output {post : Int32 → St1 → Prop} {u : St1} {M : Nat → Int32} {A : Nat → Nat} {o : Nat} {p v : Int32} (h : rn_I u M A) (ho : o < 4) (hp0 : p = nI o) (hv : v = -1 ∨ ∃ k, v = nI k ∧ k < gi_N u)
    (hp : ∀ u', rn_g u' = la_out (rn_g u) o v → uq_sc u' = 0 → rn_I u' (la_rm M) (fun _ => 0) → post 1 u') : wpX_output post u p v := by
  subst hp0
  have G := rn_I_G h
  have hN := gi_n24 G
  obtain ⟨m0, m1⟩ := la_me01 h
  have v8 : v.toInt8.toInt32 = v := by
    rcases hv with q | ⟨k, q1, q2⟩
    · rw [q]; decide
    · rw [q1]; exact nu_b8 k (by omega)
  have c1 : ¬ v < (-1) := by
    rcases hv with q | ⟨k, q1, q2⟩
    · rw [q]; decide
    · rw [q1]
      intro z
      have := em_m1lt (show k < 2 ^ 31 by omega)
      rw [nu_lt] at z this
      omega
  have c2 : v < uq_nc u := by
    rw [gi_nc G]
    rcases hv with q | ⟨k, q1, q2⟩
    · rw [q]; exact em_m1lt (by omega)
    · rw [q1]; exact nI_lt q2 (by omega)
  have fin : wpX_change (fun w => post 1 w) (uq_nc u, uq_fc u, uq_lv u, uq_cp u, uq_nd u, uq_pn u, uq_le u, uq_wc u, uq_ac u, uq_dc u, uq_sc u, uq_a1 u, uq_a2 u, uq_a3 u, uq_a4 u, uq_a5 u, uq_a6 u, uq_a7 u, uq_a8 u, upd (uq_a9 u) o v, uq_a10 u, uq_a11 u, uq_a12 u, uq_a13 u, uq_a14 u, uq_a15 u, uq_a16 u, uq_a17 u, uq_a18 u, uq_a19 u, uq_a20 u, uq_a21 u, uq_a22 u, uq_a23 u, uq_a24 u, uq_a25 u, uq_a26 u) :=
    rn_change (M := M) (gi_G_out G hv) h.1 m0 m1 (fun u' e1 e2 e3 e4 => hp u' e1 e3 e4)
  obtain ⟨nc, fc, lv, cp, nd, pn, le, wc, ac, dc, sc, a1, a2, a3, a4, a5, a6, a7, a8, a9, a10, a11, a12, a13, a14, a15, a16, a17, a18, a19, a20, a21, a22, a23, a24, a25, a26⟩ := u
  refine br_f (nI_pos (by omega)) (br_f (nI_nlt (a := 3) (b := o) (by omega) (by omega)) (br_f c1 (br_t c2 ?_)))
  rw [nu_cl o, v8]
  exact ⟨nu_in ho, nm_e fin⟩
end
section
/-! retract -/
theorem la_ret46 {post : Int32 → St1 → Prop} {u : St1} {n : Nat} (hn : uq_nc u = nI n)
    (hp : ∀ a9, (∀ o, a9 o = if o < 4 ∧ uq_a9 u o = nI n then -1 else uq_a9 u o) → wpX_change (fun w => post (uq_nc w) w) (uq_nc u, uq_fc u, uq_lv u, uq_cp u, uq_nd u, uq_pn u, uq_le u, uq_wc u, uq_ac u, uq_dc u, uq_sc u, uq_a1 u, uq_a2 u, uq_a3 u, uq_a4 u, uq_a5 u, uq_a6 u, uq_a7 u, uq_a8 u, a9, uq_a10 u, uq_a11 u, uq_a12 u, uq_a13 u, uq_a14 u, uq_a15 u, uq_a16 u, uq_a17 u, uq_a18 u, uq_a19 u, uq_a20 u, uq_a21 u, uq_a22 u, uq_a23 u, uq_a24 u, uq_a25 u, uq_a26 u)) :
    ∃ fu, wX_retract_46 post (uq_nc u) (uq_fc u) (uq_lv u) (uq_cp u) (uq_nd u) (uq_pn u) (uq_le u) (uq_wc u) (uq_ac u) (uq_dc u) (uq_sc u) fu 0 (uq_a1 u) (uq_a2 u) (uq_a3 u) (uq_a4 u) (uq_a5 u) (uq_a6 u) (uq_a7 u) (uq_a8 u) (uq_a9 u) (uq_a10 u) (uq_a11 u) (uq_a12 u) (uq_a13 u) (uq_a14 u) (uq_a15 u) (uq_a16 u) (uq_a17 u) (uq_a18 u) (uq_a19 u) (uq_a20 u) (uq_a21 u) (uq_a22 u) (uq_a23 u) (uq_a24 u) (uq_a25 u) (uq_a26 u) := by
  refine pk_loop (fun fu i (a9 : Nat → Int32) => wX_retract_46 post (uq_nc u) (uq_fc u) (uq_lv u) (uq_cp u) (uq_nd u) (uq_pn u) (uq_le u) (uq_wc u) (uq_ac u) (uq_dc u) (uq_sc u) fu (nI i) (uq_a1 u) (uq_a2 u) (uq_a3 u) (uq_a4 u) (uq_a5 u) (uq_a6 u) (uq_a7 u) (uq_a8 u) (a9) (uq_a10 u) (uq_a11 u) (uq_a12 u) (uq_a13 u) (uq_a14 u) (uq_a15 u) (uq_a16 u) (uq_a17 u) (uq_a18 u) (uq_a19 u) (uq_a20 u) (uq_a21 u) (uq_a22 u) (uq_a23 u) (uq_a24 u) (uq_a25 u) (uq_a26 u)) (fun i a9 => ∀ o, a9 o = if o < i ∧ uq_a9 u o = nI n then -1 else uq_a9 u o) 4 0 (uq_a9 u) (by omega) (fun o => by rw [if_neg (by omega)]) ?_ ?_
  · intro fu a9 h
    exact pk_le 4 4 (fun _ => hp a9 h) (fun z => absurd z (by omega))
  · intro fu i a9 hi h ih
    refine pk_le 4 i (fun z => absurd z (by omega)) (fun _ => ?_)
    have hi9 : a9 i = uq_a9 u i := by rw [h i, if_neg (by omega)]
    rw [nu_cl i, hi9]
    refine ⟨nu_in hi, br_c (fun z => ⟨nu_in hi, nm_e (nm_r (nI_1 i) (ih _ (fun o => ?_)))⟩) (fun z => nm_r (nI_1 i) (ih _ (fun o => ?_)))⟩
    · rw [hn] at z
      by_cases e : o = i
      · rw [nu_us e, if_pos ⟨by omega, by rw [e]; exact z⟩]
      · rw [pk_un e, h o]
        by_cases q : o < i ∧ uq_a9 u o = nI n
        · rw [if_pos q, if_pos ⟨by omega, q.2⟩]
        · rw [if_neg q, if_neg (fun z => q ⟨by omega, z.2⟩)]
    · rw [hn] at z
      rw [h o]
      by_cases q : o < i ∧ uq_a9 u o = nI n
      · rw [if_pos q, if_pos ⟨by omega, q.2⟩]
      · rw [if_neg q, if_neg]
        intro w
        by_cases e : o = i
        · rw [e] at w
          exact z w.2
        · exact q ⟨by omega, w.2⟩
def la_r9 (c : St1) (o : Nat) : Int32 := if o < 4 ∧ uq_a9 c o = nI (gi_N c - 1) then -1 else uq_a9 c o
def la_rf (c : St1) : Int32 := if gi_k c (gi_N c - 1) = 6 then uq_fc c - 1 else uq_fc c
def la_ret (g : rn_T) : rn_T := rn_g (nI (gi_N (rn_c g) - 1), la_rf (rn_c g), uq_lv (rn_c g), uq_cp (rn_c g), uq_nd (rn_c g), uq_pn (rn_c g), uq_le (rn_c g), uq_wc (rn_c g), uq_ac (rn_c g), uq_dc (rn_c g), uq_sc (rn_c g), uq_a1 (rn_c g), uq_a2 (rn_c g), uq_a3 (rn_c g), uq_a4 (rn_c g), uq_a5 (rn_c g), uq_a6 (rn_c g), uq_a7 (rn_c g), uq_a8 (rn_c g), la_r9 (rn_c g), uq_a10 (rn_c g), uq_a11 (rn_c g), uq_a12 (rn_c g), uq_a13 (rn_c g), uq_a14 (rn_c g), uq_a15 (rn_c g), uq_a16 (rn_c g), uq_a17 (rn_c g), uq_a18 (rn_c g), uq_a19 (rn_c g), uq_a20 (rn_c g), uq_a21 (rn_c g), uq_a22 (rn_c g), uq_a23 (rn_c g), uq_a24 (rn_c g), uq_a25 (rn_c g), uq_a26 (rn_c g))
theorem gi_G_ret {u : St1} (G : gi_G u) (h0 : gi_N u ≠ 0) : gi_G (nI (gi_N u - 1), la_rf u, uq_lv u, uq_cp u, uq_nd u, uq_pn u, uq_le u, uq_wc u, uq_ac u, uq_dc u, uq_sc u, uq_a1 u, uq_a2 u, uq_a3 u, uq_a4 u, uq_a5 u, uq_a6 u, uq_a7 u, uq_a8 u, la_r9 u, uq_a10 u, uq_a11 u, uq_a12 u, uq_a13 u, uq_a14 u, uq_a15 u, uq_a16 u, uq_a17 u, uq_a18 u, uq_a19 u, uq_a20 u, uq_a21 u, uq_a22 u, uq_a23 u, uq_a24 u, uq_a25 u, uq_a26 u) := by
  have hN := gi_n24 G
  obtain ⟨g1, g2, g3, g4, g5, g6, g7, g8⟩ := id G
  have eN : gi_N (nI (gi_N u - 1), la_rf u, uq_lv u, uq_cp u, uq_nd u, uq_pn u, uq_le u, uq_wc u, uq_ac u, uq_dc u, uq_sc u, uq_a1 u, uq_a2 u, uq_a3 u, uq_a4 u, uq_a5 u, uq_a6 u, uq_a7 u, uq_a8 u, la_r9 u, uq_a10 u, uq_a11 u, uq_a12 u, uq_a13 u, uq_a14 u, uq_a15 u, uq_a16 u, uq_a17 u, uq_a18 u, uq_a19 u, uq_a20 u, uq_a21 u, uq_a22 u, uq_a23 u, uq_a24 u, uq_a25 u, uq_a26 u) = gi_N u - 1 := nu_cl _
  have F : ∃ F', la_rf u = nI F' ∧ F' ≤ gi_F u ∧ (∀ n, n < gi_N u - 1 → gi_k u n = 6 → gi_f u n < F') := by
    unfold la_rf
    by_cases k6 : gi_k u (gi_N u - 1) = 6
    · rw [if_pos k6]
      have f1 := ((gi_nd G (show gi_N u - 1 < gi_N u by omega)).2.2.2.2.2.2.2 k6).2
      refine ⟨gi_F u - 1, ?_, by omega, fun n hn k => ?_⟩
      · rw [g3]
        exact pk_sub (a := gi_F u) (b := 1) (by omega)
      · have := g6 n (gi_N u - 1) hn (by omega) k k6
        omega
    · rw [if_neg k6]
      exact ⟨gi_F u, g3, Nat.le_refl _, fun n hn k => ((gi_nd G (show n < gi_N u by omega)).2.2.2.2.2.2.2 k).2⟩
  obtain ⟨F', F1, F2, F3⟩ := F
  have eF : gi_F (nI (gi_N u - 1), la_rf u, uq_lv u, uq_cp u, uq_nd u, uq_pn u, uq_le u, uq_wc u, uq_ac u, uq_dc u, uq_sc u, uq_a1 u, uq_a2 u, uq_a3 u, uq_a4 u, uq_a5 u, uq_a6 u, uq_a7 u, uq_a8 u, la_r9 u, uq_a10 u, uq_a11 u, uq_a12 u, uq_a13 u, uq_a14 u, uq_a15 u, uq_a16 u, uq_a17 u, uq_a18 u, uq_a19 u, uq_a20 u, uq_a21 u, uq_a22 u, uq_a23 u, uq_a24 u, uq_a25 u, uq_a26 u) = F' := by
    show (la_rf u).toNatClampNeg = F'
    rw [F1, nu_cl F']
  refine ⟨?_, ?_, ?_, ?_, ?_, ?_, ?_, ?_⟩
  · rw [eN]; rfl
  · rw [eN]; omega
  · rw [eF]; exact F1
  · rw [eF]; omega
  · rw [eN]
    intro n hn
    obtain ⟨n1, n2, n3, n4, n5, n6, n7, n8⟩ := g5 n (by omega)
    refine ⟨n1, n2, n3, n4, n5, n6, n7, fun k => ⟨(n8 k).1, ?_⟩⟩
    rw [eF]
    exact F3 n hn k
  · rw [eN]
    exact fun n m hnm hm => g6 n m hnm (by omega)
  · rw [eF]
    exact fun f hf => g7 f (by omega)
  · rw [eN]
    intro o ho
    show la_r9 u o = -1 ∨ (la_r9 u o = nI (la_r9 u o).toNatClampNeg ∧ (la_r9 u o).toNatClampNeg < gi_N u - 1)
    unfold la_r9
    by_cases q : o < 4 ∧ uq_a9 u o = nI (gi_N u - 1)
    · rw [if_pos q]; exact Or.inl rfl
    · rw [if_neg q]
      rcases g8 o ho with z | ⟨z1, z2⟩
      · exact Or.inl z
      · refine Or.inr ⟨z1, ?_⟩
        have : gi_o u o ≠ gi_N u - 1 := fun e => q ⟨ho, by rw [z1, e]⟩
        show gi_o u o < gi_N u - 1
        omega
theorem rn_retract {post : Int32 → St1 → Prop} {u : St1} {M : Nat → Int32} {A : Nat → Nat} (h : rn_I u M A) (hp0 : gi_N u = 0 → post (-100000) u)
    (hp : gi_N u ≠ 0 → ∀ u', rn_g u' = la_ret (rn_g u) → uq_sc u' = 0 → rn_I u' (la_rm M) (fun _ => 0) → post (nI (gi_N u - 1)) u') : wpX_retract post u := by
  have G := rn_I_G h
  have hN := gi_n24 G
  obtain ⟨m0, m1⟩ := la_me01 h
  have main : ((uq_nc u = 0 → (post (-100000) u)) ∧ (¬ uq_nc u = 0 → (∀ f_2 : Int32, f_2 = uq_nc u - 1 → (vp_in f_2 24 ∧ ((((uq_a3 u f_2.toNatClampNeg) = 6 → (∀ f_102 : Int32, f_102 = uq_fc u - 1 → (∃ fu46 : Nat, wX_retract_46 post f_2 f_102 (uq_lv u) (uq_cp u) (uq_nd u) (uq_pn u) (uq_le u) (uq_wc u) (uq_ac u) (uq_dc u) (uq_sc u) fu46 0 (uq_a1 u) (uq_a2 u) (uq_a3 u) (uq_a4 u) (uq_a5 u) (uq_a6 u) (uq_a7 u) (uq_a8 u) (uq_a9 u) (uq_a10 u) (uq_a11 u) (uq_a12 u) (uq_a13 u) (uq_a14 u) (uq_a15 u) (uq_a16 u) (uq_a17 u) (uq_a18 u) (uq_a19 u) (uq_a20 u) (uq_a21 u) (uq_a22 u) (uq_a23 u) (uq_a24 u) (uq_a25 u) (uq_a26 u)))) ∧ (¬ (uq_a3 u f_2.toNatClampNeg) = 6 → (∃ fu46 : Nat, wX_retract_46 post f_2 (uq_fc u) (uq_lv u) (uq_cp u) (uq_nd u) (uq_pn u) (uq_le u) (uq_wc u) (uq_ac u) (uq_dc u) (uq_sc u) fu46 0 (uq_a1 u) (uq_a2 u) (uq_a3 u) (uq_a4 u) (uq_a5 u) (uq_a6 u) (uq_a7 u) (uq_a8 u) (uq_a9 u) (uq_a10 u) (uq_a11 u) (uq_a12 u) (uq_a13 u) (uq_a14 u) (uq_a15 u) (uq_a16 u) (uq_a17 u) (uq_a18 u) (uq_a19 u) (uq_a20 u) (uq_a21 u) (uq_a22 u) (uq_a23 u) (uq_a24 u) (uq_a25 u) (uq_a26 u))))))))) := by
    refine pk_eq (gi_N u) 0 hp0 (fun z => ?_) (gi_nc G)
    have e1 : uq_nc u - 1 = nI (gi_N u - 1) := by
      rw [gi_nc G]
      exact pk_sub (a := gi_N u) (b := 1) (by omega)
    have k10 := gi_k10 G (show gi_N u - 1 < gi_N u by omega)
    have fin : ∀ (fc : Int32) (a9 : Nat → Int32), fc = la_rf u → (∀ o, a9 o = la_r9 u o) → wpX_change (fun w => post (uq_nc w) w) (nI (gi_N u - 1), fc, uq_lv u, uq_cp u, uq_nd u, uq_pn u, uq_le u, uq_wc u, uq_ac u, uq_dc u, uq_sc u, uq_a1 u, uq_a2 u, uq_a3 u, uq_a4 u, uq_a5 u, uq_a6 u, uq_a7 u, uq_a8 u, a9, uq_a10 u, uq_a11 u, uq_a12 u, uq_a13 u, uq_a14 u, uq_a15 u, uq_a16 u, uq_a17 u, uq_a18 u, uq_a19 u, uq_a20 u, uq_a21 u, uq_a22 u, uq_a23 u, uq_a24 u, uq_a25 u, uq_a26 u) := by
      intro fc a9 q1 q2
      have q3 : a9 = la_r9 u := funext q2
      subst q1 q3
      refine rn_change (M := M) (gi_G_ret G z) h.1 m0 m1 (fun u' e1 e2 e3 e4 => ?_)
      have := hp z u' e1 e3 e4
      rw [show uq_nc u' = nI (gi_N u - 1) from e2]
      exact this
    refine nm_r e1 ⟨nu_in (by omega), ?_⟩
    rw [nu_cl (gi_N u - 1)]
    refine pk_eq (gi_k u (gi_N u - 1)) 6 (fun k6 => nm_e ?_) (fun k6 => ?_) (gi_k3 G (by omega))
    · exact la_ret46 (u := (nI (gi_N u - 1), uq_fc u - 1, uq_lv u, uq_cp u, uq_nd u, uq_pn u, uq_le u, uq_wc u, uq_ac u, uq_dc u, uq_sc u, uq_a1 u, uq_a2 u, uq_a3 u, uq_a4 u, uq_a5 u, uq_a6 u, uq_a7 u, uq_a8 u, uq_a9 u, uq_a10 u, uq_a11 u, uq_a12 u, uq_a13 u, uq_a14 u, uq_a15 u, uq_a16 u, uq_a17 u, uq_a18 u, uq_a19 u, uq_a20 u, uq_a21 u, uq_a22 u, uq_a23 u, uq_a24 u, uq_a25 u, uq_a26 u)) rfl (fun a9 q => fin _ a9 (by unfold la_rf; rw [if_pos k6]; rfl) q)
    · exact la_ret46 (u := (nI (gi_N u - 1), uq_fc u, uq_lv u, uq_cp u, uq_nd u, uq_pn u, uq_le u, uq_wc u, uq_ac u, uq_dc u, uq_sc u, uq_a1 u, uq_a2 u, uq_a3 u, uq_a4 u, uq_a5 u, uq_a6 u, uq_a7 u, uq_a8 u, uq_a9 u, uq_a10 u, uq_a11 u, uq_a12 u, uq_a13 u, uq_a14 u, uq_a15 u, uq_a16 u, uq_a17 u, uq_a18 u, uq_a19 u, uq_a20 u, uq_a21 u, uq_a22 u, uq_a23 u, uq_a24 u, uq_a25 u, uq_a26 u)) rfl (fun a9 q => fin _ a9 (by unfold la_rf; rw [if_neg k6]; rfl) q)
  obtain ⟨nc, fc, lv, cp, nd, pn, le, wc, ac, dc, sc, a1, a2, a3, a4, a5, a6, a7, a8, a9, a10, a11, a12, a13, a14, a15, a16, a17, a18, a19, a20, a21, a22, a23, a24, a25, a26⟩ := u
  exact main
end
section
/-! node -/
/-- the parts fit the kind, with n nodes there -/
def la_fit (n kd : Nat) (a b : Int32) : Prop :=
  kd ≤ 10 ∧ (kd = 0 → a = nI 0 ∨ a = nI 1) ∧ (kd = 1 → la_smp a) ∧ (kd = 5 → ∃ p, a = nI p ∧ p ≤ n) ∧ (kd ≠ 0 → kd ≠ 1 → kd ≠ 5 → ∃ p, a = nI p ∧ p < n) ∧
  (kd = 4 → la_smp b) ∧ (kd = 6 → ∃ l, b = nI l ∧ l < 4) ∧ (kd = 7 → ∃ t, b = nI t ∧ t ≤ 32767) ∧ (gi_two kd → ∃ q, b = nI q ∧ q < n)
theorem lf_isnode {post : Int32 → Prop} {u : St1} {p : Int32} {n k : Nat} (hn : uq_nc u = nI n) (h24 : n ≤ 24) (hp : p = nI k) (hk : k < n) (h : post 1) : wpX_isNode post u p := by
  subst hp
  obtain ⟨nc, fc, lv, cp, nd, pn, le, wc, ac, dc, sc, a1, a2, a3, a4, a5, a6, a7, a8, a9, a10, a11, a12, a13, a14, a15, a16, a17, a18, a19, a20, a21, a22, a23, a24, a25, a26⟩ := u
  have hn' : nc = nI n := hn
  exact br_f (nI_pos (by omega)) (br_f (by rw [hn']; exact nI_ge hk (by omega)) h)
theorem lf_fit {post : Int32 → Prop} {u : St1} {n kd : Nat} {a b : Int32} (hn : uq_nc u = nI n) (h24 : n < 24) (hf : la_fit n kd a b) (h : post 1) : wpX_operandsFit post u (nI kd) a b := by
  obtain ⟨k10, f0, f1, f5, fx, f4, f6, f7, f2⟩ := hf
  obtain ⟨f0', h0⟩ : ∃ x, x = uq_nc u := ⟨_, rfl⟩
  have b1 : narrow .boolean (.int 1) = .int 1 := rfl
  have main : ((nI kd = 0 → (((a = 0 → (post 1)) ∧ (¬ a = 0 → (((a = 1 → (post 1)) ∧ (¬ a = 1 → (post 0)))))))) ∧ (¬ nI kd = 0 → (((nI kd = 1 → (wpX_isSample (fun r_20 => (narrow .boolean (.int r_20) = .int r_20 ∧ (post r_20))) u a)) ∧ (¬ nI kd = 1 → (((nI kd = 5 → (((a < 0 → (post 0)) ∧ (¬ a < 0 → (((24 ≤ a → (post 0)) ∧ (¬ 24 ≤ a → (post 1)))))))) ∧ (¬ nI kd = 5 → (wpX_isNode (fun r_4 => (((r_4 = 0 → (post 0)) ∧ (¬ r_4 = 0 → (((nI kd = 4 → (wpX_isSample (fun r_16 => (narrow .boolean (.int r_16) = .int r_16 ∧ (post r_16))) u b)) ∧ (¬ nI kd = 4 → (((nI kd = 6 → (((b < 0 → (post 0)) ∧ (¬ b < 0 → (((3 < b → (post 0)) ∧ (¬ 3 < b → (post 1)))))))) ∧ (¬ nI kd = 6 → (((nI kd = 7 → (((b < 0 → (post 0)) ∧ (¬ b < 0 → (((32767 < b → (post 0)) ∧ (¬ 32767 < b → (post 1)))))))) ∧ (¬ nI kd = 7 → (((nI kd = 8 → (post 1)) ∧ (¬ nI kd = 8 → (wpX_isNode (fun r_10 => (((r_10 = 0 → (post 0)) ∧ (¬ r_10 = 0 → (post 1))))) u b))))))))))))))))) u a))))))))) := by
    refine pk_eq kd 0 (fun k0 => ?_) (fun k0 => pk_eq kd 1 (fun k1 => ?_) (fun k1 => pk_eq kd 5 (fun k5 => ?_) (fun k5 => ?_)))
    · rcases f0 k0 with q | q
      · exact br_t q h
      · exact br_f (by rw [q]; decide) (br_t q h)
    · exact lf_sample (f1 k1) ⟨b1, h⟩
    · obtain ⟨p, e, hp⟩ := f5 k5
      subst e
      exact br_f (nI_pos (by omega)) (br_f (nI_ge (a := p) (b := 24) (by omega) (by omega)) h)
    · obtain ⟨p, e, hp⟩ := fx k0 k1 k5
      refine lf_isnode hn (by omega) e hp (br_f (by decide) ?_)
      refine pk_eq kd 4 (fun k4 => lf_sample (f4 k4) ⟨b1, h⟩) (fun k4 => pk_eq kd 6 (fun k6 => ?_) (fun k6 => pk_eq kd 7 (fun k7 => ?_) (fun k7 => pk_eq kd 8 (fun _ => h) (fun k8 => ?_))))
      · obtain ⟨l, e, hl⟩ := f6 k6
        subst e
        exact br_f (nI_pos (by omega)) (br_f (nI_nlt (a := 3) (b := l) (by omega) (by omega)) h)
      · obtain ⟨t, e, ht⟩ := f7 k7
        subst e
        exact br_f (nI_pos (by omega)) (br_f (nI_nlt (a := 32767) (b := t) (by omega) (by omega)) h)
      · obtain ⟨q, e, hq⟩ := f2 (by unfold gi_two; omega)
        exact lf_isnode hn (by omega) e hq (br_f (by decide) h)
  obtain ⟨nc, fc, lv, cp, nd, pn, le, wc, ac, dc, sc, a1, a2, a3, a4, a5, a6, a7, a8, a9, a10, a11, a12, a13, a14, a15, a16, a17, a18, a19, a20, a21, a22, a23, a24, a25, a26⟩ := u
  exact main
/-! takeList -/
def la_tl (c : St1) (l F t : Nat) (j : Nat) : Int32 := if 6 * F ≤ j ∧ j < 6 * F + t then uq_a2 c (6 * l + (j - 6 * F)) else uq_a8 c j
theorem la_take {post : St1 → Prop} {u : St1} {n l F t : Nat} {p q : Int32} (hn : n < 24) (hl : l < 4) (hF : F < 4) (hfc : uq_fc u = nI F) (ht : uq_a1 u l = nI t) (t6 : t ≤ 6) (hp0 : p = nI n) (hq0 : q = nI l)
    (hp : post (uq_nc u, nI (F + 1), uq_lv u, uq_cp u, uq_nd u, uq_pn u, uq_le u, uq_wc u, uq_ac u, uq_dc u, uq_sc u, uq_a1 u, uq_a2 u, uq_a3 u, uq_a4 u, uq_a5 u, upd (uq_a6 u) n (nI F), upd (uq_a7 u) F (nI t), la_tl u l F t, uq_a9 u, uq_a10 u, uq_a11 u, uq_a12 u, uq_a13 u, uq_a14 u, uq_a15 u, uq_a16 u, uq_a17 u, uq_a18 u, uq_a19 u, uq_a20 u, uq_a21 u, uq_a22 u, uq_a23 u, uq_a24 u, uq_a25 u, uq_a26 u)) : wpX_takeList post u p q := by
  subst hp0 hq0
  have loop : ∃ fu, wX_takeList_38 post (nI l) (nI F) (uq_nc u) (nI (F + 1)) (uq_lv u) (uq_cp u) (uq_nd u) (uq_pn u) (uq_le u) (uq_wc u) (uq_ac u) (uq_dc u) (uq_sc u) fu 0 (uq_a1 u) (uq_a2 u) (uq_a3 u) (uq_a4 u) (uq_a5 u) (upd (uq_a6 u) n (nI F)) (upd (uq_a7 u) F (nI t)) (uq_a8 u) (uq_a9 u) (uq_a10 u) (uq_a11 u) (uq_a12 u) (uq_a13 u) (uq_a14 u) (uq_a15 u) (uq_a16 u) (uq_a17 u) (uq_a18 u) (uq_a19 u) (uq_a20 u) (uq_a21 u) (uq_a22 u) (uq_a23 u) (uq_a24 u) (uq_a25 u) (uq_a26 u) := by
    refine pk_loop (fun fu i (a8 : Nat → Int32) => wX_takeList_38 post (nI l) (nI F) (uq_nc u) (nI (F + 1)) (uq_lv u) (uq_cp u) (uq_nd u) (uq_pn u) (uq_le u) (uq_wc u) (uq_ac u) (uq_dc u) (uq_sc u) fu (nI i) (uq_a1 u) (uq_a2 u) (uq_a3 u) (uq_a4 u) (uq_a5 u) (upd (uq_a6 u) n (nI F)) (upd (uq_a7 u) F (nI t)) (a8) (uq_a9 u) (uq_a10 u) (uq_a11 u) (uq_a12 u) (uq_a13 u) (uq_a14 u) (uq_a15 u) (uq_a16 u) (uq_a17 u) (uq_a18 u) (uq_a19 u) (uq_a20 u) (uq_a21 u) (uq_a22 u) (uq_a23 u) (uq_a24 u) (uq_a25 u) (uq_a26 u)) (fun i a8 => ∀ j, a8 j = if 6 * F ≤ j ∧ j < 6 * F + i then uq_a2 u (6 * l + (j - 6 * F)) else uq_a8 u j) t 0 (uq_a8 u) (by omega) (fun j => by rw [if_neg (by omega)]) ?_ ?_
    · intro fu a8 h
      rw [wX_takeList_38]
      dsimp only
      rw [nu_cl F, pk_us]
      refine ⟨nu_in hF, pk_le t t (fun _ => ?_) (fun z => absurd z (by omega))⟩
      have e : a8 = la_tl u l F t := funext h
      rw [e]
      exact hp
    · intro fu i a8 hi h ih
      rw [wX_takeList_38]
      dsimp only
      have ix : 6 * nI l + nI i = nI (6 * l + i) := by rw [← nI_add, ← pk_mul]; rfl
      have iy : 6 * nI F + nI i = nI (6 * F + i) := by rw [← nI_add, ← pk_mul]; rfl
      rw [nu_cl F, pk_us, ix, iy, nu_cl (6 * l + i), nu_cl (6 * F + i)]
      refine ⟨nu_in hF, pk_le t i (fun z => absurd z (by omega)) (fun _ => ⟨nu_in (by omega), nu_in (by omega), nm_e (nm_r (nI_1 i) (ih _ (fun j => ?_)))⟩)⟩
      by_cases e : j = 6 * F + i
      · rw [nu_us e, if_pos (by omega), e, show 6 * F + i - 6 * F = i by omega]
      · rw [pk_un e, h j]
        by_cases q : 6 * F ≤ j ∧ j < 6 * F + i
        · rw [if_pos q, if_pos (by omega)]
        · rw [if_neg q, if_neg (by omega)]
  have main : ∀ f_1 : Int32, f_1 = uq_fc u + 1 → (vp_in (nI n) 24 ∧ ∀ a6_3 : Nat → Int32, a6_3 = upd (uq_a6 u) (nI n).toNatClampNeg (uq_fc u).toInt8.toInt32 → (vp_in (nI l) 4 ∧ (vp_in (uq_fc u) 4 ∧ ∀ a7_6 : Nat → Int32, a7_6 = upd (uq_a7 u) (uq_fc u).toNatClampNeg (vp_nar .byte (uq_a1 u (nI l).toNatClampNeg)) → (∃ fu38 : Nat, wX_takeList_38 post (nI l) (uq_fc u) (uq_nc u) (f_1) (uq_lv u) (uq_cp u) (uq_nd u) (uq_pn u) (uq_le u) (uq_wc u) (uq_ac u) (uq_dc u) (uq_sc u) fu38 0 (uq_a1 u) (uq_a2 u) (uq_a3 u) (uq_a4 u) (uq_a5 u) (a6_3) (a7_6) (uq_a8 u) (uq_a9 u) (uq_a10 u) (uq_a11 u) (uq_a12 u) (uq_a13 u) (uq_a14 u) (uq_a15 u) (uq_a16 u) (uq_a17 u) (uq_a18 u) (uq_a19 u) (uq_a20 u) (uq_a21 u) (uq_a22 u) (uq_a23 u) (uq_a24 u) (uq_a25 u) (uq_a26 u))))) := by
    rw [hfc, nu_cl n, nu_cl l, nu_cl F, nu_b8 F (by omega), ht, nu_nb (by omega)]
    exact nm_r (nI_1 F) ⟨nu_in hn, nm_e ⟨nu_in hl, nu_in hF, nm_e loop⟩⟩
  obtain ⟨nc, fc, lv, cp, nd, pn, le, wc, ac, dc, sc, a1, a2, a3, a4, a5, a6, a7, a8, a9, a10, a11, a12, a13, a14, a15, a16, a17, a18, a19, a20, a21, a22, a23, a24, a25, a26⟩ := u
  exact main
end
section
/-! the graph with one node more -/
def la_np (c : St1) (kd : Nat) (a b : Int32) : St1 := (nI (gi_N c + 1), uq_fc c, uq_lv c, uq_cp c, uq_nd c, uq_pn c, uq_le c, uq_wc c, uq_ac c, uq_dc c, uq_sc c, uq_a1 c, uq_a2 c, upd (uq_a3 c) (gi_N c) (nI kd), upd (uq_a4 c) (gi_N c) a, upd (uq_a5 c) (gi_N c) b, uq_a6 c, uq_a7 c, uq_a8 c, uq_a9 c, uq_a10 c, uq_a11 c, uq_a12 c, uq_a13 c, uq_a14 c, uq_a15 c, uq_a16 c, uq_a17 c, uq_a18 c, uq_a19 c, uq_a20 c, uq_a21 c, uq_a22 c, uq_a23 c, uq_a24 c, uq_a25 c, uq_a26 c)
def la_nf (c : St1) (kd : Nat) (a b : Int32) : St1 := (uq_nc (la_np c kd a b), nI (gi_F c + 1), uq_lv (la_np c kd a b), uq_cp (la_np c kd a b), uq_nd (la_np c kd a b), uq_pn (la_np c kd a b), uq_le (la_np c kd a b), uq_wc (la_np c kd a b), uq_ac (la_np c kd a b), uq_dc (la_np c kd a b), uq_sc (la_np c kd a b), uq_a1 (la_np c kd a b), uq_a2 (la_np c kd a b), uq_a3 (la_np c kd a b), uq_a4 (la_np c kd a b), uq_a5 (la_np c kd a b), upd (uq_a6 c) (gi_N c) (nI (gi_F c)), upd (uq_a7 c) (gi_F c) (nI (uq_a1 c b.toNatClampNeg).toNatClampNeg), la_tl c b.toNatClampNeg (gi_F c) (uq_a1 c b.toNatClampNeg).toNatClampNeg, uq_a9 (la_np c kd a b), uq_a10 (la_np c kd a b), uq_a11 (la_np c kd a b), uq_a12 (la_np c kd a b), uq_a13 (la_np c kd a b), uq_a14 (la_np c kd a b), uq_a15 (la_np c kd a b), uq_a16 (la_np c kd a b), uq_a17 (la_np c kd a b), uq_a18 (la_np c kd a b), uq_a19 (la_np c kd a b), uq_a20 (la_np c kd a b), uq_a21 (la_np c kd a b), uq_a22 (la_np c kd a b), uq_a23 (la_np c kd a b), uq_a24 (la_np c kd a b), uq_a25 (la_np c kd a b), uq_a26 (la_np c kd a b))
def la_nod (g : rn_T) (kd : Nat) (a b : Int32) : rn_T := if kd = 6 then rn_g (la_nf (rn_c g) kd a b) else rn_g (la_np (rn_c g) kd a b)
theorem la_Gnew {c d : St1} {F' : Nat} (G : gi_G c) (hN : gi_N c < 24) (hnc : uq_nc d = nI (gi_N c + 1)) (h3 : ∀ n, n < gi_N c → uq_a3 d n = uq_a3 c n) (h4 : ∀ n, n < gi_N c → uq_a4 d n = uq_a4 c n) (h5 : ∀ n, n < gi_N c → uq_a5 d n = uq_a5 c n) (h6 : ∀ n, n < gi_N c → uq_a6 d n = uq_a6 c n)
    (hfc : uq_fc d = nI F') (hF : gi_F c ≤ F') (hF4 : F' ≤ 4) (hnew : gi_node d (gi_N c)) (hmo : ∀ n, n < gi_N c → gi_k c n = 6 → gi_k d (gi_N c) = 6 → gi_f c n < gi_f d (gi_N c))
    (h7 : ∀ f, f < F' → uq_a7 d f = nI (gi_T d f) ∧ 1 ≤ gi_T d f ∧ gi_T d f ≤ 6) (h9 : uq_a9 d = uq_a9 c) : gi_G d := by
  obtain ⟨g1, g2, g3, g4, g5, g6, g7, g8⟩ := id G
  have eN : gi_N d = gi_N c + 1 := by
    unfold gi_N
    rw [hnc]
    exact nu_cl _
  have eF : gi_F d = F' := by
    unfold gi_F
    rw [hfc]
    exact nu_cl _
  have ek : ∀ n, n < gi_N c → gi_k d n = gi_k c n := fun n hn => by unfold gi_k; rw [h3 n hn]
  have ex : ∀ n, n < gi_N c → gi_x d n = gi_x c n := fun n hn => by unfold gi_x; rw [h4 n hn]
  have ey : ∀ n, n < gi_N c → gi_y d n = gi_y c n := fun n hn => by unfold gi_y; rw [h5 n hn]
  have ef : ∀ n, n < gi_N c → gi_f d n = gi_f c n := fun n hn => by unfold gi_f; rw [h6 n hn]
  refine ⟨by rw [eN]; exact hnc, by rw [eN]; omega, by rw [eF]; exact hfc, by rw [eF]; exact hF4, ?_, ?_, by rw [eF]; exact h7, ?_⟩
  · rw [eN]
    intro n hn
    by_cases e : n = gi_N c
    · rw [e]; exact hnew
    · have hn' : n < gi_N c := by omega
      obtain ⟨n1, n2, n3, n4, n5, n6, n7, n8⟩ := g5 n hn'
      unfold gi_node
      rw [ek n hn', ex n hn', ey n hn', ef n hn', h3 n hn', h4 n hn', h5 n hn', h6 n hn', eF]
      exact ⟨n1, n2, n3, n4, n5, n6, n7, fun k => ⟨(n8 k).1, by have := (n8 k).2; omega⟩⟩
  · rw [eN]
    intro n m hnm hm kn km
    have hn' : n < gi_N c := by omega
    rw [ek n hn'] at kn
    rw [ef n hn']
    by_cases e : m = gi_N c
    · rw [e] at km ⊢
      exact hmo n hn' kn km
    · have hm' : m < gi_N c := by omega
      rw [ek m hm'] at km
      rw [ef m hm']
      exact g6 n m hnm hm' kn km
  · rw [eN]
    intro o ho
    unfold gi_o
    rw [h9]
    rcases g8 o ho with q | ⟨q1, q2⟩
    · exact Or.inl q
    · exact Or.inr ⟨q1, by have q2' : (uq_a9 c o).toNatClampNeg < gi_N c := q2; omega⟩
/-- the new node itself -/
theorem la_newnode {d : St1} {n kd F' : Nat} {a b : Int32} (h24 : n < 24) (hf : la_fit n kd a b) (h3 : uq_a3 d n = nI kd) (h4 : uq_a4 d n = a) (h5 : uq_a5 d n = b) (h6 : kd = 6 → uq_a6 d n = nI F' ∧ F' < gi_F d ∧ F' < 4) : gi_node d n ∧ gi_k d n = kd := by
  obtain ⟨k10, f0, f1, f5, fx, f4, f6, f7, f2⟩ := hf
  have ek : gi_k d n = kd := by unfold gi_k; rw [h3]; exact nu_cl kd
  have ax : ∀ p : Nat, a = nI p → p < 2 ^ 31 → gi_x d n = p := fun p e hp => by unfold gi_x; rw [h4, e]; exact nu_cl p
  refine ⟨⟨?_, ?_, ?_, ?_, ?_, ?_, ?_, ?_⟩, ek⟩
  · rw [ek]; exact h3
  · rw [ek]; exact k10
  · rw [ek, h4]
    intro k1
    by_cases k0 : kd = 0
    · rcases f0 k0 with q | q
      · rw [ax 0 q (by omega)]; exact q
      · rw [ax 1 q (by omega)]; exact q
    · by_cases k5 : kd = 5
      · obtain ⟨p, q, hp⟩ := f5 k5
        rw [ax p q (by omega)]; exact q
      · obtain ⟨p, q, hp⟩ := fx k0 k1 k5
        rw [ax p q (by omega)]; exact q
  · rw [ek]
    intro k0
    rcases f0 k0 with q | q
    · rw [ax 0 q (by omega)]; omega
    · rw [ax 1 q (by omega)]; omega
  · rw [ek]
    intro k5
    obtain ⟨p, q, hp⟩ := f5 k5
    rw [ax p q (by omega)]; exact hp
  · rw [ek]
    intro k2 k5
    obtain ⟨p, q, hp⟩ := fx (by omega) (by omega) k5
    rw [ax p q (by omega)]; exact hp
  · rw [ek]
    intro t
    obtain ⟨q, e, hq⟩ := f2 t
    have : gi_y d n = q := by unfold gi_y; rw [h5, e]; exact nu_cl q
    rw [this, h5]
    exact ⟨e, hq⟩
  · rw [ek]
    intro k6
    obtain ⟨e, hq, h4'⟩ := h6 k6
    have : gi_f d n = F' := by unfold gi_f; rw [e]; exact nu_cl F'
    rw [this]
    exact ⟨e, hq⟩
theorem gi_G_np {u : St1} {kd : Nat} {a b : Int32} (G : gi_G u) (hN : gi_N u < 24) (hf : la_fit (gi_N u) kd a b) (k6 : kd ≠ 6) : gi_G (la_np u kd a b) := by
  obtain ⟨g1, g2, g3, g4, g5, g6, g7, g8⟩ := id G
  obtain ⟨nn, nk⟩ := la_newnode (d := la_np u kd a b) (F' := 0) hN hf pk_us pk_us pk_us (fun z => absurd z k6)
  exact la_Gnew (d := la_np u kd a b) G hN rfl (fun n hn => pk_un (by omega)) (fun n hn => pk_un (by omega)) (fun n hn => pk_un (by omega)) (fun n hn => rfl) g3 (Nat.le_refl _) g4 nn (fun n hn _ z => absurd (nk.symm.trans z) k6) g7 rfl
theorem gi_G_nf {u : St1} {a b : Int32} (G : gi_G u) (hL : la_L u) (hN : gi_N u < 24) (hF : gi_F u < 4) (hf : la_fit (gi_N u) 6 a b) : gi_G (la_nf u 6 a b) := by
  obtain ⟨g1, g2, g3, g4, g5, g6, g7, g8⟩ := id G
  obtain ⟨l, el, hl⟩ := hf.2.2.2.2.2.2.1 rfl
  obtain ⟨t, et, t1, t6⟩ := hL l hl
  have e1 : (uq_a1 u b.toNatClampNeg).toNatClampNeg = t := by rw [el, nu_cl l, et, nu_cl t]
  have eF : gi_F (la_nf u 6 a b) = gi_F u + 1 := nu_cl _
  obtain ⟨nn, nk⟩ := la_newnode (d := la_nf u 6 a b) (F' := gi_F u) hN hf pk_us pk_us pk_us (fun _ => ⟨pk_us, by rw [eF]; omega, hF⟩)
  have efN : gi_f (la_nf u 6 a b) (gi_N u) = gi_F u := by
    show (upd (uq_a6 u) (gi_N u) (nI (gi_F u)) (gi_N u)).toNatClampNeg = _
    rw [pk_us]
    exact nu_cl _
  refine la_Gnew (d := la_nf u 6 a b) (F' := gi_F u + 1) G hN rfl (fun n hn => pk_un (by omega)) (fun n hn => pk_un (by omega)) (fun n hn => pk_un (by omega)) (fun n hn => pk_un (by omega)) rfl (by omega) (by omega) nn (fun n hn kn _ => ?_) (fun f hf => ?_) rfl
  · rw [efN]
    exact ((g5 n hn).2.2.2.2.2.2.2 kn).2
  · show upd (uq_a7 u) (gi_F u) (nI (uq_a1 u b.toNatClampNeg).toNatClampNeg) f = nI (upd (uq_a7 u) (gi_F u) (nI (uq_a1 u b.toNatClampNeg).toNatClampNeg) f).toNatClampNeg ∧ 1 ≤ (upd (uq_a7 u) (gi_F u) (nI (uq_a1 u b.toNatClampNeg).toNatClampNeg) f).toNatClampNeg ∧ (upd (uq_a7 u) (gi_F u) (nI (uq_a1 u b.toNatClampNeg).toNatClampNeg) f).toNatClampNeg ≤ 6
    by_cases e : f = gi_F u
    · rw [nu_us e, e1, nu_cl t]
      exact ⟨rfl, t1, t6⟩
    · rw [pk_un e]
      exact g7 f (by omega)
/-! node -/
def la_full (u : St1) (kd : Nat) : Prop := gi_N u = 24 ∨ (kd = 6 ∧ gi_F u = 4)
theorem la_node26 {post : Int32 → St1 → Prop} {u : St1} {M : Nat → Int32} {A : Nat → Nat} {kd : Nat} {a b : Int32} (h : rn_I u M A) (hL : la_L u) (hN : gi_N u < 24) (hF : kd = 6 → gi_F u < 4) (hf : la_fit (gi_N u) kd a b)
    (hp : ∀ u', rn_g u' = la_nod (rn_g u) kd a b → uq_sc u' = 0 → rn_I u' (la_rm M) (fun _ => 0) → post (nI (gi_N u)) u') : wX_node_26 post (nI kd) a b (uq_nc u) (uq_fc u) (uq_lv u) (uq_cp u) (uq_nd u) (uq_pn u) (uq_le u) (uq_wc u) (uq_ac u) (uq_dc u) (uq_sc u) (uq_a1 u) (uq_a2 u) (uq_a3 u) (uq_a4 u) (uq_a5 u) (uq_a6 u) (uq_a7 u) (uq_a8 u) (uq_a9 u) (uq_a10 u) (uq_a11 u) (uq_a12 u) (uq_a13 u) (uq_a14 u) (uq_a15 u) (uq_a16 u) (uq_a17 u) (uq_a18 u) (uq_a19 u) (uq_a20 u) (uq_a21 u) (uq_a22 u) (uq_a23 u) (uq_a24 u) (uq_a25 u) (uq_a26 u) := by
  have G := rn_I_G h
  obtain ⟨m0, m1⟩ := la_me01 h
  have k10 := hf.1
  unfold wX_node_26
  refine br_f (nI_pos (by omega)) (br_f (nI_nlt (a := 10) (b := kd) k10 (by omega)) ?_)
  refine lf_fit (u := u) (gi_nc G) hN hf (br_f (by decide) ?_)
  rw [gi_nc G, nu_cl (gi_N u), nu_b8 kd (by omega)]
  refine nm_r (nI_1 _) ⟨nu_in (by omega), nm_e ⟨nu_in (by omega), nm_e ⟨nu_in (by omega), nm_e ?_⟩⟩⟩
  refine pk_eq kd 6 (fun k6 => ?_) (fun k6 => ?_)
  · subst k6
    obtain ⟨l, el, hl⟩ := hf.2.2.2.2.2.2.1 rfl
    obtain ⟨t, et, t1, t6⟩ := hL l hl
    have e1 : (uq_a1 u b.toNatClampNeg).toNatClampNeg = t := by rw [el, nu_cl l, et, nu_cl t]
    have e2 : b.toNatClampNeg = l := by rw [el, nu_cl l]
    have fin : wpX_change (fun w => post (nI (gi_N u)) w) (la_nf u 6 a b) :=
      rn_change (M := M) (gi_G_nf G hL hN (hF rfl) hf) h.1 m0 m1 (fun u' q1 q2 q3 q4 => hp u' (q1.trans (by unfold la_nod; rw [if_pos rfl]; rfl)) q3 q4)
    have fin2 : wpX_change (fun w => post (nI (gi_N u)) w) (uq_nc (la_np u 6 a b), nI (gi_F u + 1), uq_lv (la_np u 6 a b), uq_cp (la_np u 6 a b), uq_nd (la_np u 6 a b), uq_pn (la_np u 6 a b), uq_le (la_np u 6 a b), uq_wc (la_np u 6 a b), uq_ac (la_np u 6 a b), uq_dc (la_np u 6 a b), uq_sc (la_np u 6 a b), uq_a1 (la_np u 6 a b), uq_a2 (la_np u 6 a b), uq_a3 (la_np u 6 a b), uq_a4 (la_np u 6 a b), uq_a5 (la_np u 6 a b), upd (uq_a6 u) (gi_N u) (nI (gi_F u)), upd (uq_a7 u) (gi_F u) (nI t), la_tl u l (gi_F u) t, uq_a9 (la_np u 6 a b), uq_a10 (la_np u 6 a b), uq_a11 (la_np u 6 a b), uq_a12 (la_np u 6 a b), uq_a13 (la_np u 6 a b), uq_a14 (la_np u 6 a b), uq_a15 (la_np u 6 a b), uq_a16 (la_np u 6 a b), uq_a17 (la_np u 6 a b), uq_a18 (la_np u 6 a b), uq_a19 (la_np u 6 a b), uq_a20 (la_np u 6 a b), uq_a21 (la_np u 6 a b), uq_a22 (la_np u 6 a b), uq_a23 (la_np u 6 a b), uq_a24 (la_np u 6 a b), uq_a25 (la_np u 6 a b), uq_a26 (la_np u 6 a b)) := by
      unfold la_nf at fin
      rw [e1, e2] at fin
      exact fin
    exact la_take (u := la_np u 6 a b) hN hl (hF rfl) G.2.2.1 et t6 rfl el fin2
  · have fin : wpX_change (fun w => post (nI (gi_N u)) w) (la_np u kd a b) :=
      rn_change (M := M) (gi_G_np G hN hf k6) h.1 m0 m1 (fun u' q1 q2 q3 q4 => hp u' (q1.trans (by unfold la_nod; rw [if_neg k6]; rfl)) q3 q4)
    exact fin
theorem rn_node {post : Int32 → St1 → Prop} {u : St1} {M : Nat → Int32} {A : Nat → Nat} {kd : Nat} {a b : Int32} (h : rn_I u M A) (hL : la_L u) (hf : la_fit (gi_N u) kd a b)
    (hp0 : la_full u kd → post (-100001) u) (hp : ¬ la_full u kd → ∀ u', rn_g u' = la_nod (rn_g u) kd a b → uq_sc u' = 0 → rn_I u' (la_rm M) (fun _ => 0) → post (nI (gi_N u)) u') : wpX_node post u (nI kd) a b := by
  have G := rn_I_G h
  have hN := gi_n24 G
  have F4 : gi_F u ≤ 4 := G.2.2.2.1
  have k10 := hf.1
  have main : ((24 ≤ uq_nc u → (post (-100001) u)) ∧ (¬ 24 ≤ uq_nc u → (((nI kd = 6 → (((uq_fc u < 4 → (wX_node_26 post (nI kd) a b (uq_nc u) (uq_fc u) (uq_lv u) (uq_cp u) (uq_nd u) (uq_pn u) (uq_le u) (uq_wc u) (uq_ac u) (uq_dc u) (uq_sc u) (uq_a1 u) (uq_a2 u) (uq_a3 u) (uq_a4 u) (uq_a5 u) (uq_a6 u) (uq_a7 u) (uq_a8 u) (uq_a9 u) (uq_a10 u) (uq_a11 u) (uq_a12 u) (uq_a13 u) (uq_a14 u) (uq_a15 u) (uq_a16 u) (uq_a17 u) (uq_a18 u) (uq_a19 u) (uq_a20 u) (uq_a21 u) (uq_a22 u) (uq_a23 u) (uq_a24 u) (uq_a25 u) (uq_a26 u))) ∧ (¬ uq_fc u < 4 → (post (-100001) u))))) ∧ (¬ nI kd = 6 → (wX_node_26 post (nI kd) a b (uq_nc u) (uq_fc u) (uq_lv u) (uq_cp u) (uq_nd u) (uq_pn u) (uq_le u) (uq_wc u) (uq_ac u) (uq_dc u) (uq_sc u) (uq_a1 u) (uq_a2 u) (uq_a3 u) (uq_a4 u) (uq_a5 u) (uq_a6 u) (uq_a7 u) (uq_a8 u) (uq_a9 u) (uq_a10 u) (uq_a11 u) (uq_a12 u) (uq_a13 u) (uq_a14 u) (uq_a15 u) (uq_a16 u) (uq_a17 u) (uq_a18 u) (uq_a19 u) (uq_a20 u) (uq_a21 u) (uq_a22 u) (uq_a23 u) (uq_a24 u) (uq_a25 u) (uq_a26 u))))))) := by
    refine pk_le 24 (gi_N u) (fun z => hp0 (Or.inl (by omega))) (fun z => ?_) rfl (gi_nc G)
    refine pk_eq kd 6 (fun k6 => ?_) (fun k6 => ?_)
    · refine pk_lt (gi_F u) 4 (fun y => ?_) (fun y => hp0 (Or.inr ⟨k6, by omega⟩)) G.2.2.1
      exact la_node26 h hL z (fun _ => y) hf (hp (fun q => by rcases q with q | q <;> omega))
    · exact la_node26 h hL z (fun q => absurd q k6) hf (hp (fun q => by rcases q with q | q <;> omega))
  obtain ⟨nc, fc, lv, cp, nd, pn, le, wc, ac, dc, sc, a1, a2, a3, a4, a5, a6, a7, a8, a9, a10, a11, a12, a13, a14, a15, a16, a17, a18, a19, a20, a21, a22, a23, a24, a25, a26⟩ := u
  exact main
end
section
/-! made: one call of node, the same for all -/
theorem la_made (p1 p2 p3 : Int32) {n : Nat} (hn : n ≤ 24) : ∃ (kd : Nat) (a b : Int32), la_fit n kd a b ∧ ∀ (post : Int32 → St1 → Prop) (u : St1), wpX_node post u (nI kd) a b → wpL_made post u p1 p2 p3 (nI n) := by
  obtain ⟨w, hw, ew⟩ := pk_andE p1 8 (m := 255) (by decide)
  obtain ⟨x, hx, ex⟩ := pk_andE p2 8 (m := 255) (by decide)
  obtain ⟨y, hy, ey⟩ := pk_andE p3 8 (m := 255) (by decide)
  have e5 : (p1 &&& 255) - (p1 &&& 255) / 11 * 11 = nI (w % 11) := by
    rw [ew]
    exact pk_rem (d := 11) (by omega) (by omega) (by omega)
  have k11 : w % 11 < 11 := Nat.mod_lt _ (by omega)
  generalize w % 11 = kd at *
  have ea : n ≠ 0 → (p2 &&& 255) - (p2 &&& 255) / nI n * nI n = nI (x % n) := fun h0 => by
    rw [ex]
    exact pk_rem (by omega) (by omega) (by omega)
  have eb : n ≠ 0 → (p3 &&& 255) - (p3 &&& 255) / nI n * nI n = nI (y % n) := fun h0 => by
    rw [ey]
    exact pk_rem (by omega) (by omega) (by omega)
  have e1 : (p2 &&& 255) - (p2 &&& 255) / (nI n + 1) * (nI n + 1) = nI (x % (n + 1)) := by
    rw [ex, nI_1]
    exact pk_rem (by omega) (by omega) (by omega)
  have body : ∃ (kd' : Nat) (a b : Int32), la_fit n kd' a b ∧ ∀ (post : Int32 → St1 → Prop) (u : St1), wpX_node post u (nI kd') a b → wL_made_46 post p2 p3 (nI n) (nI kd) (if n = 0 then 0 else nI (x % n)) (if n = 0 then 0 else nI (y % n)) (uq_nc u) (uq_fc u) (uq_lv u) (uq_cp u) (uq_nd u) (uq_pn u) (uq_le u) (uq_wc u) (uq_ac u) (uq_dc u) (uq_sc u) (uq_a1 u) (uq_a2 u) (uq_a3 u) (uq_a4 u) (uq_a5 u) (uq_a6 u) (uq_a7 u) (uq_a8 u) (uq_a9 u) (uq_a10 u) (uq_a11 u) (uq_a12 u) (uq_a13 u) (uq_a14 u) (uq_a15 u) (uq_a16 u) (uq_a17 u) (uq_a18 u) (uq_a19 u) (uq_a20 u) (uq_a21 u) (uq_a22 u) (uq_a23 u) (uq_a24 u) (uq_a25 u) (uq_a26 u) := by
    by_cases h0 : n = 0 ∨ kd = 0
    · obtain ⟨j, hj, ej⟩ := pk_andE p2 1 (m := 1) (by decide)
      refine ⟨0, p2 &&& 1, 0, ⟨by omega, fun _ => ?_, fun z => by omega, fun z => by omega, fun z => absurd rfl z, fun z => by omega, fun z => by omega, fun z => by omega, fun z => by unfold gi_two at z; omega⟩, fun post u h => ?_⟩
      · rw [ej]
        rcases (show j = 0 ∨ j = 1 by omega) with q | q
        · rw [q]; exact Or.inl rfl
        · rw [q]; exact Or.inr rfl
      · refine pk_eq n 0 (fun _ => h) (fun z => pk_eq kd 0 (fun _ => h) (fun z2 => by omega))
    · have n0 : n ≠ 0 := fun e => h0 (Or.inl e)
      have k0 : kd ≠ 0 := fun e => h0 (Or.inr e)
      have hxm := Nat.mod_lt x (show n > 0 by omega)
      have hym := Nat.mod_lt y (show n > 0 by omega)
      have hxm1 := Nat.mod_lt x (show n + 1 > 0 by omega)
      rw [if_neg n0, if_neg n0]
      have two : ∀ k, gi_two k → k ≠ 0 ∧ k ≠ 1 ∧ k ≠ 5 ∧ k ≠ 4 ∧ k ≠ 6 ∧ k ≠ 7 := fun k h => by unfold gi_two at h; omega
      by_cases k1 : kd = 1
      · refine ⟨1, p3.toInt16.toInt32, 0, ⟨by omega, fun z => by omega, fun _ => la_short _, fun z => by omega, fun _ z => absurd rfl z, fun z => by omega, fun z => by omega, fun z => by omega, fun z => by unfold gi_two at z; omega⟩, fun post u h => ?_⟩
        exact pk_eq n 0 (fun z => absurd z n0) (fun _ => pk_eq kd 0 (fun z => absurd z k0) (fun _ => pk_eq kd 1 (fun _ => h) (fun z => absurd k1 z)))
      by_cases k5 : kd = 5
      · refine ⟨5, nI (x % (n + 1)), 0, ⟨by omega, fun z => by omega, fun z => by omega, fun _ => ⟨_, rfl, by omega⟩, fun _ _ z => absurd rfl z, fun z => by omega, fun z => by omega, fun z => by omega, fun z => by unfold gi_two at z; omega⟩, fun post u h => ?_⟩
        refine pk_eq n 0 (fun z => absurd z n0) (fun _ => pk_eq kd 0 (fun z => absurd z k0) (fun _ => pk_eq kd 1 (fun z => absurd z k1) (fun _ => pk_eq kd 5 (fun _ => ⟨?_, ?_⟩) (fun z => absurd k5 z))))
        · rw [nI_1]; exact nI_ne0 (by omega) (by omega)
        · rw [e1]; exact h
      by_cases k4 : kd = 4
      · refine ⟨4, nI (x % n), p3.toInt16.toInt32, ⟨by omega, fun z => by omega, fun z => by omega, fun z => by omega, fun _ _ _ => ⟨_, rfl, hxm⟩, fun _ => la_short _, fun z => by omega, fun z => by omega, fun z => by unfold gi_two at z; omega⟩, fun post u h => ?_⟩
        exact pk_eq n 0 (fun z => absurd z n0) (fun _ => pk_eq kd 0 (fun z => absurd z k0) (fun _ => pk_eq kd 1 (fun z => absurd z k1) (fun _ => pk_eq kd 5 (fun z => absurd z k5) (fun _ => pk_eq kd 4 (fun _ => h) (fun z => absurd k4 z)))))
      by_cases k6 : kd = 6
      · obtain ⟨j, hj, ej⟩ := pk_andE p3 2 (m := 3) (by decide)
        refine ⟨6, nI (x % n), p3 &&& 3, ⟨by omega, fun z => by omega, fun z => by omega, fun z => by omega, fun _ _ _ => ⟨_, rfl, hxm⟩, fun z => by omega, fun _ => ⟨j, ej, by omega⟩, fun z => by omega, fun z => by unfold gi_two at z; omega⟩, fun post u h => ?_⟩
        refine pk_eq n 0 (fun z => absurd z n0) (fun _ => pk_eq kd 0 (fun z => absurd z k0) (fun _ => pk_eq kd 1 (fun z => absurd z k1) (fun _ => pk_eq kd 5 (fun z => absurd z k5) (fun _ => pk_eq kd 4 (fun z => absurd z k4) (fun _ => pk_eq kd 6 (fun _ => ?_) (fun z => absurd k6 z))))))
        subst k6
        exact h
      by_cases k7 : kd = 7
      · obtain ⟨j, hj, ej⟩ := pk_andE p3 15 (m := 32767) (by decide)
        refine ⟨7, nI (x % n), p3 &&& 32767, ⟨by omega, fun z => by omega, fun z => by omega, fun z => by omega, fun _ _ _ => ⟨_, rfl, hxm⟩, fun z => by omega, fun z => by omega, fun _ => ⟨j, ej, by omega⟩, fun z => by unfold gi_two at z; omega⟩, fun post u h => ?_⟩
        refine pk_eq n 0 (fun z => absurd z n0) (fun _ => pk_eq kd 0 (fun z => absurd z k0) (fun _ => pk_eq kd 1 (fun z => absurd z k1) (fun _ => pk_eq kd 5 (fun z => absurd z k5) (fun _ => pk_eq kd 4 (fun z => absurd z k4) (fun _ => pk_eq kd 6 (fun z => absurd z k6) (fun _ => pk_eq kd 7 (fun _ => ?_) (fun z => absurd k7 z)))))))
        subst k7
        exact h
      · refine ⟨kd, nI (x % n), nI (y % n), ⟨by omega, fun z => by omega, fun z => by omega, fun z => by omega, fun _ _ _ => ⟨_, rfl, hxm⟩, fun z => by omega, fun z => by omega, fun z => by omega, fun _ => ⟨_, rfl, hym⟩⟩, fun post u h => ?_⟩
        exact pk_eq n 0 (fun z => absurd z n0) (fun _ => pk_eq kd 0 (fun z => absurd z k0) (fun _ => pk_eq kd 1 (fun z => absurd z k1) (fun _ => pk_eq kd 5 (fun z => absurd z k5) (fun _ => pk_eq kd 4 (fun z => absurd z k4) (fun _ => pk_eq kd 6 (fun z => absurd z k6) (fun _ => pk_eq kd 7 (fun z => absurd z k7) (fun _ => h)))))))
  obtain ⟨kd', a, b, hf, hb⟩ := body
  refine ⟨kd', a, b, hf, fun post u h => ?_⟩
  have B := hb post u h
  have main : ¬ (11 : Int32) = 0 ∧ (∀ x5_2 : Int32, x5_2 = (p1 &&& 255) - (p1 &&& 255) / 11 * 11 → (((nI n = 0 → (wL_made_27 post p2 p3 (nI n) x5_2 0 (uq_nc u) (uq_fc u) (uq_lv u) (uq_cp u) (uq_nd u) (uq_pn u) (uq_le u) (uq_wc u) (uq_ac u) (uq_dc u) (uq_sc u) (uq_a1 u) (uq_a2 u) (uq_a3 u) (uq_a4 u) (uq_a5 u) (uq_a6 u) (uq_a7 u) (uq_a8 u) (uq_a9 u) (uq_a10 u) (uq_a11 u) (uq_a12 u) (uq_a13 u) (uq_a14 u) (uq_a15 u) (uq_a16 u) (uq_a17 u) (uq_a18 u) (uq_a19 u) (uq_a20 u) (uq_a21 u) (uq_a22 u) (uq_a23 u) (uq_a24 u) (uq_a25 u) (uq_a26 u))) ∧ (¬ nI n = 0 → (¬ nI n = 0 ∧ (wL_made_27 post p2 p3 (nI n) x5_2 ((p2 &&& 255) - (p2 &&& 255) / nI n * nI n) (uq_nc u) (uq_fc u) (uq_lv u) (uq_cp u) (uq_nd u) (uq_pn u) (uq_le u) (uq_wc u) (uq_ac u) (uq_dc u) (uq_sc u) (uq_a1 u) (uq_a2 u) (uq_a3 u) (uq_a4 u) (uq_a5 u) (uq_a6 u) (uq_a7 u) (uq_a8 u) (uq_a9 u) (uq_a10 u) (uq_a11 u) (uq_a12 u) (uq_a13 u) (uq_a14 u) (uq_a15 u) (uq_a16 u) (uq_a17 u) (uq_a18 u) (uq_a19 u) (uq_a20 u) (uq_a21 u) (uq_a22 u) (uq_a23 u) (uq_a24 u) (uq_a25 u) (uq_a26 u))))))) := by
    refine ⟨by decide, nm_r e5 (pk_eq n 0 (fun z => ?_) (fun z => ⟨nI_ne0 (by omega) (by omega), ?_⟩))⟩
    · rw [if_pos z, if_pos z] at B
      exact pk_eq n 0 (fun _ => B) (fun q => absurd z q)
    · rw [if_neg z, if_neg z] at B
      rw [ea z]
      refine pk_eq n 0 (fun q => absurd q z) (fun _ => ⟨nI_ne0 (by omega) (by omega), ?_⟩)
      rw [eb z]
      exact B
  obtain ⟨nc, fc, lv, cp, nd, pn, le, wc, ac, dc, sc, a1, a2, a3, a4, a5, a6, a7, a8, a9, a10, a11, a12, a13, a14, a15, a16, a17, a18, a19, a20, a21, a22, a23, a24, a25, a26⟩ := u
  exact main
end
section
/-! value, sum, isIn, ahead -/
def la_val (g : rn_T) (M : Nat → Int32) (o : Nat) : Int32 := if uq_a9 (rn_c g) o = -1 then 0 else M (2 + o)
theorem lf_value {post : Int32 → Prop} {u : St1} {M : Nat → Int32} {A : Nat → Nat} {o : Nat} {p : Int32} (h : rn_I u M A) (ho : o < 4) (hp0 : p = nI o) (hp : post (la_val (rn_g u) M o)) : wpX_value post u p := by
  subst hp0
  have G := rn_I_G h
  have e9 : uq_a9 (rn_c (rn_g u)) = uq_a9 u := rfl
  unfold la_val at hp
  rw [e9] at hp
  have hm : uq_a9 u o ≠ -1 → uq_a21 u (2 + o) = M (2 + o) := by
    intro h9
    rcases h.2 with q | q
    · exact q.2.2.2.2.2.2.1 o ho h9
    · exact q.2.2.2.1 _ (by omega)
  have main : ((nI o < 0 → (post 0)) ∧ (¬ nI o < 0 → (((3 < nI o → (post 0)) ∧ (¬ 3 < nI o → (vp_in (nI o) 4 ∧ (((0 ≤ (uq_a9 u (nI o).toNatClampNeg) → (vp_in (2 + nI o) 96 ∧ (post (uq_a21 u (2 + nI o).toNatClampNeg)))) ∧ (¬ 0 ≤ (uq_a9 u (nI o).toNatClampNeg) → (post 0)))))))))) := by
    have i2 : 2 + nI o = nI (2 + o) := by rw [← nI_add]; rfl
    rw [i2, nu_cl o, nu_cl (2 + o)]
    refine br_f (nI_pos (by omega)) (br_f (nI_nlt (a := 3) (b := o) (by omega) (by omega)) ⟨nu_in ho, ?_⟩)
    rcases gi_o9 G ho with q | ⟨q, qn⟩
    · rw [if_pos q] at hp
      exact br_f (by rw [q]; decide) hp
    · have h9 : uq_a9 u o ≠ -1 := by rw [q]; exact nu_m1 (by have := gi_n24 G; omega)
      rw [if_neg h9] at hp
      refine br_t (by rw [q]; exact nI_pos' (by have := gi_n24 G; omega)) ⟨nu_in (by omega), ?_⟩
      rw [hm h9]
      exact hp
  obtain ⟨nc, fc, lv, cp, nd, pn, le, wc, ac, dc, sc, a1, a2, a3, a4, a5, a6, a7, a8, a9, a10, a11, a12, a13, a14, a15, a16, a17, a18, a19, a20, a21, a22, a23, a24, a25, a26⟩ := u
  exact main
def la_sm (g : rn_T) (M : Nat → Int32) (sc : Int32) : Nat → Int32
  | 0 => sc
  | o + 1 => 31 * la_sm g M sc o + la_val g M o
theorem lf_sum {post : Int32 → Prop} {u : St1} {M : Nat → Int32} {A : Nat → Nat} (h : rn_I u M A) (hp : post (la_sm (rn_g u) M (uq_sc u) 4)) : wpL_sum post u := by
  have loop : ∃ fu, wL_sum_7 post (uq_nc u) (uq_fc u) (uq_lv u) (uq_cp u) (uq_nd u) (uq_pn u) (uq_le u) (uq_wc u) (uq_ac u) (uq_dc u) (uq_sc u) (uq_a1 u) (uq_a2 u) (uq_a3 u) (uq_a4 u) (uq_a5 u) (uq_a6 u) (uq_a7 u) (uq_a8 u) (uq_a9 u) (uq_a10 u) (uq_a11 u) (uq_a12 u) (uq_a13 u) (uq_a14 u) (uq_a15 u) (uq_a16 u) (uq_a17 u) (uq_a18 u) (uq_a19 u) (uq_a20 u) (uq_a21 u) (uq_a22 u) (uq_a23 u) (uq_a24 u) (uq_a25 u) (uq_a26 u) fu (uq_sc u) 0 := by
    refine Exists.elim (pk_loop (σ := Unit) (fun fu o _ => wL_sum_7 post (uq_nc u) (uq_fc u) (uq_lv u) (uq_cp u) (uq_nd u) (uq_pn u) (uq_le u) (uq_wc u) (uq_ac u) (uq_dc u) (uq_sc u) (uq_a1 u) (uq_a2 u) (uq_a3 u) (uq_a4 u) (uq_a5 u) (uq_a6 u) (uq_a7 u) (uq_a8 u) (uq_a9 u) (uq_a10 u) (uq_a11 u) (uq_a12 u) (uq_a13 u) (uq_a14 u) (uq_a15 u) (uq_a16 u) (uq_a17 u) (uq_a18 u) (uq_a19 u) (uq_a20 u) (uq_a21 u) (uq_a22 u) (uq_a23 u) (uq_a24 u) (uq_a25 u) (uq_a26 u) fu (la_sm (rn_g u) M (uq_sc u) o) (nI o)) (fun _ _ => True) 4 0 () (by omega) trivial ?_ ?_) (fun fu hfu => ⟨fu, hfu⟩)
    · intro fu _ _
      exact pk_le 4 4 (fun _ => hp) (fun z => absurd z (by omega))
    · intro fu o _ ho _ ih
      refine pk_le 4 o (fun z => absurd z (by omega)) (fun _ => ?_)
      refine lf_value (u := u) h ho rfl (nm_e (nm_r (nI_1 o) (ih () trivial)))
  have main : ∃ fu7 : Nat, wL_sum_7 post (uq_nc u) (uq_fc u) (uq_lv u) (uq_cp u) (uq_nd u) (uq_pn u) (uq_le u) (uq_wc u) (uq_ac u) (uq_dc u) (uq_sc u) (uq_a1 u) (uq_a2 u) (uq_a3 u) (uq_a4 u) (uq_a5 u) (uq_a6 u) (uq_a7 u) (uq_a8 u) (uq_a9 u) (uq_a10 u) (uq_a11 u) (uq_a12 u) (uq_a13 u) (uq_a14 u) (uq_a15 u) (uq_a16 u) (uq_a17 u) (uq_a18 u) (uq_a19 u) (uq_a20 u) (uq_a21 u) (uq_a22 u) (uq_a23 u) (uq_a24 u) (uq_a25 u) (uq_a26 u) fu7 (uq_sc u) 0 := loop
  obtain ⟨nc, fc, lv, cp, nd, pn, le, wc, ac, dc, sc, a1, a2, a3, a4, a5, a6, a7, a8, a9, a10, a11, a12, a13, a14, a15, a16, a17, a18, a19, a20, a21, a22, a23, a24, a25, a26⟩ := u
  exact main
theorem lf_isin {post : Int32 → Prop} {u : St1} {M : Nat → Int32} {A : Nat → Nat} (h : rn_I u M A) (hr : ∀ o, o < 4 → la_smp (la_val (rn_g u) M o)) (hp : post 1) : wpL_isIn post u := by
  have e1 : (-32768 : Int32).toInt = -32768 := by decide
  have e2 : (32767 : Int32).toInt = 32767 := by decide
  have main : ∃ fu, wL_isIn_2 post (uq_nc u) (uq_fc u) (uq_lv u) (uq_cp u) (uq_nd u) (uq_pn u) (uq_le u) (uq_wc u) (uq_ac u) (uq_dc u) (uq_sc u) (uq_a1 u) (uq_a2 u) (uq_a3 u) (uq_a4 u) (uq_a5 u) (uq_a6 u) (uq_a7 u) (uq_a8 u) (uq_a9 u) (uq_a10 u) (uq_a11 u) (uq_a12 u) (uq_a13 u) (uq_a14 u) (uq_a15 u) (uq_a16 u) (uq_a17 u) (uq_a18 u) (uq_a19 u) (uq_a20 u) (uq_a21 u) (uq_a22 u) (uq_a23 u) (uq_a24 u) (uq_a25 u) (uq_a26 u) fu 0 := by
    refine Exists.elim (pk_loop (σ := Unit) (fun fu o _ => wL_isIn_2 post (uq_nc u) (uq_fc u) (uq_lv u) (uq_cp u) (uq_nd u) (uq_pn u) (uq_le u) (uq_wc u) (uq_ac u) (uq_dc u) (uq_sc u) (uq_a1 u) (uq_a2 u) (uq_a3 u) (uq_a4 u) (uq_a5 u) (uq_a6 u) (uq_a7 u) (uq_a8 u) (uq_a9 u) (uq_a10 u) (uq_a11 u) (uq_a12 u) (uq_a13 u) (uq_a14 u) (uq_a15 u) (uq_a16 u) (uq_a17 u) (uq_a18 u) (uq_a19 u) (uq_a20 u) (uq_a21 u) (uq_a22 u) (uq_a23 u) (uq_a24 u) (uq_a25 u) (uq_a26 u) fu (nI o)) (fun _ _ => True) 4 0 () (by omega) trivial ?_ ?_) (fun fu hfu => ⟨fu, hfu⟩)
    · intro fu _ _
      exact pk_le 4 4 (fun _ => hp) (fun z => absurd z (by omega))
    · intro fu o _ ho _ ih
      obtain ⟨r1, r2⟩ := hr o ho
      refine pk_le 4 o (fun z => absurd z (by omega)) (fun _ => ?_)
      refine lf_value (u := u) h ho rfl (br_f (fun z => ?_) ?_)
      · rw [nu_lt] at z
        omega
      · refine lf_value (u := u) h ho rfl (br_t ?_ (nm_r (nI_1 o) (ih () trivial)))
        rw [nu_le]
        omega
  obtain ⟨nc, fc, lv, cp, nd, pn, le, wc, ac, dc, sc, a1, a2, a3, a4, a5, a6, a7, a8, a9, a10, a11, a12, a13, a14, a15, a16, a17, a18, a19, a20, a21, a22, a23, a24, a25, a26⟩ := u
  exact main
theorem rf_it_add (g : rn_T) (s : (Nat → Int32) × (Nat → Nat)) (a b : Nat) : rf_it g (a + b) s = rf_it g b (rf_it g a s) := by
  induction b with
  | zero => rfl
  | succ b ih =>
    show (rf_M (rn_c g) (rf_it g (a + b) s).1 (rf_it g (a + b) s).2, rf_A (rn_c g) (rf_it g (a + b) s).2) = _
    rw [ih]
    rfl
theorem la_sc1 (sc : Int32) (k : Nat) : sc + nI k + nI 1 = sc + nI (k + 1) := by
  rw [Int32.add_assoc, nI_add]
noncomputable def la_h (g : rn_T) (s : (Nat → Int32) × (Nat → Nat)) (sc : Int32) : Nat → Int32
  | 0 => 0
  | k + 1 => 31 * la_h g s sc k + la_sm g (rf_it g (k + 1) s).1 (sc + nI (k + 1)) 4
theorem lf_ahead {post : Int32 → St1 → Prop} {u : St1} {M : Nat → Int32} {A : Nat → Nat} {m : Nat} {p : Int32} (h : rn_I u M A) (hm : m ≤ 50) (hp0 : p = nI m)
    (hp : ∀ u', rn_g u' = rn_g u → uq_sc u' = uq_sc u + nI m → rn_I u' (rf_it (rn_g u) m (M, A)).1 (rf_it (rn_g u) m (M, A)).2 → post (la_h (rn_g u) (M, A) (uq_sc u) m) u') : wpL_ahead post u p := by
  subst hp0
  have main : ∃ fu, wL_ahead_4 post (nI m) fu 0 0 (uq_nc u) (uq_fc u) (uq_lv u) (uq_cp u) (uq_nd u) (uq_pn u) (uq_le u) (uq_wc u) (uq_ac u) (uq_dc u) (uq_sc u) (uq_a1 u) (uq_a2 u) (uq_a3 u) (uq_a4 u) (uq_a5 u) (uq_a6 u) (uq_a7 u) (uq_a8 u) (uq_a9 u) (uq_a10 u) (uq_a11 u) (uq_a12 u) (uq_a13 u) (uq_a14 u) (uq_a15 u) (uq_a16 u) (uq_a17 u) (uq_a18 u) (uq_a19 u) (uq_a20 u) (uq_a21 u) (uq_a22 u) (uq_a23 u) (uq_a24 u) (uq_a25 u) (uq_a26 u) := by
    refine Exists.elim (pk_loop (fun fu k (s : St1) => wL_ahead_4 post (nI m) fu (la_h (rn_g u) (M, A) (uq_sc u) k) (nI k) (uq_nc s) (uq_fc s) (uq_lv s) (uq_cp s) (uq_nd s) (uq_pn s) (uq_le s) (uq_wc s) (uq_ac s) (uq_dc s) (uq_sc s) (uq_a1 s) (uq_a2 s) (uq_a3 s) (uq_a4 s) (uq_a5 s) (uq_a6 s) (uq_a7 s) (uq_a8 s) (uq_a9 s) (uq_a10 s) (uq_a11 s) (uq_a12 s) (uq_a13 s) (uq_a14 s) (uq_a15 s) (uq_a16 s) (uq_a17 s) (uq_a18 s) (uq_a19 s) (uq_a20 s) (uq_a21 s) (uq_a22 s) (uq_a23 s) (uq_a24 s) (uq_a25 s) (uq_a26 s)) (fun k s => rn_g s = rn_g u ∧ uq_sc s = uq_sc u + nI k ∧ rn_I s (rf_it (rn_g u) k (M, A)).1 (rf_it (rn_g u) k (M, A)).2) m 0 u (by omega) ⟨rfl, by rw [nI_0, Int32.add_zero], h⟩ ?_ ?_) (fun fu hfu => ⟨fu, hfu⟩)
    · intro fu s ⟨h1, h2, h3⟩
      exact pk_le m m (fun _ => hp s h1 h2 h3) (fun z => absurd z (by omega))
    · intro fu k s hk ⟨h1, h2, h3⟩ ih
      refine pk_le m k (fun z => absurd z (by omega)) (fun _ => ?_)
      refine rn_run (u := s) (k := 1) (by omega) rfl h3 (fun s' g1 g2 g3 => br_t rfl ?_)
      have e1 : rn_g s' = rn_g u := g1.trans h1
      have e2 : uq_sc s' = uq_sc u + nI (k + 1) := by rw [g2, h2, la_sc1]
      have e3 : rn_I s' (rf_it (rn_g u) (k + 1) (M, A)).1 (rf_it (rn_g u) (k + 1) (M, A)).2 := by
        rw [h1] at g3
        exact g3
      refine lf_sum (u := s') e3 ?_
      rw [e1, e2]
      exact nm_e (nm_r (nI_1 k) (ih s' ⟨e1, e2, e3⟩))
  obtain ⟨nc, fc, lv, cp, nd, pn, le, wc, ac, dc, sc, a1, a2, a3, a4, a5, a6, a7, a8, a9, a10, a11, a12, a13, a14, a15, a16, a17, a18, a19, a20, a21, a22, a23, a24, a25, a26⟩ := u
  exact main
end
section
/-! all values fit 16 bits -/
def la_Mr (M : Nat → Int32) : Prop := ∀ a, a < 96 → la_smp (M a)
def la_V (c : St1) : Prop := ∀ n, n < gi_N c → (gi_k c n = 1 → la_smp (uq_a4 c n)) ∧ (gi_k c n = 7 → ∃ t, uq_a5 c n = nI t ∧ t ≤ 32767)
theorem la_smp0 : la_smp 0 := by unfold la_smp; decide
theorem la_clip (z : Int64) : la_smp (sx_clip z) := by
  unfold sx_clip
  have e1 : (-32768 : Int64).toInt = -32768 := by decide
  have e2 : (32767 : Int64).toInt = 32767 := by decide
  split
  · split
    · rename_i h1 h2
      rw [Int64.le_iff_toInt_le] at h1 h2
      rw [e1] at h1
      rw [e2] at h2
      have e : (z.toInt32).toInt = z.toInt.bmod (2 ^ 32) := Int64.toInt_toInt32 z
      have e3 : z.toInt.bmod (2 ^ 32) = z.toInt := Int.bmod_eq_of_le (by omega) (by omega)
      unfold la_smp
      rw [e, e3]
      exact ⟨h1, h2⟩
    · unfold la_smp; decide
  · unfold la_smp; decide
theorem la_limit {n x : Int32} {t : Nat} (hn : n = nI t) (ht : t ≤ 32767) (hx : la_smp x) : la_smp (if -n ≤ x then (if x ≤ n then x else n) else -n) := by
  have e1 : n.toInt = t := by rw [hn]; exact nI_toInt (by omega)
  have e2 : (-n).toInt = -(t : Int) := by rw [hn]; exact sb_negT (by omega)
  unfold la_smp at hx ⊢
  split
  · split
    · exact hx
    · rw [e1]; omega
  · rw [e2]; omega
theorem la_vr {c : St1} {M : Nat → Int32} {A : Nat → Nat} (G : gi_G c) (V : la_V c) (hM : la_Mr M) : ∀ b n, n < b → n < gi_N c → la_smp (rf_v c M A n) := by
  have hN := gi_n24 G
  intro b
  induction b with
  | zero => intro n hn; omega
  | succ b ih =>
    intro n hb hn
    obtain ⟨v1, v7⟩ := V n hn
    have k10 := gi_k10 G hn
    rw [rf_v_eq G hn]
    unfold rf_fv
    by_cases k0 : gi_k c n = 0
    · rw [if_pos k0]
      have := (gi_nd G hn).2.2.2.1 k0
      exact hM _ (by omega)
    rw [if_neg k0]
    by_cases k1 : gi_k c n = 1
    · rw [if_pos k1]
      exact v1 k1
    rw [if_neg k1]
    by_cases k5 : gi_k c n = 5
    · rw [if_pos k5]
      exact hM _ (by omega)
    rw [if_neg k5]
    by_cases k6 : gi_k c n = 6
    · rw [if_pos k6]
      exact la_clip _
    rw [if_neg k6]
    by_cases k4 : gi_k c n = 4
    · rw [if_pos k4, sx_c10]
      exact la_clip _
    rw [if_neg k4]
    have xl := gi_xln G hn (by omega) k5
    have hx := ih (gi_x c n) (by omega) (by omega)
    by_cases k7 : gi_k c n = 7
    · obtain ⟨t, e, ht⟩ := v7 k7
      rw [k7, sx_c7]
      exact la_limit e ht hx
    by_cases k8 : gi_k c n = 8
    · rw [k8, sx_c8]
      exact la_clip _
    by_cases k2 : gi_k c n = 2
    · rw [k2, sx_c2]
      exact la_clip _
    by_cases k3 : gi_k c n = 3
    · rw [k3, sx_c3]
      exact la_clip _
    by_cases k9 : gi_k c n = 9
    · have yl := (gi_y5 G hn (by unfold gi_two; omega)).2
      have hy := ih (gi_y c n) (by omega) (by omega)
      rw [k9, sx_c9]
      split
      · exact hy
      · exact hx
    · rw [show gi_k c n = 10 by omega, sx_c10]
      exact la_clip _
theorem la_Mr_step {c : St1} {M : Nat → Int32} {A : Nat → Nat} (G : gi_G c) (V : la_V c) (hM : la_Mr M) : la_Mr (rf_M c M A) := by
  have hv := fun n hn => la_vr (A := A) G V hM (n + 1) n (by omega) hn
  intro a ha
  unfold rf_M
  split
  · rename_i h
    refine hv _ ?_
    rcases gi_o9 G (show a - 2 < 4 by omega) with q | q
    · exact absurd q h.2.2
    · exact q.2
  · split
    · rename_i h
      exact hv _ (gi_xlt G h.2.2.1 (by omega))
    · split
      · rename_i h
        exact hv _ (gi_xlt G h.2.2.2.1 (by omega))
      · exact hM a ha
theorem la_Mr_it {g : rn_T} (G : gi_G (rn_c g)) (V : la_V (rn_c g)) {s : (Nat → Int32) × (Nat → Nat)} (hM : la_Mr s.1) : ∀ k, la_Mr (rf_it g k s).1 := by
  intro k
  induction k with
  | zero => exact hM
  | succ k ih => exact la_Mr_step G V ih
theorem la_Mr_rm {M : Nat → Int32} (h : la_Mr M) : la_Mr (la_rm M) := by
  intro a ha
  unfold la_rm
  split
  · exact la_smp0
  · exact h a ha
theorem la_Mr_upd {M : Nat → Int32} {i : Nat} {v : Int32} (h : la_Mr M) (hv : la_smp v) : la_Mr (upd M i v) := by
  intro a ha
  rw [nu_upd]
  split
  · exact hv
  · exact h a ha
theorem la_val_r {g : rn_T} {M : Nat → Int32} (h : la_Mr M) : ∀ o, o < 4 → la_smp (la_val g M o) := by
  intro o ho
  unfold la_val
  split
  · exact la_smp0
  · exact h _ (by omega)
/-! the graph's other facts under the calls -/
def la_G (g : rn_T) : Prop := la_V (rn_c g) ∧ la_L (rn_c g)
end
section
theorem la_V_of {c d : St1} (h0 : uq_nc d = uq_nc c) (h3 : uq_a3 d = uq_a3 c) (h4 : uq_a4 d = uq_a4 c) (h5 : uq_a5 d = uq_a5 c) (V : la_V c) : la_V d := by
  unfold la_V gi_N gi_k at V ⊢
  rw [h0, h3, h4, h5]
  exact V
theorem la_L_of {c d : St1} (h1 : uq_a1 d = uq_a1 c) (V : la_L c) : la_L d := by
  unfold la_L at V ⊢
  rw [h1]
  exact V
theorem la_fc {g1 g2 : Int32} {g3 g4 g5 g6 g7 g8 g9 g10 g11 : Nat → Int32} : uq_nc (rn_c (g1, g2, g3, g4, g5, g6, g7, g8, g9, g10, g11)) = g1 ∧ uq_a3 (rn_c (g1, g2, g3, g4, g5, g6, g7, g8, g9, g10, g11)) = g5 ∧ uq_a4 (rn_c (g1, g2, g3, g4, g5, g6, g7, g8, g9, g10, g11)) = g6 ∧ uq_a5 (rn_c (g1, g2, g3, g4, g5, g6, g7, g8, g9, g10, g11)) = g7 ∧ uq_a1 (rn_c (g1, g2, g3, g4, g5, g6, g7, g8, g9, g10, g11)) = g3 := ⟨rfl, rfl, rfl, rfl, rfl⟩
theorem la_fcoe {g1 g2 : Int32} {g3 g4 g5 g6 g7 g8 g9 g10 g11 : Nat → Int32} {l k : Nat} {v : Int32} : uq_nc (rn_c (la_coe (g1, g2, g3, g4, g5, g6, g7, g8, g9, g10, g11) l k v)) = g1 ∧ uq_a3 (rn_c (la_coe (g1, g2, g3, g4, g5, g6, g7, g8, g9, g10, g11) l k v)) = g5 ∧ uq_a4 (rn_c (la_coe (g1, g2, g3, g4, g5, g6, g7, g8, g9, g10, g11) l k v)) = g6 ∧ uq_a5 (rn_c (la_coe (g1, g2, g3, g4, g5, g6, g7, g8, g9, g10, g11) l k v)) = g7 := ⟨rfl, rfl, rfl, rfl⟩
theorem la_fout {g1 g2 : Int32} {g3 g4 g5 g6 g7 g8 g9 g10 g11 : Nat → Int32} {o : Nat} {v : Int32} : uq_nc (rn_c (la_out (g1, g2, g3, g4, g5, g6, g7, g8, g9, g10, g11) o v)) = g1 ∧ uq_a3 (rn_c (la_out (g1, g2, g3, g4, g5, g6, g7, g8, g9, g10, g11) o v)) = g5 ∧ uq_a4 (rn_c (la_out (g1, g2, g3, g4, g5, g6, g7, g8, g9, g10, g11) o v)) = g6 ∧ uq_a5 (rn_c (la_out (g1, g2, g3, g4, g5, g6, g7, g8, g9, g10, g11) o v)) = g7 ∧ uq_a1 (rn_c (la_out (g1, g2, g3, g4, g5, g6, g7, g8, g9, g10, g11) o v)) = g3 := ⟨rfl, rfl, rfl, rfl, rfl⟩
theorem la_fret {g1 g2 : Int32} {g3 g4 g5 g6 g7 g8 g9 g10 g11 : Nat → Int32} : uq_nc (rn_c (la_ret (g1, g2, g3, g4, g5, g6, g7, g8, g9, g10, g11))) = nI (g1.toNatClampNeg - 1) ∧ uq_a3 (rn_c (la_ret (g1, g2, g3, g4, g5, g6, g7, g8, g9, g10, g11))) = g5 ∧ uq_a4 (rn_c (la_ret (g1, g2, g3, g4, g5, g6, g7, g8, g9, g10, g11))) = g6 ∧ uq_a5 (rn_c (la_ret (g1, g2, g3, g4, g5, g6, g7, g8, g9, g10, g11))) = g7 ∧ uq_a1 (rn_c (la_ret (g1, g2, g3, g4, g5, g6, g7, g8, g9, g10, g11))) = g3 := ⟨rfl, rfl, rfl, rfl, rfl⟩
theorem la_G_coe {g : rn_T} {l k : Nat} {v : Int32} (h : la_G g) (hl : l < 4) (hk : k < 6) : la_G (la_coe g l k v) := by
  refine ⟨?_, la_L_coe h.2 hl hk⟩
  obtain ⟨g1, g2, g3, g4, g5, g6, g7, g8, g9, g10, g11⟩ := g
  obtain ⟨a0, a3, a4, a5, a1⟩ := la_fc (g1 := g1) (g2 := g2) (g3 := g3) (g4 := g4) (g5 := g5) (g6 := g6) (g7 := g7) (g8 := g8) (g9 := g9) (g10 := g10) (g11 := g11)
  obtain ⟨b0, b3, b4, b5⟩ := la_fcoe (g1 := g1) (g2 := g2) (g3 := g3) (g4 := g4) (g5 := g5) (g6 := g6) (g7 := g7) (g8 := g8) (g9 := g9) (g10 := g10) (g11 := g11) (l := l) (k := k) (v := v)
  exact la_V_of (b0.trans a0.symm) (b3.trans a3.symm) (b4.trans a4.symm) (b5.trans a5.symm) h.1
theorem la_G_out {g : rn_T} {o : Nat} {v : Int32} (h : la_G g) : la_G (la_out g o v) := by
  obtain ⟨g1, g2, g3, g4, g5, g6, g7, g8, g9, g10, g11⟩ := g
  obtain ⟨a0, a3, a4, a5, a1⟩ := la_fc (g1 := g1) (g2 := g2) (g3 := g3) (g4 := g4) (g5 := g5) (g6 := g6) (g7 := g7) (g8 := g8) (g9 := g9) (g10 := g10) (g11 := g11)
  obtain ⟨b0, b3, b4, b5, b1⟩ := la_fout (g1 := g1) (g2 := g2) (g3 := g3) (g4 := g4) (g5 := g5) (g6 := g6) (g7 := g7) (g8 := g8) (g9 := g9) (g10 := g10) (g11 := g11) (o := o) (v := v)
  exact ⟨la_V_of (b0.trans a0.symm) (b3.trans a3.symm) (b4.trans a4.symm) (b5.trans a5.symm) h.1, la_L_of (b1.trans a1.symm) h.2⟩
theorem la_G_ret {g : rn_T} (hN : gi_N (rn_c g) ≤ 24) (h : la_G g) : la_G (la_ret g) ∧ gi_N (rn_c (la_ret g)) = gi_N (rn_c g) - 1 := by
  obtain ⟨g1, g2, g3, g4, g5, g6, g7, g8, g9, g10, g11⟩ := g
  obtain ⟨a0, a3, a4, a5, a1⟩ := la_fc (g1 := g1) (g2 := g2) (g3 := g3) (g4 := g4) (g5 := g5) (g6 := g6) (g7 := g7) (g8 := g8) (g9 := g9) (g10 := g10) (g11 := g11)
  obtain ⟨b0, b3, b4, b5, b1⟩ := la_fret (g1 := g1) (g2 := g2) (g3 := g3) (g4 := g4) (g5 := g5) (g6 := g6) (g7 := g7) (g8 := g8) (g9 := g9) (g10 := g10) (g11 := g11)
  obtain ⟨hV, hL⟩ := h
  unfold gi_N at hN ⊢
  rw [a0] at hN ⊢
  have e : gi_N (rn_c (la_ret (g1, g2, g3, g4, g5, g6, g7, g8, g9, g10, g11))) = g1.toNatClampNeg - 1 := by
    unfold gi_N
    rw [b0]
    exact nu_cl _
  refine ⟨⟨fun n hn => ?_, la_L_of (b1.trans a1.symm) hL⟩, e⟩
  rw [e] at hn
  unfold la_V gi_N gi_k at hV
  rw [a0, a3, a4, a5] at hV
  unfold gi_k
  rw [b3, b4, b5]
  exact hV n (by omega)
theorem la_G_nod {g : rn_T} {kd : Nat} {a b : Int32} (hN : gi_N (rn_c g) < 24) (h : la_G g) (hf : la_fit (gi_N (rn_c g)) kd a b) : la_G (la_nod g kd a b) ∧ gi_N (rn_c (la_nod g kd a b)) = gi_N (rn_c g) + 1 := by
  have gen : ∀ d : St1, uq_nc d = nI (gi_N (rn_c g) + 1) → uq_a3 d = upd (uq_a3 (rn_c g)) (gi_N (rn_c g)) (nI kd) → uq_a4 d = upd (uq_a4 (rn_c g)) (gi_N (rn_c g)) a → uq_a5 d = upd (uq_a5 (rn_c g)) (gi_N (rn_c g)) b → uq_a1 d = uq_a1 (rn_c g) → (la_V d ∧ la_L d) ∧ gi_N d = gi_N (rn_c g) + 1 := by
    intro d h0 h3 h4 h5 h1
    have eN : gi_N d = gi_N (rn_c g) + 1 := by unfold gi_N; rw [h0]; exact nu_cl _
    refine ⟨⟨fun n hn => ?_, fun l hl => by rw [h1]; exact h.2 l hl⟩, eN⟩
    rw [eN] at hn
    unfold gi_k
    rw [h3, h4, h5]
    by_cases e : n = gi_N (rn_c g)
    · rw [nu_us e, nu_us e, nu_us e, nu_cl kd (by have := hf.1; omega)]
      exact ⟨hf.2.2.1, hf.2.2.2.2.2.2.2.1⟩
    · rw [pk_un e, pk_un e, pk_un e]
      exact h.1 n (by omega)
  unfold la_nod
  by_cases k6 : kd = 6
  · rw [if_pos k6]
    exact gen (rn_c (rn_g (la_nf (rn_c g) kd a b))) rfl rfl rfl rfl rfl
  · rw [if_neg k6]
    exact gen (rn_c (rn_g (la_np (rn_c g) kd a b))) rfl rfl rfl rfl rfl
end
section
/-! the law: three states with one graph and one reference -/
def la_I (x y z : St1) (g : rn_T) (M : Nat → Int32) (A : Nat → Nat) (sc : Int32) : Prop :=
  rn_g x = g ∧ rn_g y = g ∧ rn_g z = g ∧ la_G g ∧ la_Mr M ∧ rn_I x M A ∧ rn_I y M A ∧ rn_I z M A ∧ uq_sc x = sc ∧ uq_sc y = sc ∧ uq_sc z = sc
def la_K (x y z : St1) (n : Nat) : Prop := ∃ g M A sc, la_I x y z g M A sc ∧ gi_N (rn_c g) = n
theorem gi_Gc {u : St1} (h : gi_G u) : gi_G (rn_c (rn_g u)) := h
theorem rf_M_out {c : St1} {M : Nat → Int32} {A : Nat → Nat} {a : Nat} (h : a < 2 ∨ 64 ≤ a) : rf_M c M A a = M a := by
  unfold rf_M
  rw [if_neg (by omega), if_neg (by omega), if_neg (by omega)]
theorem rf_it_out (g : rn_T) (s : (Nat → Int32) × (Nat → Nat)) {a : Nat} (h : a < 2 ∨ 64 ≤ a) : ∀ k, (rf_it g k s).1 a = s.1 a := by
  intro k
  induction k with
  | zero => rfl
  | succ k ih =>
    show rf_M (rn_c g) (rf_it g k s).1 (rf_it g k s).2 a = s.1 a
    rw [rf_M_out h, ih]
theorem la_rm_it (g : rn_T) (M : Nat → Int32) (A : Nat → Nat) (k : Nat) : la_rm (rf_it g k (la_rm M, A)).1 = la_rm M := by
  funext a
  unfold la_rm
  by_cases q : 2 ≤ a ∧ a < 96
  · rw [if_pos q, if_pos q]
  · rw [if_neg q, if_neg q]
    have := rf_it_out g (la_rm M, A) (a := a) (by omega) k
    unfold la_rm at this
    rw [this]
    exact if_neg q
theorem la_tail {post : Int32 → Prop} {J : St1 → St1 → St1 → Prop} {x y z : St1} {n : Nat} (hK : la_K x y z n) (hJ : ∀ x' y' z', la_K x' y' z' n → J x' y' z') :
    wpX_reset (fun x1 => wpL_ahead (fun r1 x2 => wpX_reset (fun x3 => wpL_ahead (fun r2 x4 => ((r2 = r1 → wpX_reset (fun y1 => wpX_reset (fun z1 => wpX_run (fun r3 y2 => ((r3 = 8 → wpX_run (fun r4 z2 => ((r4 = 8 → wpL_sum (fun s1 => wpL_sum (fun s2 => ((s1 = s2 → wpL_sum (fun s3 => wpL_sum (fun s4 => ((s3 = s4 → J x4 y2 z2) ∧ (¬ s3 = s4 → post 0))) z2) x4) ∧ (¬ s1 = s2 → post 0))) y2) x4) ∧ (¬ r4 = 8 → post 0))) z1 8) ∧ (¬ r3 = 8 → post 0))) y1 8) z) y) ∧ (¬ r2 = r1 → post 0))) x3 8) x2) x1 8) x := by
  obtain ⟨g, M, A, sc, ⟨gx, gy, gz, hG, hM, ix, iy, iz, sx, sy, sz⟩, hn⟩ := hK
  refine rn_reset (u := x) ix (fun x1 a1 a2 a3 => ?_)
  refine lf_ahead (u := x1) (m := 8) a3 (by omega) rfl (fun x2 b1 b2 b3 => ?_)
  refine rn_reset (u := x2) b3 (fun x3 c1 c2 c3 => ?_)
  have g1 : rn_g x1 = g := a1.trans gx
  have g2 : rn_g x2 = g := b1.trans g1
  have g3 : rn_g x3 = g := c1.trans g2
  rw [la_rm_it] at c3
  refine lf_ahead (u := x3) (m := 8) c3 (by omega) rfl (fun x4 d1 d2 d3 => ?_)
  have g4 : rn_g x4 = g := d1.trans g3
  rw [g3] at d3
  refine br_t (by rw [g3, g1, c2, a2]) ?_
  refine rn_reset (u := y) iy (fun y1 e1 e2 e3 => ?_)
  refine rn_reset (u := z) iz (fun z1 f1 f2 f3 => ?_)
  have gy1 : rn_g y1 = g := e1.trans gy
  have gz1 : rn_g z1 = g := f1.trans gz
  refine rn_run (u := y1) (k := 8) (by omega) rfl e3 (fun y2 h1 h2 h3 => br_t rfl ?_)
  refine rn_run (u := z1) (k := 8) (by omega) rfl f3 (fun z2 i1 i2 i3 => br_t rfl ?_)
  have gy2 : rn_g y2 = g := h1.trans gy1
  have gz2 : rn_g z2 = g := i1.trans gz1
  rw [gy1] at h3
  rw [gz1] at i3
  have s4 : uq_sc x4 = 0 + nI 8 := by rw [d2, c2]
  have sy2 : uq_sc y2 = 0 + nI 8 := by rw [h2, e2]
  have sz2 : uq_sc z2 = 0 + nI 8 := by rw [i2, f2]
  refine lf_sum (u := x4) d3 (lf_sum (u := y2) h3 (br_t (by rw [g4, gy2, s4, sy2]) ?_))
  refine lf_sum (u := x4) d3 (lf_sum (u := z2) i3 (br_t (by rw [g4, gz2, s4, sz2]) ?_))
  have Gg : gi_G (rn_c g) := by rw [← gx]; exact gi_Gc (rn_I_G ix)
  exact hJ x4 y2 z2 ⟨g, _, _, _, ⟨g4, gy2, gz2, hG, la_Mr_it Gg hG.1 (la_Mr_rm hM) 8, d3, h3, i3, s4, sy2, sz2⟩, hn⟩
theorem la_546 {post : Int32 → Prop} {L : Nat} {xs : Nat → Int32} {J : Int32 → Int32 → Int32 → Int32 → Int32 → Int32 → Int32 → Int32 → Int32 → Int32 → Int64 → Int32 → Int32 → (Nat → Int32) → (Nat → Int32) → (Nat → Int32) → (Nat → Int32) → (Nat → Int32) → (Nat → Int32) → (Nat → Int32) → (Nat → Int32) → (Nat → Int32) → (Nat → Int32) → (Nat → Int32) → (Nat → Int32) → (Nat → Int32) → (Nat → Int32) → (Nat → Int32) → (Nat → Int32) → (Nat → Int32) → (Nat → Int32) → (Nat → Int32) → (Nat → Int32) → (Nat → Int32) → (Nat → Int32) → (Nat → Int32) → (Nat → Int32) → (Nat → Int32) → (Nat → Int32) → Int32 → Int32 → Int32 → Int32 → Int32 → Int32 → Int32 → Int32 → Int64 → Int32 → Int32 → (Nat → Int32) → (Nat → Int32) → (Nat → Int32) → (Nat → Int32) → (Nat → Int32) → (Nat → Int32) → (Nat → Int32) → (Nat → Int32) → (Nat → Int32) → (Nat → Int32) → (Nat → Int32) → (Nat → Int32) → (Nat → Int32) → (Nat → Int32) → (Nat → Int32) → (Nat → Int32) → (Nat → Int32) → (Nat → Int32) → (Nat → Int32) → (Nat → Int32) → (Nat → Int32) → (Nat → Int32) → (Nat → Int32) → (Nat → Int32) → (Nat → Int32) → (Nat → Int32) → Int32 → Int32 → Int32 → Int32 → Int32 → Int32 → Int32 → Int32 → Int64 → Int32 → Int32 → (Nat → Int32) → (Nat → Int32) → (Nat → Int32) → (Nat → Int32) → (Nat → Int32) → (Nat → Int32) → (Nat → Int32) → (Nat → Int32) → (Nat → Int32) → (Nat → Int32) → (Nat → Int32) → (Nat → Int32) → (Nat → Int32) → (Nat → Int32) → (Nat → Int32) → (Nat → Int32) → (Nat → Int32) → (Nat → Int32) → (Nat → Int32) → (Nat → Int32) → (Nat → Int32) → (Nat → Int32) → (Nat → Int32) → (Nat → Int32) → (Nat → Int32) → (Nat → Int32) → Prop} {x4 x5 x8 x13 : Int32} {kc ks : Nat} {x y z : St1} {n : Nat} (hK : la_K x y z n) (h13 : ¬ x13 = 0)
    (hJ : ∀ x' y' z', la_K x' y' z' n → J x4 (x5 + 4) (uq_nc x') (uq_fc x') (uq_lv x') (uq_cp x') (uq_nd x') (uq_pn x') (uq_le x') (uq_wc x') (uq_ac x') (uq_dc x') (uq_sc x') (uq_a1 x') (uq_a2 x') (uq_a3 x') (uq_a4 x') (uq_a5 x') (uq_a6 x') (uq_a7 x') (uq_a8 x') (uq_a9 x') (uq_a10 x') (uq_a11 x') (uq_a12 x') (uq_a13 x') (uq_a14 x') (uq_a15 x') (uq_a16 x') (uq_a17 x') (uq_a18 x') (uq_a19 x') (uq_a20 x') (uq_a21 x') (uq_a22 x') (uq_a23 x') (uq_a24 x') (uq_a25 x') (uq_a26 x') (uq_nc y') (uq_fc y') (uq_lv y') (uq_cp y') (uq_nd y') (uq_pn y') (uq_le y') (uq_wc y') (uq_ac y') (uq_dc y') (uq_sc y') (uq_a1 y') (uq_a2 y') (uq_a3 y') (uq_a4 y') (uq_a5 y') (uq_a6 y') (uq_a7 y') (uq_a8 y') (uq_a9 y') (uq_a10 y') (uq_a11 y') (uq_a12 y') (uq_a13 y') (uq_a14 y') (uq_a15 y') (uq_a16 y') (uq_a17 y') (uq_a18 y') (uq_a19 y') (uq_a20 y') (uq_a21 y') (uq_a22 y') (uq_a23 y') (uq_a24 y') (uq_a25 y') (uq_a26 y') (uq_nc z') (uq_fc z') (uq_lv z') (uq_cp z') (uq_nd z') (uq_pn z') (uq_le z') (uq_wc z') (uq_ac z') (uq_dc z') (uq_sc z') (uq_a1 z') (uq_a2 z') (uq_a3 z') (uq_a4 z') (uq_a5 z') (uq_a6 z') (uq_a7 z') (uq_a8 z') (uq_a9 z') (uq_a10 z') (uq_a11 z') (uq_a12 z') (uq_a13 z') (uq_a14 z') (uq_a15 z') (uq_a16 z') (uq_a17 z') (uq_a18 z') (uq_a19 z') (uq_a20 z') (uq_a21 z') (uq_a22 z') (uq_a23 z') (uq_a24 z') (uq_a25 z') (uq_a26 z')) : wL_law_546 post L xs J x4 x5 x8 x13 kc ks (uq_nc x) (uq_fc x) (uq_lv x) (uq_cp x) (uq_nd x) (uq_pn x) (uq_le x) (uq_wc x) (uq_ac x) (uq_dc x) (uq_sc x) (uq_a1 x) (uq_a2 x) (uq_a3 x) (uq_a4 x) (uq_a5 x) (uq_a6 x) (uq_a7 x) (uq_a8 x) (uq_a9 x) (uq_a10 x) (uq_a11 x) (uq_a12 x) (uq_a13 x) (uq_a14 x) (uq_a15 x) (uq_a16 x) (uq_a17 x) (uq_a18 x) (uq_a19 x) (uq_a20 x) (uq_a21 x) (uq_a22 x) (uq_a23 x) (uq_a24 x) (uq_a25 x) (uq_a26 x) (uq_nc y) (uq_fc y) (uq_lv y) (uq_cp y) (uq_nd y) (uq_pn y) (uq_le y) (uq_wc y) (uq_ac y) (uq_dc y) (uq_sc y) (uq_a1 y) (uq_a2 y) (uq_a3 y) (uq_a4 y) (uq_a5 y) (uq_a6 y) (uq_a7 y) (uq_a8 y) (uq_a9 y) (uq_a10 y) (uq_a11 y) (uq_a12 y) (uq_a13 y) (uq_a14 y) (uq_a15 y) (uq_a16 y) (uq_a17 y) (uq_a18 y) (uq_a19 y) (uq_a20 y) (uq_a21 y) (uq_a22 y) (uq_a23 y) (uq_a24 y) (uq_a25 y) (uq_a26 y) (uq_nc z) (uq_fc z) (uq_lv z) (uq_cp z) (uq_nd z) (uq_pn z) (uq_le z) (uq_wc z) (uq_ac z) (uq_dc z) (uq_sc z) (uq_a1 z) (uq_a2 z) (uq_a3 z) (uq_a4 z) (uq_a5 z) (uq_a6 z) (uq_a7 z) (uq_a8 z) (uq_a9 z) (uq_a10 z) (uq_a11 z) (uq_a12 z) (uq_a13 z) (uq_a14 z) (uq_a15 z) (uq_a16 z) (uq_a17 z) (uq_a18 z) (uq_a19 z) (uq_a20 z) (uq_a21 z) (uq_a22 z) (uq_a23 z) (uq_a24 z) (uq_a25 z) (uq_a26 z) := by
  obtain ⟨g, M, A, sc, ⟨gx, gy, gz, hG, hM, ix, iy, iz, sx, sy, sz⟩, hn⟩ := id hK
  unfold wL_law_546
  refine lf_sum (u := x) ix (lf_sum (u := y) iy (br_t (by rw [gx, gy, sx, sy]) ?_))
  refine lf_sum (u := x) ix (lf_sum (u := z) iz (br_t (by rw [gx, gz, sx, sz]) ?_))
  refine lf_isin (u := x) ix (la_val_r hM) (br_f (by decide) ?_)
  refine br_c (fun _ => br_f h13 ?_) (fun _ => nm_e (hJ x y z hK))
  have T := la_tail (post := post) (J := fun x' y' z' => ∀ w, w = x5 + 4 → J x4 w (uq_nc x') (uq_fc x') (uq_lv x') (uq_cp x') (uq_nd x') (uq_pn x') (uq_le x') (uq_wc x') (uq_ac x') (uq_dc x') (uq_sc x') (uq_a1 x') (uq_a2 x') (uq_a3 x') (uq_a4 x') (uq_a5 x') (uq_a6 x') (uq_a7 x') (uq_a8 x') (uq_a9 x') (uq_a10 x') (uq_a11 x') (uq_a12 x') (uq_a13 x') (uq_a14 x') (uq_a15 x') (uq_a16 x') (uq_a17 x') (uq_a18 x') (uq_a19 x') (uq_a20 x') (uq_a21 x') (uq_a22 x') (uq_a23 x') (uq_a24 x') (uq_a25 x') (uq_a26 x') (uq_nc y') (uq_fc y') (uq_lv y') (uq_cp y') (uq_nd y') (uq_pn y') (uq_le y') (uq_wc y') (uq_ac y') (uq_dc y') (uq_sc y') (uq_a1 y') (uq_a2 y') (uq_a3 y') (uq_a4 y') (uq_a5 y') (uq_a6 y') (uq_a7 y') (uq_a8 y') (uq_a9 y') (uq_a10 y') (uq_a11 y') (uq_a12 y') (uq_a13 y') (uq_a14 y') (uq_a15 y') (uq_a16 y') (uq_a17 y') (uq_a18 y') (uq_a19 y') (uq_a20 y') (uq_a21 y') (uq_a22 y') (uq_a23 y') (uq_a24 y') (uq_a25 y') (uq_a26 y') (uq_nc z') (uq_fc z') (uq_lv z') (uq_cp z') (uq_nd z') (uq_pn z') (uq_le z') (uq_wc z') (uq_ac z') (uq_dc z') (uq_sc z') (uq_a1 z') (uq_a2 z') (uq_a3 z') (uq_a4 z') (uq_a5 z') (uq_a6 z') (uq_a7 z') (uq_a8 z') (uq_a9 z') (uq_a10 z') (uq_a11 z') (uq_a12 z') (uq_a13 z') (uq_a14 z') (uq_a15 z') (uq_a16 z') (uq_a17 z') (uq_a18 z') (uq_a19 z') (uq_a20 z') (uq_a21 z') (uq_a22 z') (uq_a23 z') (uq_a24 z') (uq_a25 z') (uq_a26 z')) hK (fun x' y' z' h => nm_e (hJ x' y' z' h))
  exact T
end
section
/-! the law: running -/
theorem la_517 {post : Int32 → Prop} {L : Nat} {xs : Nat → Int32} {J : Int32 → Int32 → Int32 → Int32 → Int32 → Int32 → Int32 → Int32 → Int32 → Int32 → Int64 → Int32 → Int32 → (Nat → Int32) → (Nat → Int32) → (Nat → Int32) → (Nat → Int32) → (Nat → Int32) → (Nat → Int32) → (Nat → Int32) → (Nat → Int32) → (Nat → Int32) → (Nat → Int32) → (Nat → Int32) → (Nat → Int32) → (Nat → Int32) → (Nat → Int32) → (Nat → Int32) → (Nat → Int32) → (Nat → Int32) → (Nat → Int32) → (Nat → Int32) → (Nat → Int32) → (Nat → Int32) → (Nat → Int32) → (Nat → Int32) → (Nat → Int32) → (Nat → Int32) → (Nat → Int32) → Int32 → Int32 → Int32 → Int32 → Int32 → Int32 → Int32 → Int32 → Int64 → Int32 → Int32 → (Nat → Int32) → (Nat → Int32) → (Nat → Int32) → (Nat → Int32) → (Nat → Int32) → (Nat → Int32) → (Nat → Int32) → (Nat → Int32) → (Nat → Int32) → (Nat → Int32) → (Nat → Int32) → (Nat → Int32) → (Nat → Int32) → (Nat → Int32) → (Nat → Int32) → (Nat → Int32) → (Nat → Int32) → (Nat → Int32) → (Nat → Int32) → (Nat → Int32) → (Nat → Int32) → (Nat → Int32) → (Nat → Int32) → (Nat → Int32) → (Nat → Int32) → (Nat → Int32) → Int32 → Int32 → Int32 → Int32 → Int32 → Int32 → Int32 → Int32 → Int64 → Int32 → Int32 → (Nat → Int32) → (Nat → Int32) → (Nat → Int32) → (Nat → Int32) → (Nat → Int32) → (Nat → Int32) → (Nat → Int32) → (Nat → Int32) → (Nat → Int32) → (Nat → Int32) → (Nat → Int32) → (Nat → Int32) → (Nat → Int32) → (Nat → Int32) → (Nat → Int32) → (Nat → Int32) → (Nat → Int32) → (Nat → Int32) → (Nat → Int32) → (Nat → Int32) → (Nat → Int32) → (Nat → Int32) → (Nat → Int32) → (Nat → Int32) → (Nat → Int32) → (Nat → Int32) → Prop} {x4 x5 x8 x13 sc : Int32} {kc ks : Nat} {x y z : St1} {n st : Nat} {g : rn_T} {M : Nat → Int32} {A : Nat → Nat} (h13 : ¬ x13 = 0) (hst : st ≤ 20)
    (gx : rn_g x = g) (gy : rn_g y = g) (gz : rn_g z = g) (hG : la_G g) (hM : la_Mr M) (ix : rn_I x (rf_it g st (M, A)).1 (rf_it g st (M, A)).2) (iy : rn_I y (rf_it g st (M, A)).1 (rf_it g st (M, A)).2) (iz : rn_I z M A) (sx : uq_sc x = sc + nI st) (sy : uq_sc y = sc + nI st) (sz : uq_sc z = sc) (hn : gi_N (rn_c g) = n)
    (hJ : ∀ x' y' z', la_K x' y' z' n → J x4 (x5 + 4) (uq_nc x') (uq_fc x') (uq_lv x') (uq_cp x') (uq_nd x') (uq_pn x') (uq_le x') (uq_wc x') (uq_ac x') (uq_dc x') (uq_sc x') (uq_a1 x') (uq_a2 x') (uq_a3 x') (uq_a4 x') (uq_a5 x') (uq_a6 x') (uq_a7 x') (uq_a8 x') (uq_a9 x') (uq_a10 x') (uq_a11 x') (uq_a12 x') (uq_a13 x') (uq_a14 x') (uq_a15 x') (uq_a16 x') (uq_a17 x') (uq_a18 x') (uq_a19 x') (uq_a20 x') (uq_a21 x') (uq_a22 x') (uq_a23 x') (uq_a24 x') (uq_a25 x') (uq_a26 x') (uq_nc y') (uq_fc y') (uq_lv y') (uq_cp y') (uq_nd y') (uq_pn y') (uq_le y') (uq_wc y') (uq_ac y') (uq_dc y') (uq_sc y') (uq_a1 y') (uq_a2 y') (uq_a3 y') (uq_a4 y') (uq_a5 y') (uq_a6 y') (uq_a7 y') (uq_a8 y') (uq_a9 y') (uq_a10 y') (uq_a11 y') (uq_a12 y') (uq_a13 y') (uq_a14 y') (uq_a15 y') (uq_a16 y') (uq_a17 y') (uq_a18 y') (uq_a19 y') (uq_a20 y') (uq_a21 y') (uq_a22 y') (uq_a23 y') (uq_a24 y') (uq_a25 y') (uq_a26 y') (uq_nc z') (uq_fc z') (uq_lv z') (uq_cp z') (uq_nd z') (uq_pn z') (uq_le z') (uq_wc z') (uq_ac z') (uq_dc z') (uq_sc z') (uq_a1 z') (uq_a2 z') (uq_a3 z') (uq_a4 z') (uq_a5 z') (uq_a6 z') (uq_a7 z') (uq_a8 z') (uq_a9 z') (uq_a10 z') (uq_a11 z') (uq_a12 z') (uq_a13 z') (uq_a14 z') (uq_a15 z') (uq_a16 z') (uq_a17 z') (uq_a18 z') (uq_a19 z') (uq_a20 z') (uq_a21 z') (uq_a22 z') (uq_a23 z') (uq_a24 z') (uq_a25 z') (uq_a26 z')) : ∃ fu, wL_law_517 post L xs J x4 x5 x8 (nI st) x13 kc ks fu 0 (uq_nc x) (uq_fc x) (uq_lv x) (uq_cp x) (uq_nd x) (uq_pn x) (uq_le x) (uq_wc x) (uq_ac x) (uq_dc x) (uq_sc x) (uq_a1 x) (uq_a2 x) (uq_a3 x) (uq_a4 x) (uq_a5 x) (uq_a6 x) (uq_a7 x) (uq_a8 x) (uq_a9 x) (uq_a10 x) (uq_a11 x) (uq_a12 x) (uq_a13 x) (uq_a14 x) (uq_a15 x) (uq_a16 x) (uq_a17 x) (uq_a18 x) (uq_a19 x) (uq_a20 x) (uq_a21 x) (uq_a22 x) (uq_a23 x) (uq_a24 x) (uq_a25 x) (uq_a26 x) (uq_nc y) (uq_fc y) (uq_lv y) (uq_cp y) (uq_nd y) (uq_pn y) (uq_le y) (uq_wc y) (uq_ac y) (uq_dc y) (uq_sc y) (uq_a1 y) (uq_a2 y) (uq_a3 y) (uq_a4 y) (uq_a5 y) (uq_a6 y) (uq_a7 y) (uq_a8 y) (uq_a9 y) (uq_a10 y) (uq_a11 y) (uq_a12 y) (uq_a13 y) (uq_a14 y) (uq_a15 y) (uq_a16 y) (uq_a17 y) (uq_a18 y) (uq_a19 y) (uq_a20 y) (uq_a21 y) (uq_a22 y) (uq_a23 y) (uq_a24 y) (uq_a25 y) (uq_a26 y) (uq_nc z) (uq_fc z) (uq_lv z) (uq_cp z) (uq_nd z) (uq_pn z) (uq_le z) (uq_wc z) (uq_ac z) (uq_dc z) (uq_sc z) (uq_a1 z) (uq_a2 z) (uq_a3 z) (uq_a4 z) (uq_a5 z) (uq_a6 z) (uq_a7 z) (uq_a8 z) (uq_a9 z) (uq_a10 z) (uq_a11 z) (uq_a12 z) (uq_a13 z) (uq_a14 z) (uq_a15 z) (uq_a16 z) (uq_a17 z) (uq_a18 z) (uq_a19 z) (uq_a20 z) (uq_a21 z) (uq_a22 z) (uq_a23 z) (uq_a24 z) (uq_a25 z) (uq_a26 z) := by
  have Gg : gi_G (rn_c g) := by rw [← gx]; exact gi_Gc (rn_I_G ix)
  refine pk_loop (fun fu k (s : St1) => wL_law_517 post L xs J x4 x5 x8 (nI st) x13 kc ks fu (nI k) (uq_nc x) (uq_fc x) (uq_lv x) (uq_cp x) (uq_nd x) (uq_pn x) (uq_le x) (uq_wc x) (uq_ac x) (uq_dc x) (uq_sc x) (uq_a1 x) (uq_a2 x) (uq_a3 x) (uq_a4 x) (uq_a5 x) (uq_a6 x) (uq_a7 x) (uq_a8 x) (uq_a9 x) (uq_a10 x) (uq_a11 x) (uq_a12 x) (uq_a13 x) (uq_a14 x) (uq_a15 x) (uq_a16 x) (uq_a17 x) (uq_a18 x) (uq_a19 x) (uq_a20 x) (uq_a21 x) (uq_a22 x) (uq_a23 x) (uq_a24 x) (uq_a25 x) (uq_a26 x) (uq_nc y) (uq_fc y) (uq_lv y) (uq_cp y) (uq_nd y) (uq_pn y) (uq_le y) (uq_wc y) (uq_ac y) (uq_dc y) (uq_sc y) (uq_a1 y) (uq_a2 y) (uq_a3 y) (uq_a4 y) (uq_a5 y) (uq_a6 y) (uq_a7 y) (uq_a8 y) (uq_a9 y) (uq_a10 y) (uq_a11 y) (uq_a12 y) (uq_a13 y) (uq_a14 y) (uq_a15 y) (uq_a16 y) (uq_a17 y) (uq_a18 y) (uq_a19 y) (uq_a20 y) (uq_a21 y) (uq_a22 y) (uq_a23 y) (uq_a24 y) (uq_a25 y) (uq_a26 y) (uq_nc s) (uq_fc s) (uq_lv s) (uq_cp s) (uq_nd s) (uq_pn s) (uq_le s) (uq_wc s) (uq_ac s) (uq_dc s) (uq_sc s) (uq_a1 s) (uq_a2 s) (uq_a3 s) (uq_a4 s) (uq_a5 s) (uq_a6 s) (uq_a7 s) (uq_a8 s) (uq_a9 s) (uq_a10 s) (uq_a11 s) (uq_a12 s) (uq_a13 s) (uq_a14 s) (uq_a15 s) (uq_a16 s) (uq_a17 s) (uq_a18 s) (uq_a19 s) (uq_a20 s) (uq_a21 s) (uq_a22 s) (uq_a23 s) (uq_a24 s) (uq_a25 s) (uq_a26 s)) (fun k s => rn_g s = g ∧ uq_sc s = sc + nI k ∧ rn_I s (rf_it g k (M, A)).1 (rf_it g k (M, A)).2) st 0 z (by omega) ⟨gz, by rw [nI_0, Int32.add_zero]; exact sz, iz⟩ ?_ ?_
  · intro fu s ⟨h1, h2, h3⟩
    exact pk_le st st (fun _ => la_546 ⟨g, _, _, _, ⟨gx, gy, h1, hG, la_Mr_it Gg hG.1 hM st, ix, iy, h3, sx, sy, h2⟩, hn⟩ h13 hJ) (fun q => absurd q (by omega))
  · intro fu k s hk ⟨h1, h2, h3⟩ ih
    refine pk_le st k (fun q => absurd q (by omega)) (fun _ => br_f h13 ?_)
    refine rn_run (u := s) (k := 1) (by omega) rfl h3 (fun s' a1 a2 a3 => br_t rfl ?_)
    refine nm_r (nI_1 k) (ih s' ⟨a1.trans h1, by rw [a2, h2, la_sc1], ?_⟩)
    rw [h1] at a3
    exact a3
theorem la_421 {post : Int32 → Prop} {L : Nat} {xs : Nat → Int32} {J : Int32 → Int32 → Int32 → Int32 → Int32 → Int32 → Int32 → Int32 → Int32 → Int32 → Int64 → Int32 → Int32 → (Nat → Int32) → (Nat → Int32) → (Nat → Int32) → (Nat → Int32) → (Nat → Int32) → (Nat → Int32) → (Nat → Int32) → (Nat → Int32) → (Nat → Int32) → (Nat → Int32) → (Nat → Int32) → (Nat → Int32) → (Nat → Int32) → (Nat → Int32) → (Nat → Int32) → (Nat → Int32) → (Nat → Int32) → (Nat → Int32) → (Nat → Int32) → (Nat → Int32) → (Nat → Int32) → (Nat → Int32) → (Nat → Int32) → (Nat → Int32) → (Nat → Int32) → (Nat → Int32) → Int32 → Int32 → Int32 → Int32 → Int32 → Int32 → Int32 → Int32 → Int64 → Int32 → Int32 → (Nat → Int32) → (Nat → Int32) → (Nat → Int32) → (Nat → Int32) → (Nat → Int32) → (Nat → Int32) → (Nat → Int32) → (Nat → Int32) → (Nat → Int32) → (Nat → Int32) → (Nat → Int32) → (Nat → Int32) → (Nat → Int32) → (Nat → Int32) → (Nat → Int32) → (Nat → Int32) → (Nat → Int32) → (Nat → Int32) → (Nat → Int32) → (Nat → Int32) → (Nat → Int32) → (Nat → Int32) → (Nat → Int32) → (Nat → Int32) → (Nat → Int32) → (Nat → Int32) → Int32 → Int32 → Int32 → Int32 → Int32 → Int32 → Int32 → Int32 → Int64 → Int32 → Int32 → (Nat → Int32) → (Nat → Int32) → (Nat → Int32) → (Nat → Int32) → (Nat → Int32) → (Nat → Int32) → (Nat → Int32) → (Nat → Int32) → (Nat → Int32) → (Nat → Int32) → (Nat → Int32) → (Nat → Int32) → (Nat → Int32) → (Nat → Int32) → (Nat → Int32) → (Nat → Int32) → (Nat → Int32) → (Nat → Int32) → (Nat → Int32) → (Nat → Int32) → (Nat → Int32) → (Nat → Int32) → (Nat → Int32) → (Nat → Int32) → (Nat → Int32) → (Nat → Int32) → Prop} {x4 x5 x8 : Int32} {kc ks : Nat} {x y z : St1} {n st fi : Nat} (hK : la_K x y z n) (hst : st ≤ 20) (hfi : fi ≤ st)
    (hJ : ∀ x' y' z', la_K x' y' z' n → J x4 (x5 + 4) (uq_nc x') (uq_fc x') (uq_lv x') (uq_cp x') (uq_nd x') (uq_pn x') (uq_le x') (uq_wc x') (uq_ac x') (uq_dc x') (uq_sc x') (uq_a1 x') (uq_a2 x') (uq_a3 x') (uq_a4 x') (uq_a5 x') (uq_a6 x') (uq_a7 x') (uq_a8 x') (uq_a9 x') (uq_a10 x') (uq_a11 x') (uq_a12 x') (uq_a13 x') (uq_a14 x') (uq_a15 x') (uq_a16 x') (uq_a17 x') (uq_a18 x') (uq_a19 x') (uq_a20 x') (uq_a21 x') (uq_a22 x') (uq_a23 x') (uq_a24 x') (uq_a25 x') (uq_a26 x') (uq_nc y') (uq_fc y') (uq_lv y') (uq_cp y') (uq_nd y') (uq_pn y') (uq_le y') (uq_wc y') (uq_ac y') (uq_dc y') (uq_sc y') (uq_a1 y') (uq_a2 y') (uq_a3 y') (uq_a4 y') (uq_a5 y') (uq_a6 y') (uq_a7 y') (uq_a8 y') (uq_a9 y') (uq_a10 y') (uq_a11 y') (uq_a12 y') (uq_a13 y') (uq_a14 y') (uq_a15 y') (uq_a16 y') (uq_a17 y') (uq_a18 y') (uq_a19 y') (uq_a20 y') (uq_a21 y') (uq_a22 y') (uq_a23 y') (uq_a24 y') (uq_a25 y') (uq_a26 y') (uq_nc z') (uq_fc z') (uq_lv z') (uq_cp z') (uq_nd z') (uq_pn z') (uq_le z') (uq_wc z') (uq_ac z') (uq_dc z') (uq_sc z') (uq_a1 z') (uq_a2 z') (uq_a3 z') (uq_a4 z') (uq_a5 z') (uq_a6 z') (uq_a7 z') (uq_a8 z') (uq_a9 z') (uq_a10 z') (uq_a11 z') (uq_a12 z') (uq_a13 z') (uq_a14 z') (uq_a15 z') (uq_a16 z') (uq_a17 z') (uq_a18 z') (uq_a19 z') (uq_a20 z') (uq_a21 z') (uq_a22 z') (uq_a23 z') (uq_a24 z') (uq_a25 z') (uq_a26 z')) : wL_law_421 post L xs J x4 x5 x8 (nI st) (nI fi) kc ks (uq_nc x) (uq_fc x) (uq_lv x) (uq_cp x) (uq_nd x) (uq_pn x) (uq_le x) (uq_wc x) (uq_ac x) (uq_dc x) (uq_sc x) (uq_a1 x) (uq_a2 x) (uq_a3 x) (uq_a4 x) (uq_a5 x) (uq_a6 x) (uq_a7 x) (uq_a8 x) (uq_a9 x) (uq_a10 x) (uq_a11 x) (uq_a12 x) (uq_a13 x) (uq_a14 x) (uq_a15 x) (uq_a16 x) (uq_a17 x) (uq_a18 x) (uq_a19 x) (uq_a20 x) (uq_a21 x) (uq_a22 x) (uq_a23 x) (uq_a24 x) (uq_a25 x) (uq_a26 x) (uq_nc y) (uq_fc y) (uq_lv y) (uq_cp y) (uq_nd y) (uq_pn y) (uq_le y) (uq_wc y) (uq_ac y) (uq_dc y) (uq_sc y) (uq_a1 y) (uq_a2 y) (uq_a3 y) (uq_a4 y) (uq_a5 y) (uq_a6 y) (uq_a7 y) (uq_a8 y) (uq_a9 y) (uq_a10 y) (uq_a11 y) (uq_a12 y) (uq_a13 y) (uq_a14 y) (uq_a15 y) (uq_a16 y) (uq_a17 y) (uq_a18 y) (uq_a19 y) (uq_a20 y) (uq_a21 y) (uq_a22 y) (uq_a23 y) (uq_a24 y) (uq_a25 y) (uq_a26 y) (uq_nc z) (uq_fc z) (uq_lv z) (uq_cp z) (uq_nd z) (uq_pn z) (uq_le z) (uq_wc z) (uq_ac z) (uq_dc z) (uq_sc z) (uq_a1 z) (uq_a2 z) (uq_a3 z) (uq_a4 z) (uq_a5 z) (uq_a6 z) (uq_a7 z) (uq_a8 z) (uq_a9 z) (uq_a10 z) (uq_a11 z) (uq_a12 z) (uq_a13 z) (uq_a14 z) (uq_a15 z) (uq_a16 z) (uq_a17 z) (uq_a18 z) (uq_a19 z) (uq_a20 z) (uq_a21 z) (uq_a22 z) (uq_a23 z) (uq_a24 z) (uq_a25 z) (uq_a26 z) := by
  obtain ⟨g, M, A, sc, ⟨gx, gy, gz, hG, hM, ix, iy, iz, sx, sy, sz⟩, hn⟩ := hK
  unfold wL_law_421
  refine lf_valid (u := x) (rn_I_G ix) ?_
  refine rn_run (u := x) (k := st) (by omega) rfl ix (fun x1 a1 a2 a3 => ?_)
  refine rn_run (u := y) (k := fi) (by omega) rfl iy (fun y1 b1 b2 b3 => ?_)
  refine rn_run (u := y1) (k := st - fi) (by omega) (pk_sub hfi) b3 (fun y2 c1 c2 c3 => ?_)
  have gx1 : rn_g x1 = g := a1.trans gx
  have gy1 : rn_g y1 = g := b1.trans gy
  have gy2 : rn_g y2 = g := c1.trans gy1
  rw [gx] at a3
  rw [gy1, gy] at c3
  have e : rf_it g st (M, A) = rf_it g (st - fi) (rf_it g fi (M, A)) := by
    rw [← rf_it_add, show fi + (st - fi) = st by omega]
  have c3' : rn_I y2 (rf_it g st (M, A)).1 (rf_it g st (M, A)).2 := by
    rw [e]
    exact c3
  refine br_f (by decide) (br_t rfl (br_t (by rw [nI_add, show fi + (st - fi) = st by omega]) ?_))
  exact la_517 (by decide) hst gx1 gy2 gz hG hM a3 c3' iz (by rw [a2, sx]) (by rw [c2, b2, sy, Int32.add_assoc, nI_add, show fi + (st - fi) = st by omega]) sz hn hJ
theorem la_389 {post : Int32 → Prop} {L : Nat} {xs : Nat → Int32} {J : Int32 → Int32 → Int32 → Int32 → Int32 → Int32 → Int32 → Int32 → Int32 → Int32 → Int64 → Int32 → Int32 → (Nat → Int32) → (Nat → Int32) → (Nat → Int32) → (Nat → Int32) → (Nat → Int32) → (Nat → Int32) → (Nat → Int32) → (Nat → Int32) → (Nat → Int32) → (Nat → Int32) → (Nat → Int32) → (Nat → Int32) → (Nat → Int32) → (Nat → Int32) → (Nat → Int32) → (Nat → Int32) → (Nat → Int32) → (Nat → Int32) → (Nat → Int32) → (Nat → Int32) → (Nat → Int32) → (Nat → Int32) → (Nat → Int32) → (Nat → Int32) → (Nat → Int32) → (Nat → Int32) → Int32 → Int32 → Int32 → Int32 → Int32 → Int32 → Int32 → Int32 → Int64 → Int32 → Int32 → (Nat → Int32) → (Nat → Int32) → (Nat → Int32) → (Nat → Int32) → (Nat → Int32) → (Nat → Int32) → (Nat → Int32) → (Nat → Int32) → (Nat → Int32) → (Nat → Int32) → (Nat → Int32) → (Nat → Int32) → (Nat → Int32) → (Nat → Int32) → (Nat → Int32) → (Nat → Int32) → (Nat → Int32) → (Nat → Int32) → (Nat → Int32) → (Nat → Int32) → (Nat → Int32) → (Nat → Int32) → (Nat → Int32) → (Nat → Int32) → (Nat → Int32) → (Nat → Int32) → Int32 → Int32 → Int32 → Int32 → Int32 → Int32 → Int32 → Int32 → Int64 → Int32 → Int32 → (Nat → Int32) → (Nat → Int32) → (Nat → Int32) → (Nat → Int32) → (Nat → Int32) → (Nat → Int32) → (Nat → Int32) → (Nat → Int32) → (Nat → Int32) → (Nat → Int32) → (Nat → Int32) → (Nat → Int32) → (Nat → Int32) → (Nat → Int32) → (Nat → Int32) → (Nat → Int32) → (Nat → Int32) → (Nat → Int32) → (Nat → Int32) → (Nat → Int32) → (Nat → Int32) → (Nat → Int32) → (Nat → Int32) → (Nat → Int32) → (Nat → Int32) → (Nat → Int32) → Prop} {x4 x5 x8 : Int32} {kc ks : Nat} {x y z : St1} {n : Nat} (hK : la_K x y z n)
    (hJ : ∀ x' y' z', la_K x' y' z' n → J x4 (x5 + 4) (uq_nc x') (uq_fc x') (uq_lv x') (uq_cp x') (uq_nd x') (uq_pn x') (uq_le x') (uq_wc x') (uq_ac x') (uq_dc x') (uq_sc x') (uq_a1 x') (uq_a2 x') (uq_a3 x') (uq_a4 x') (uq_a5 x') (uq_a6 x') (uq_a7 x') (uq_a8 x') (uq_a9 x') (uq_a10 x') (uq_a11 x') (uq_a12 x') (uq_a13 x') (uq_a14 x') (uq_a15 x') (uq_a16 x') (uq_a17 x') (uq_a18 x') (uq_a19 x') (uq_a20 x') (uq_a21 x') (uq_a22 x') (uq_a23 x') (uq_a24 x') (uq_a25 x') (uq_a26 x') (uq_nc y') (uq_fc y') (uq_lv y') (uq_cp y') (uq_nd y') (uq_pn y') (uq_le y') (uq_wc y') (uq_ac y') (uq_dc y') (uq_sc y') (uq_a1 y') (uq_a2 y') (uq_a3 y') (uq_a4 y') (uq_a5 y') (uq_a6 y') (uq_a7 y') (uq_a8 y') (uq_a9 y') (uq_a10 y') (uq_a11 y') (uq_a12 y') (uq_a13 y') (uq_a14 y') (uq_a15 y') (uq_a16 y') (uq_a17 y') (uq_a18 y') (uq_a19 y') (uq_a20 y') (uq_a21 y') (uq_a22 y') (uq_a23 y') (uq_a24 y') (uq_a25 y') (uq_a26 y') (uq_nc z') (uq_fc z') (uq_lv z') (uq_cp z') (uq_nd z') (uq_pn z') (uq_le z') (uq_wc z') (uq_ac z') (uq_dc z') (uq_sc z') (uq_a1 z') (uq_a2 z') (uq_a3 z') (uq_a4 z') (uq_a5 z') (uq_a6 z') (uq_a7 z') (uq_a8 z') (uq_a9 z') (uq_a10 z') (uq_a11 z') (uq_a12 z') (uq_a13 z') (uq_a14 z') (uq_a15 z') (uq_a16 z') (uq_a17 z') (uq_a18 z') (uq_a19 z') (uq_a20 z') (uq_a21 z') (uq_a22 z') (uq_a23 z') (uq_a24 z') (uq_a25 z') (uq_a26 z')) : wL_law_389 post L xs J x4 x5 x8 kc ks (uq_nc x) (uq_fc x) (uq_lv x) (uq_cp x) (uq_nd x) (uq_pn x) (uq_le x) (uq_wc x) (uq_ac x) (uq_dc x) (uq_sc x) (uq_a1 x) (uq_a2 x) (uq_a3 x) (uq_a4 x) (uq_a5 x) (uq_a6 x) (uq_a7 x) (uq_a8 x) (uq_a9 x) (uq_a10 x) (uq_a11 x) (uq_a12 x) (uq_a13 x) (uq_a14 x) (uq_a15 x) (uq_a16 x) (uq_a17 x) (uq_a18 x) (uq_a19 x) (uq_a20 x) (uq_a21 x) (uq_a22 x) (uq_a23 x) (uq_a24 x) (uq_a25 x) (uq_a26 x) (uq_nc y) (uq_fc y) (uq_lv y) (uq_cp y) (uq_nd y) (uq_pn y) (uq_le y) (uq_wc y) (uq_ac y) (uq_dc y) (uq_sc y) (uq_a1 y) (uq_a2 y) (uq_a3 y) (uq_a4 y) (uq_a5 y) (uq_a6 y) (uq_a7 y) (uq_a8 y) (uq_a9 y) (uq_a10 y) (uq_a11 y) (uq_a12 y) (uq_a13 y) (uq_a14 y) (uq_a15 y) (uq_a16 y) (uq_a17 y) (uq_a18 y) (uq_a19 y) (uq_a20 y) (uq_a21 y) (uq_a22 y) (uq_a23 y) (uq_a24 y) (uq_a25 y) (uq_a26 y) (uq_nc z) (uq_fc z) (uq_lv z) (uq_cp z) (uq_nd z) (uq_pn z) (uq_le z) (uq_wc z) (uq_ac z) (uq_dc z) (uq_sc z) (uq_a1 z) (uq_a2 z) (uq_a3 z) (uq_a4 z) (uq_a5 z) (uq_a6 z) (uq_a7 z) (uq_a8 z) (uq_a9 z) (uq_a10 z) (uq_a11 z) (uq_a12 z) (uq_a13 z) (uq_a14 z) (uq_a15 z) (uq_a16 z) (uq_a17 z) (uq_a18 z) (uq_a19 z) (uq_a20 z) (uq_a21 z) (uq_a22 z) (uq_a23 z) (uq_a24 z) (uq_a25 z) (uq_a26 z) := by
  obtain ⟨w, hw, ew⟩ := pk_andE x8 8 (m := 255) (by decide)
  obtain ⟨v, hv, ev⟩ := pk_andE (x8 >>> ((8 : Int32) &&& 31)) 8 (m := 255) (by decide)
  have e20 : (x8 &&& 255) - (x8 &&& 255) / 20 * 20 = nI (w % 20) := by
    rw [ew]
    exact pk_rem (d := 20) (by omega) (by omega) (by omega)
  have lt := Nat.mod_lt w (show 20 > 0 by omega)
  unfold wL_law_389
  refine ⟨by decide, nm_r e20 (pk_eq (w % 20) 0 (fun q => ?_) (fun q => ⟨nI_ne0 (by omega) (by omega), ?_⟩))⟩
  · exact la_421 (fi := 0) hK (by omega) (by omega) hJ
  · have ef : ((x8 >>> ((8 : Int32) &&& 31)) &&& 255) - ((x8 >>> ((8 : Int32) &&& 31)) &&& 255) / nI (w % 20) * nI (w % 20) = nI (v % (w % 20)) := by
      rw [ev]
      exact pk_rem (by omega) (by omega) (by omega)
    have lt2 := Nat.mod_lt v (show w % 20 > 0 by omega)
    rw [ef]
    exact la_421 hK (by omega) (by omega) hJ
end
section
/-! the beginning -/
def la_a1 (j : Nat) : Int32 := if j < 4 then 1 else 0
def la_a9 (j : Nat) : Int32 := if j < 4 then -1 else 0
def la_u0 : St1 := (0, 0, 2, 0, 0, 0, 0, 0, 0, 0, 0, la_a1, fun _ => 0, fun _ => 0, fun _ => 0, fun _ => 0, fun _ => 0, fun _ => 0, fun _ => 0, la_a9, fun _ => 0, fun _ => 0, fun _ => 0, fun _ => 0, fun _ => 0, fun _ => 0, fun _ => 0, fun _ => 0, fun _ => 0, fun _ => 0, fun _ => 0, fun _ => 0, fun _ => 0, fun _ => 0, fun _ => 0, fun _ => 0, fun _ => 0)
theorem la_u0_G : gi_G la_u0 := by
  have eN : gi_N la_u0 = 0 := rfl
  have eF : gi_F la_u0 = 0 := rfl
  refine ⟨rfl, by rw [eN]; omega, rfl, by rw [eF]; omega, fun n hn => absurd hn (by rw [eN]; omega), fun n m _ hm => absurd hm (by rw [eN]; omega), fun f hf => absurd hf (by rw [eF]; omega), fun o ho => Or.inl ?_⟩
  show la_a9 o = -1
  exact if_pos ho
theorem la_u0_F : rn_F la_u0 (fun _ => 0) (fun _ => 0) := by
  have F1 : rn_FF (rn_m la_u0) 0 (fun _ => 0) (fun _ => 0) (fun _ => 0) (fun _ => 0) := ⟨gi_mG la_u0_G, rn_S0 (fun f _ => rfl), rfl, fun x _ => rfl, fun f _ => rfl⟩
  exact F1
theorem la_u0_g : la_G (rn_g la_u0) := by
  refine ⟨fun n hn => absurd hn ?_, fun l hl => ⟨1, ?_, by omega, by omega⟩⟩
  · have eN : gi_N (rn_c (rn_g la_u0)) = 0 := rfl
    rw [eN]
    omega
  · show la_a1 l = nI 1
    exact if_pos hl
theorem la_init {post : St1 → Prop} (hp : post la_u0) : wpX_init post 26 3378 (0, 0, 0, 0, 0, 0, 0, 0, 0, 0, 0) := by
  have loop : ∃ fu, wX_init_222 post 26 3378 26 3378 0 0 2 0 0 0 0 0 0 0 0 fu 0 (fun _ => 0) (fun _ => 0) (fun _ => 0) (fun _ => 0) (fun _ => 0) (fun _ => 0) (fun _ => 0) (fun _ => 0) (fun _ => 0) (fun _ => 0) (fun _ => 0) (fun _ => 0) (fun _ => 0) (fun _ => 0) (fun _ => 0) (fun _ => 0) (fun _ => 0) (fun _ => 0) (fun _ => 0) (fun _ => 0) (fun _ => 0) (fun _ => 0) (fun _ => 0) (fun _ => 0) (fun _ => 0) (fun _ => 0) := by
    refine pk_loop (fun fu i (a : Nat → Int32) => wX_init_222 post 26 3378 26 3378 0 0 2 0 0 0 0 0 0 0 0 fu (nI i) a (fun _ => 0) (fun _ => 0) (fun _ => 0) (fun _ => 0) (fun _ => 0) (fun _ => 0) (fun _ => 0) (fun _ => 0) (fun _ => 0) (fun _ => 0) (fun _ => 0) (fun _ => 0) (fun _ => 0) (fun _ => 0) (fun _ => 0) (fun _ => 0) (fun _ => 0) (fun _ => 0) (fun _ => 0) (fun _ => 0) (fun _ => 0) (fun _ => 0) (fun _ => 0) (fun _ => 0) (fun _ => 0)) (fun i a => ∀ j, a j = if j < i then 1 else 0) 4 0 (fun _ => 0) (by omega) (fun j => by rw [if_neg (by omega)]) ?_ ?_
    · intro fu a ha
      refine pk_le 4 4 (fun _ => ?_) (fun z => absurd z (by omega))
      refine pk_loop (fun fu i (b : Nat → Int32) => wX_init_242 post 26 3378 26 3378 0 0 2 0 0 0 0 0 0 0 0 fu (nI i) a (fun _ => 0) (fun _ => 0) (fun _ => 0) (fun _ => 0) (fun _ => 0) (fun _ => 0) (fun _ => 0) b (fun _ => 0) (fun _ => 0) (fun _ => 0) (fun _ => 0) (fun _ => 0) (fun _ => 0) (fun _ => 0) (fun _ => 0) (fun _ => 0) (fun _ => 0) (fun _ => 0) (fun _ => 0) (fun _ => 0) (fun _ => 0) (fun _ => 0) (fun _ => 0) (fun _ => 0)) (fun i b => ∀ j, b j = if j < i then -1 else 0) 4 0 (fun _ => 0) (by omega) (fun j => by rw [if_neg (by omega)]) ?_ ?_
      · intro fu b hb
        refine pk_le 4 4 (fun _ => ?_) (fun z => absurd z (by omega))
        have e1 : a = la_a1 := funext ha
        have e2 : b = la_a9 := funext hb
        rw [e1, e2]
        exact hp
      · intro fu i b hi hb ih
        refine pk_le 4 i (fun z => absurd z (by omega)) (fun _ => ?_)
        rw [nu_cl i]
        refine ⟨nu_in hi, nm_e (nm_r (nI_1 i) (ih _ (fun j => ?_)))⟩
        by_cases e : j = i
        · rw [nu_us e, if_pos (by omega)]
        · rw [pk_un e, hb j]
          by_cases q : j < i
          · rw [if_pos q, if_pos (by omega)]
          · rw [if_neg q, if_neg (by omega)]
    · intro fu i a hi ha ih
      refine pk_le 4 i (fun z => absurd z (by omega)) (fun _ => ?_)
      rw [nu_cl i]
      refine ⟨nu_in hi, nm_e (nm_r (nI_1 i) (ih _ (fun j => ?_)))⟩
      by_cases e : j = i
      · rw [nu_us e, if_pos (by omega)]
      · rw [pk_un e, ha j]
        by_cases q : j < i
        · rw [if_pos q, if_pos (by omega)]
        · rw [if_neg q, if_neg (by omega)]
  exact ⟨by omega, by omega, by omega, by omega, by omega, by omega, by omega, by omega, by omega, by omega, by omega, by omega, by omega, by omega, by omega, by omega, by omega, by omega, by omega, by omega, by omega, by omega, by omega, by omega, by omega, by omega, by omega, by omega, by omega, by omega, by omega, by omega, by omega, by omega, by omega, by omega, by omega, by omega, by omega, by omega, by omega, by omega, by omega, by omega, by omega, by omega, by omega, by omega, by omega, by omega, by omega, by omega, loop⟩
theorem la_level {post : Int32 → St1 → Prop} {u : St1} {M : Nat → Int32} {A : Nat → Nat} {k : Nat} {p : Int32} (h : rn_F u M A) (hk : k ≤ 2) (hp0 : p = nI k)
    (hp : ∀ u', rn_g u' = rn_g u → uq_sc u' = uq_sc u → rn_I u' M A → post 1 u') : wpX_level post u p := by
  subst hp0
  obtain ⟨G, R, c1, hM, hA⟩ := h
  have F1 : rn_FF (rn_m u) 0 (uq_a21 u) (uq_a22 u) M A := ⟨G, R, rfl, hM, hA⟩
  have F2 : rn_FF (rn_m u) (uq_cp u) (uq_a21 u) (uq_a22 u) M A := ⟨G, R, c1, hM, hA⟩
  have p1 : post 1 (uq_nc u, uq_fc u, nI k, uq_cp u, uq_nd u, uq_pn u, uq_le u, uq_wc u, uq_ac u, uq_dc u, uq_sc u, uq_a1 u, uq_a2 u, uq_a3 u, uq_a4 u, uq_a5 u, uq_a6 u, uq_a7 u, uq_a8 u, uq_a9 u, uq_a10 u, uq_a11 u, uq_a12 u, uq_a13 u, uq_a14 u, uq_a15 u, uq_a16 u, uq_a17 u, uq_a18 u, uq_a19 u, uq_a20 u, uq_a21 u, uq_a22 u, uq_a23 u, uq_a24 u, uq_a25 u, uq_a26 u) := hp _ rfl rfl ⟨⟨k, rfl, hk⟩, Or.inr F2⟩
  have p2 : post 1 (uq_nc u, uq_fc u, nI k, 0, uq_nd u, uq_pn u, uq_le u, uq_wc u, uq_ac u, uq_dc u, uq_sc u, uq_a1 u, uq_a2 u, uq_a3 u, uq_a4 u, uq_a5 u, uq_a6 u, uq_a7 u, uq_a8 u, uq_a9 u, uq_a10 u, uq_a11 u, uq_a12 u, uq_a13 u, uq_a14 u, uq_a15 u, uq_a16 u, uq_a17 u, uq_a18 u, uq_a19 u, uq_a20 u, uq_a21 u, uq_a22 u, uq_a23 u, uq_a24 u, uq_a25 u, uq_a26 u) := hp _ rfl rfl ⟨⟨k, rfl, hk⟩, Or.inr F1⟩
  obtain ⟨nc, fc, lv, cp, nd, pn, le, wc, ac, dc, sc, a1, a2, a3, a4, a5, a6, a7, a8, a9, a10, a11, a12, a13, a14, a15, a16, a17, a18, a19, a20, a21, a22, a23, a24, a25, a26⟩ := u
  exact br_f (nI_pos (by omega)) (br_t (nI_le (b := 2) hk (by omega)) (br_c (fun _ => p1) (fun _ => p2)))
end
section
/-! the law: the calls, each for three states -/
theorem gi_Nc {u : St1} {g : rn_T} (h : rn_g u = g) : gi_N u = gi_N (rn_c g) := by
  have e : gi_N u = gi_N (rn_c (rn_g u)) := rfl
  rw [e, h]
theorem gi_Fc {u : St1} {g : rn_T} (h : rn_g u = g) : gi_F u = gi_F (rn_c g) := by
  have e : gi_F u = gi_F (rn_c (rn_g u)) := rfl
  rw [e, h]
theorem la_Lc {u : St1} {g : rn_T} (h : rn_g u = g) (hL : la_L (rn_c g)) : la_L u := by
  rw [← h] at hL
  exact la_L_of (c := rn_c (rn_g u)) rfl hL
theorem la_inp {post : Int32 → Prop} {Q : St1 → St1 → St1 → Prop} {x y z : St1} {n i : Nat} {p v : Int32} (hK : la_K x y z n) (hi : i < 2) (hp0 : p = nI i) (hv : la_smp v) (hQ : ∀ x' y' z', la_K x' y' z' n → Q x' y' z') :
    wpX_input (fun r1 x' => ((r1 = 0 → post 0) ∧ (¬ r1 = 0 → wpX_input (fun r2 y' => ((r2 = 0 → post 0) ∧ (¬ r2 = 0 → wpX_input (fun r3 z' => ((r3 = 0 → post 0) ∧ (¬ r3 = 0 → Q x' y' z'))) z p v))) y p v))) x p v := by
  obtain ⟨g, M, A, sc, ⟨gx, gy, gz, hG, hM, ix, iy, iz, sx, sy, sz⟩, hn⟩ := hK
  refine rn_input (u := x) ix hi hp0 hv (fun x' a1 a2 a3 => br_f (by decide) ?_)
  refine rn_input (u := y) iy hi hp0 hv (fun y' b1 b2 b3 => br_f (by decide) ?_)
  refine rn_input (u := z) iz hi hp0 hv (fun z' c1 c2 c3 => br_f (by decide) ?_)
  exact hQ x' y' z' ⟨g, _, _, sc, ⟨a1.trans gx, b1.trans gy, c1.trans gz, hG, la_Mr_upd hM hv, a3, b3, c3, a2.trans sx, b2.trans sy, c2.trans sz⟩, hn⟩
theorem la_cof {post : Int32 → Prop} {Q : St1 → St1 → St1 → Prop} {x y z : St1} {n l k : Nat} {p q v : Int32} (hK : la_K x y z n) (hl : l < 4) (hk : k < 6) (hp0 : p = nI l) (hq0 : q = nI k) (hv : la_smp v) (hQ : ∀ x' y' z', la_K x' y' z' n → Q x' y' z') :
    wpX_coefficient (fun r1 x' => ((r1 = 0 → post 0) ∧ (¬ r1 = 0 → wpX_coefficient (fun r2 y' => ((r2 = 0 → post 0) ∧ (¬ r2 = 0 → wpX_coefficient (fun r3 z' => ((r3 = 0 → post 0) ∧ (¬ r3 = 0 → Q x' y' z'))) z p q v))) y p q v))) x p q v := by
  obtain ⟨g, M, A, sc, ⟨gx, gy, gz, hG, hM, ix, iy, iz, sx, sy, sz⟩, hn⟩ := hK
  refine rn_coeff (u := x) ix (la_Lc gx hG.2) hl hk hp0 hq0 hv (fun x' a1 a2 a3 => br_f (by decide) ?_)
  refine rn_coeff (u := y) iy (la_Lc gy hG.2) hl hk hp0 hq0 hv (fun y' b1 b2 b3 => br_f (by decide) ?_)
  refine rn_coeff (u := z) iz (la_Lc gz hG.2) hl hk hp0 hq0 hv (fun z' c1 c2 c3 => br_f (by decide) ?_)
  rw [gx] at a1
  rw [gy] at b1
  rw [gz] at c1
  have eN : gi_N (rn_c (la_coe g l k v)) = gi_N (rn_c g) := by
    obtain ⟨g1, g2, g3, g4, g5, g6, g7, g8, g9, g10, g11⟩ := g
    unfold gi_N
    rw [la_fcoe.1, la_fc.1]
  exact hQ x' y' z' ⟨la_coe g l k v, M, A, sc, ⟨a1, b1, c1, la_G_coe hG hl hk, hM, a3, b3, c3, a2.trans sx, b2.trans sy, c2.trans sz⟩, eN.trans hn⟩
theorem la_otp {post : Int32 → Prop} {Q : St1 → St1 → St1 → Prop} {x y z : St1} {n o : Nat} {p v : Int32} (hK : la_K x y z n) (ho : o < 4) (hp0 : p = nI o) (hv : v = -1 ∨ ∃ k, v = nI k ∧ k < n) (hQ : ∀ x' y' z', la_K x' y' z' n → Q x' y' z') :
    wpX_output (fun r1 x' => ((r1 = 0 → post 0) ∧ (¬ r1 = 0 → wpX_output (fun r2 y' => ((r2 = 0 → post 0) ∧ (¬ r2 = 0 → wpX_output (fun r3 z' => ((r3 = 0 → post 0) ∧ (¬ r3 = 0 → Q x' y' z'))) z p v))) y p v))) x p v := by
  obtain ⟨g, M, A, sc, ⟨gx, gy, gz, hG, hM, ix, iy, iz, sx, sy, sz⟩, hn⟩ := hK
  refine rn_output (u := x) ix ho hp0 (by rw [gi_Nc gx, hn]; exact hv) (fun x' a1 a2 a3 => br_f (by decide) ?_)
  refine rn_output (u := y) iy ho hp0 (by rw [gi_Nc gy, hn]; exact hv) (fun y' b1 b2 b3 => br_f (by decide) ?_)
  refine rn_output (u := z) iz ho hp0 (by rw [gi_Nc gz, hn]; exact hv) (fun z' c1 c2 c3 => br_f (by decide) ?_)
  rw [gx] at a1
  rw [gy] at b1
  rw [gz] at c1
  have eN : gi_N (rn_c (la_out g o v)) = gi_N (rn_c g) := by
    obtain ⟨g1, g2, g3, g4, g5, g6, g7, g8, g9, g10, g11⟩ := g
    unfold gi_N
    rw [la_fout.1, la_fc.1]
  exact hQ x' y' z' ⟨la_out g o v, _, _, 0, ⟨a1, b1, c1, la_G_out hG, la_Mr_rm hM, a3, b3, c3, a2, b2, c2⟩, eN.trans hn⟩
theorem la_rtr {post : Int32 → Prop} {Q : Int32 → St1 → St1 → St1 → Prop} {x y z : St1} {n : Nat} (hK : la_K x y z n) (hQ : ∀ n' x' y' z', la_K x' y' z' n' → Q (nI n') x' y' z') :
    wpX_retract (fun r1 x' => wpX_retract (fun r2 y' => ((r2 = r1 → wpX_retract (fun r3 z' => ((r3 = r1 → ((r1 < 0 → Q (nI n) x' y' z') ∧ (¬ r1 < 0 → Q r1 x' y' z'))) ∧ (¬ r3 = r1 → post 0))) z) ∧ (¬ r2 = r1 → post 0))) y) x := by
  obtain ⟨g, M, A, sc, ⟨gx, gy, gz, hG, hM, ix, iy, iz, sx, sy, sz⟩, hn⟩ := id hK
  have nx : gi_N x = n := (gi_Nc gx).trans hn
  have ny : gi_N y = n := (gi_Nc gy).trans hn
  have nz : gi_N z = n := (gi_Nc gz).trans hn
  have n24 : n ≤ 24 := by rw [← nx]; exact gi_n24 (rn_I_G ix)
  by_cases h0 : n = 0
  · refine rn_retract (u := x) ix (fun _ => ?_) (fun q => absurd (nx.trans h0) q)
    refine rn_retract (u := y) iy (fun _ => br_t rfl ?_) (fun q => absurd (ny.trans h0) q)
    refine rn_retract (u := z) iz (fun _ => br_t rfl (br_t (by decide) (hQ n x y z hK))) (fun q => absurd (nz.trans h0) q)
  · refine rn_retract (u := x) ix (fun q => absurd (nx.symm.trans q) h0) (fun _ x' a1 a2 a3 => ?_)
    refine rn_retract (u := y) iy (fun q => absurd (ny.symm.trans q) h0) (fun _ y' b1 b2 b3 => br_t (by rw [nx, ny]) ?_)
    refine rn_retract (u := z) iz (fun q => absurd (nz.symm.trans q) h0) (fun _ z' c1 c2 c3 => br_t (by rw [nx, nz]) (br_f (nI_pos (by omega)) ?_))
    rw [gx] at a1
    rw [gy] at b1
    rw [gz] at c1
    obtain ⟨r1, r2⟩ := la_G_ret (by rw [hn]; exact n24) hG
    rw [nx]
    exact hQ (n - 1) x' y' z' ⟨la_ret g, _, _, 0, ⟨a1, b1, c1, r1, la_Mr_rm hM, a3, b3, c3, a2, b2, c2⟩, by rw [r2, hn]⟩
theorem la_mde {post : Int32 → Prop} {Q : Int32 → St1 → St1 → St1 → Prop} {x y z : St1} {n L : Nat} {x5 p1 p2 p3 : Int32} (hK : la_K x y z n) (h5 : vp_in x5 L) (hQ : ∀ n' x' y' z', la_K x' y' z' n' → Q (nI n') x' y' z') :
    wpL_made (fun r1 x' => (vp_in x5 L ∧ wpL_made (fun r2 y' => ((r2 = r1 → (vp_in x5 L ∧ wpL_made (fun r3 z' => ((r3 = r1 → ((r1 < 0 → Q (nI n) x' y' z') ∧ (¬ r1 < 0 → (∀ w, w = r1 + 1 → Q w x' y' z')))) ∧ (¬ r3 = r1 → post 0))) z p1 p2 p3 (nI n))) ∧ (¬ r2 = r1 → post 0))) y p1 p2 p3 (nI n))) x p1 p2 p3 (nI n) := by
  obtain ⟨g, M, A, sc, ⟨gx, gy, gz, hG, hM, ix, iy, iz, sx, sy, sz⟩, hn⟩ := id hK
  have nx : gi_N x = n := (gi_Nc gx).trans hn
  have ny : gi_N y = n := (gi_Nc gy).trans hn
  have nz : gi_N z = n := (gi_Nc gz).trans hn
  have n24 : n ≤ 24 := by rw [← nx]; exact gi_n24 (rn_I_G ix)
  obtain ⟨kd, a, b, hf, hmade⟩ := la_made p1 p2 p3 n24
  have fu : ∀ u : St1, rn_g u = g → (la_full u kd ↔ (n = 24 ∨ (kd = 6 ∧ gi_F (rn_c g) = 4))) := by
    intro u hu
    unfold la_full
    rw [gi_Nc hu, gi_Fc hu, hn]
  by_cases hfull : n = 24 ∨ (kd = 6 ∧ gi_F (rn_c g) = 4)
  · refine hmade _ x (rn_node (u := x) ix (la_Lc gx hG.2) (by rw [nx]; exact hf) (fun _ => ⟨h5, ?_⟩) (fun q => absurd ((fu x gx).mpr hfull) q))
    refine hmade _ y (rn_node (u := y) iy (la_Lc gy hG.2) (by rw [ny]; exact hf) (fun _ => br_t rfl ⟨h5, ?_⟩) (fun q => absurd ((fu y gy).mpr hfull) q))
    exact hmade _ z (rn_node (u := z) iz (la_Lc gz hG.2) (by rw [nz]; exact hf) (fun _ => br_t rfl (br_t (by decide) (hQ n x y z hK))) (fun q => absurd ((fu z gz).mpr hfull) q))
  · refine hmade _ x (rn_node (u := x) ix (la_Lc gx hG.2) (by rw [nx]; exact hf) (fun q => absurd ((fu x gx).mp q) hfull) (fun _ x' a1 a2 a3 => ⟨h5, ?_⟩))
    refine hmade _ y (rn_node (u := y) iy (la_Lc gy hG.2) (by rw [ny]; exact hf) (fun q => absurd ((fu y gy).mp q) hfull) (fun _ y' b1 b2 b3 => br_t (by rw [nx, ny]) ⟨h5, ?_⟩))
    refine hmade _ z (rn_node (u := z) iz (la_Lc gz hG.2) (by rw [nz]; exact hf) (fun q => absurd ((fu z gz).mp q) hfull) (fun _ z' c1 c2 c3 => br_t (by rw [nx, nz]) (br_f (by rw [nx]; exact nI_pos (by omega)) ?_)))
    rw [gx] at a1
    rw [gy] at b1
    rw [gz] at c1
    obtain ⟨r1, r2⟩ := la_G_nod (g := g) (kd := kd) (a := a) (b := b) (by rw [hn]; omega) hG (by rw [hn]; exact hf)
    rw [nx]
    exact nm_r (nI_1 n) (hQ (n + 1) x' y' z' ⟨la_nod g kd a b, _, _, 0, ⟨a1, b1, c1, r1, la_Mr_rm hM, a3, b3, c3, a2, b2, c2⟩, by rw [r2, hn]⟩)
end
section
/-! the law's loop -/
theorem la_48 {post : Int32 → Prop} {L : Nat} {xs : Nat → Int32} {kc ks : Nat} {x y z : St1} (hL : L ≤ 260) (h1 : post 1) (hK : la_K x y z 0) :
    ∃ fu, wL_law_48 post L xs kc ks fu 0 0 (uq_nc x) (uq_fc x) (uq_lv x) (uq_cp x) (uq_nd x) (uq_pn x) (uq_le x) (uq_wc x) (uq_ac x) (uq_dc x) (uq_sc x) (uq_a1 x) (uq_a2 x) (uq_a3 x) (uq_a4 x) (uq_a5 x) (uq_a6 x) (uq_a7 x) (uq_a8 x) (uq_a9 x) (uq_a10 x) (uq_a11 x) (uq_a12 x) (uq_a13 x) (uq_a14 x) (uq_a15 x) (uq_a16 x) (uq_a17 x) (uq_a18 x) (uq_a19 x) (uq_a20 x) (uq_a21 x) (uq_a22 x) (uq_a23 x) (uq_a24 x) (uq_a25 x) (uq_a26 x) (uq_nc y) (uq_fc y) (uq_lv y) (uq_cp y) (uq_nd y) (uq_pn y) (uq_le y) (uq_wc y) (uq_ac y) (uq_dc y) (uq_sc y) (uq_a1 y) (uq_a2 y) (uq_a3 y) (uq_a4 y) (uq_a5 y) (uq_a6 y) (uq_a7 y) (uq_a8 y) (uq_a9 y) (uq_a10 y) (uq_a11 y) (uq_a12 y) (uq_a13 y) (uq_a14 y) (uq_a15 y) (uq_a16 y) (uq_a17 y) (uq_a18 y) (uq_a19 y) (uq_a20 y) (uq_a21 y) (uq_a22 y) (uq_a23 y) (uq_a24 y) (uq_a25 y) (uq_a26 y) (uq_nc z) (uq_fc z) (uq_lv z) (uq_cp z) (uq_nd z) (uq_pn z) (uq_le z) (uq_wc z) (uq_ac z) (uq_dc z) (uq_sc z) (uq_a1 z) (uq_a2 z) (uq_a3 z) (uq_a4 z) (uq_a5 z) (uq_a6 z) (uq_a7 z) (uq_a8 z) (uq_a9 z) (uq_a10 z) (uq_a11 z) (uq_a12 z) (uq_a13 z) (uq_a14 z) (uq_a15 z) (uq_a16 z) (uq_a17 z) (uq_a18 z) (uq_a19 z) (uq_a20 z) (uq_a21 z) (uq_a22 z) (uq_a23 z) (uq_a24 z) (uq_a25 z) (uq_a26 z) := by
  refine loop_m (fun fu (s : Nat × Nat × St1 × St1 × St1) => wL_law_48 post L xs kc ks fu (nI s.1) (nI s.2.1) (uq_nc s.2.2.1) (uq_fc s.2.2.1) (uq_lv s.2.2.1) (uq_cp s.2.2.1) (uq_nd s.2.2.1) (uq_pn s.2.2.1) (uq_le s.2.2.1) (uq_wc s.2.2.1) (uq_ac s.2.2.1) (uq_dc s.2.2.1) (uq_sc s.2.2.1) (uq_a1 s.2.2.1) (uq_a2 s.2.2.1) (uq_a3 s.2.2.1) (uq_a4 s.2.2.1) (uq_a5 s.2.2.1) (uq_a6 s.2.2.1) (uq_a7 s.2.2.1) (uq_a8 s.2.2.1) (uq_a9 s.2.2.1) (uq_a10 s.2.2.1) (uq_a11 s.2.2.1) (uq_a12 s.2.2.1) (uq_a13 s.2.2.1) (uq_a14 s.2.2.1) (uq_a15 s.2.2.1) (uq_a16 s.2.2.1) (uq_a17 s.2.2.1) (uq_a18 s.2.2.1) (uq_a19 s.2.2.1) (uq_a20 s.2.2.1) (uq_a21 s.2.2.1) (uq_a22 s.2.2.1) (uq_a23 s.2.2.1) (uq_a24 s.2.2.1) (uq_a25 s.2.2.1) (uq_a26 s.2.2.1) (uq_nc s.2.2.2.1) (uq_fc s.2.2.2.1) (uq_lv s.2.2.2.1) (uq_cp s.2.2.2.1) (uq_nd s.2.2.2.1) (uq_pn s.2.2.2.1) (uq_le s.2.2.2.1) (uq_wc s.2.2.2.1) (uq_ac s.2.2.2.1) (uq_dc s.2.2.2.1) (uq_sc s.2.2.2.1) (uq_a1 s.2.2.2.1) (uq_a2 s.2.2.2.1) (uq_a3 s.2.2.2.1) (uq_a4 s.2.2.2.1) (uq_a5 s.2.2.2.1) (uq_a6 s.2.2.2.1) (uq_a7 s.2.2.2.1) (uq_a8 s.2.2.2.1) (uq_a9 s.2.2.2.1) (uq_a10 s.2.2.2.1) (uq_a11 s.2.2.2.1) (uq_a12 s.2.2.2.1) (uq_a13 s.2.2.2.1) (uq_a14 s.2.2.2.1) (uq_a15 s.2.2.2.1) (uq_a16 s.2.2.2.1) (uq_a17 s.2.2.2.1) (uq_a18 s.2.2.2.1) (uq_a19 s.2.2.2.1) (uq_a20 s.2.2.2.1) (uq_a21 s.2.2.2.1) (uq_a22 s.2.2.2.1) (uq_a23 s.2.2.2.1) (uq_a24 s.2.2.2.1) (uq_a25 s.2.2.2.1) (uq_a26 s.2.2.2.1) (uq_nc s.2.2.2.2) (uq_fc s.2.2.2.2) (uq_lv s.2.2.2.2) (uq_cp s.2.2.2.2) (uq_nd s.2.2.2.2) (uq_pn s.2.2.2.2) (uq_le s.2.2.2.2) (uq_wc s.2.2.2.2) (uq_ac s.2.2.2.2) (uq_dc s.2.2.2.2) (uq_sc s.2.2.2.2) (uq_a1 s.2.2.2.2) (uq_a2 s.2.2.2.2) (uq_a3 s.2.2.2.2) (uq_a4 s.2.2.2.2) (uq_a5 s.2.2.2.2) (uq_a6 s.2.2.2.2) (uq_a7 s.2.2.2.2) (uq_a8 s.2.2.2.2) (uq_a9 s.2.2.2.2) (uq_a10 s.2.2.2.2) (uq_a11 s.2.2.2.2) (uq_a12 s.2.2.2.2) (uq_a13 s.2.2.2.2) (uq_a14 s.2.2.2.2) (uq_a15 s.2.2.2.2) (uq_a16 s.2.2.2.2) (uq_a17 s.2.2.2.2) (uq_a18 s.2.2.2.2) (uq_a19 s.2.2.2.2) (uq_a20 s.2.2.2.2) (uq_a21 s.2.2.2.2) (uq_a22 s.2.2.2.2) (uq_a23 s.2.2.2.2) (uq_a24 s.2.2.2.2) (uq_a25 s.2.2.2.2) (uq_a26 s.2.2.2.2)) (fun s => s.2.1 ≤ 300 ∧ la_K s.2.2.1 s.2.2.2.1 s.2.2.2.2 s.1) (fun s => L - s.2.1) ?_ (0, 0, x, y, z) ⟨Nat.zero_le _, hK⟩
  rintro fu ⟨n, i, x, y, z⟩ ⟨hi, hK⟩ ih
  dsimp only at hi hK ih ⊢
  have n24 : n ≤ 24 := by
    obtain ⟨g, M, A, sc, ⟨gx, gy, gz, hG, hM, ix, iy, iz, sx, sy, sz⟩, hn⟩ := hK
    rw [← hn, ← gi_Nc gx]
    exact gi_n24 (rn_I_G ix)
  have cmp : ((Int32.ofNat L) - 4) < nI i ↔ L < i + 4 := by
    have e : (nI L - nI 4).toInt = (L : Int) - 4 := pk_sub_toInt (by omega) (by omega)
    have e2 : (nI i).toInt = (i : Int) := nI_toInt (by omega)
    show (nI L - nI 4) < nI i ↔ _
    rw [nu_lt, e, e2]
    omega
  refine ek_if cmp (fun _ => h1) (fun q => ?_)
  have a1 : nI i + 1 = nI (i + 1) := nI_1 i
  have a2 : nI i + 2 = nI (i + 2) := nI_add i 2
  have a3 : nI i + 3 = nI (i + 3) := nI_add i 3
  have a4 : nI i + 4 = nI (i + 4) := nI_add i 4
  rw [a1, a2, a3, nu_cl (i + 1), nu_cl (i + 2), nu_cl (i + 3), nu_cl i]
  have hi5 : vp_in (nI i) L := nu_in (by omega)
  refine ⟨nu_in (by omega), nm_e ⟨nu_in (by omega), nm_e ⟨nu_in (by omega), nm_e ⟨hi5, ?_⟩⟩⟩⟩
  obtain ⟨op, hop, eop⟩ := pk_andE (xs i >>> ((8 : Int32) &&& 31)) 4 (m := 15) (by decide)
  obtain ⟨o, ho, eo⟩ := pk_andE (xs (i + 1)) 2 (m := 3) (by decide)
  refine nm_r eop (nm_r eo ?_)
  have hJ : ∀ n' x' y' z', la_K x' y' z' n' → wL_law_48 post L xs kc ks fu (nI n') (nI i + 4) (uq_nc x') (uq_fc x') (uq_lv x') (uq_cp x') (uq_nd x') (uq_pn x') (uq_le x') (uq_wc x') (uq_ac x') (uq_dc x') (uq_sc x') (uq_a1 x') (uq_a2 x') (uq_a3 x') (uq_a4 x') (uq_a5 x') (uq_a6 x') (uq_a7 x') (uq_a8 x') (uq_a9 x') (uq_a10 x') (uq_a11 x') (uq_a12 x') (uq_a13 x') (uq_a14 x') (uq_a15 x') (uq_a16 x') (uq_a17 x') (uq_a18 x') (uq_a19 x') (uq_a20 x') (uq_a21 x') (uq_a22 x') (uq_a23 x') (uq_a24 x') (uq_a25 x') (uq_a26 x') (uq_nc y') (uq_fc y') (uq_lv y') (uq_cp y') (uq_nd y') (uq_pn y') (uq_le y') (uq_wc y') (uq_ac y') (uq_dc y') (uq_sc y') (uq_a1 y') (uq_a2 y') (uq_a3 y') (uq_a4 y') (uq_a5 y') (uq_a6 y') (uq_a7 y') (uq_a8 y') (uq_a9 y') (uq_a10 y') (uq_a11 y') (uq_a12 y') (uq_a13 y') (uq_a14 y') (uq_a15 y') (uq_a16 y') (uq_a17 y') (uq_a18 y') (uq_a19 y') (uq_a20 y') (uq_a21 y') (uq_a22 y') (uq_a23 y') (uq_a24 y') (uq_a25 y') (uq_a26 y') (uq_nc z') (uq_fc z') (uq_lv z') (uq_cp z') (uq_nd z') (uq_pn z') (uq_le z') (uq_wc z') (uq_ac z') (uq_dc z') (uq_sc z') (uq_a1 z') (uq_a2 z') (uq_a3 z') (uq_a4 z') (uq_a5 z') (uq_a6 z') (uq_a7 z') (uq_a8 z') (uq_a9 z') (uq_a10 z') (uq_a11 z') (uq_a12 z') (uq_a13 z') (uq_a14 z') (uq_a15 z') (uq_a16 z') (uq_a17 z') (uq_a18 z') (uq_a19 z') (uq_a20 z') (uq_a21 z') (uq_a22 z') (uq_a23 z') (uq_a24 z') (uq_a25 z') (uq_a26 z') := by
    intro n' x' y' z' h
    rw [a4]
    exact ih (n', i + 4, x', y', z') ⟨by dsimp only; omega, h⟩ (by dsimp only; omega)
  have h389 : ∀ n' x' y' z', la_K x' y' z' n' → wL_law_389 post L xs (wL_law_48 post L xs kc ks fu) (nI n') (nI i) (xs (i + 3)) kc ks (uq_nc x') (uq_fc x') (uq_lv x') (uq_cp x') (uq_nd x') (uq_pn x') (uq_le x') (uq_wc x') (uq_ac x') (uq_dc x') (uq_sc x') (uq_a1 x') (uq_a2 x') (uq_a3 x') (uq_a4 x') (uq_a5 x') (uq_a6 x') (uq_a7 x') (uq_a8 x') (uq_a9 x') (uq_a10 x') (uq_a11 x') (uq_a12 x') (uq_a13 x') (uq_a14 x') (uq_a15 x') (uq_a16 x') (uq_a17 x') (uq_a18 x') (uq_a19 x') (uq_a20 x') (uq_a21 x') (uq_a22 x') (uq_a23 x') (uq_a24 x') (uq_a25 x') (uq_a26 x') (uq_nc y') (uq_fc y') (uq_lv y') (uq_cp y') (uq_nd y') (uq_pn y') (uq_le y') (uq_wc y') (uq_ac y') (uq_dc y') (uq_sc y') (uq_a1 y') (uq_a2 y') (uq_a3 y') (uq_a4 y') (uq_a5 y') (uq_a6 y') (uq_a7 y') (uq_a8 y') (uq_a9 y') (uq_a10 y') (uq_a11 y') (uq_a12 y') (uq_a13 y') (uq_a14 y') (uq_a15 y') (uq_a16 y') (uq_a17 y') (uq_a18 y') (uq_a19 y') (uq_a20 y') (uq_a21 y') (uq_a22 y') (uq_a23 y') (uq_a24 y') (uq_a25 y') (uq_a26 y') (uq_nc z') (uq_fc z') (uq_lv z') (uq_cp z') (uq_nd z') (uq_pn z') (uq_le z') (uq_wc z') (uq_ac z') (uq_dc z') (uq_sc z') (uq_a1 z') (uq_a2 z') (uq_a3 z') (uq_a4 z') (uq_a5 z') (uq_a6 z') (uq_a7 z') (uq_a8 z') (uq_a9 z') (uq_a10 z') (uq_a11 z') (uq_a12 z') (uq_a13 z') (uq_a14 z') (uq_a15 z') (uq_a16 z') (uq_a17 z') (uq_a18 z') (uq_a19 z') (uq_a20 z') (uq_a21 z') (uq_a22 z') (uq_a23 z') (uq_a24 z') (uq_a25 z') (uq_a26 z') :=
    fun n' x' y' z' h => la_389 h (fun x'' y'' z'' h' => hJ n' x'' y'' z'' h')
  refine pk_le 3 op (fun q3 => pk_le 5 op (fun q5 => pk_eq op 5 (fun e5 => ?_) (fun e5 => pk_le 8 op (fun q8 => ⟨hi5, ?_⟩) (fun q8 => ?_))) (fun q5 => ⟨by decide, ?_⟩)) (fun q3 => ?_)
  · have T := la_rtr (post := post) (Q := fun w x' y' z' => wL_law_389 post L xs (wL_law_48 post L xs kc ks fu) w (nI i) (xs (i + 3)) kc ks (uq_nc x') (uq_fc x') (uq_lv x') (uq_cp x') (uq_nd x') (uq_pn x') (uq_le x') (uq_wc x') (uq_ac x') (uq_dc x') (uq_sc x') (uq_a1 x') (uq_a2 x') (uq_a3 x') (uq_a4 x') (uq_a5 x') (uq_a6 x') (uq_a7 x') (uq_a8 x') (uq_a9 x') (uq_a10 x') (uq_a11 x') (uq_a12 x') (uq_a13 x') (uq_a14 x') (uq_a15 x') (uq_a16 x') (uq_a17 x') (uq_a18 x') (uq_a19 x') (uq_a20 x') (uq_a21 x') (uq_a22 x') (uq_a23 x') (uq_a24 x') (uq_a25 x') (uq_a26 x') (uq_nc y') (uq_fc y') (uq_lv y') (uq_cp y') (uq_nd y') (uq_pn y') (uq_le y') (uq_wc y') (uq_ac y') (uq_dc y') (uq_sc y') (uq_a1 y') (uq_a2 y') (uq_a3 y') (uq_a4 y') (uq_a5 y') (uq_a6 y') (uq_a7 y') (uq_a8 y') (uq_a9 y') (uq_a10 y') (uq_a11 y') (uq_a12 y') (uq_a13 y') (uq_a14 y') (uq_a15 y') (uq_a16 y') (uq_a17 y') (uq_a18 y') (uq_a19 y') (uq_a20 y') (uq_a21 y') (uq_a22 y') (uq_a23 y') (uq_a24 y') (uq_a25 y') (uq_a26 y') (uq_nc z') (uq_fc z') (uq_lv z') (uq_cp z') (uq_nd z') (uq_pn z') (uq_le z') (uq_wc z') (uq_ac z') (uq_dc z') (uq_sc z') (uq_a1 z') (uq_a2 z') (uq_a3 z') (uq_a4 z') (uq_a5 z') (uq_a6 z') (uq_a7 z') (uq_a8 z') (uq_a9 z') (uq_a10 z') (uq_a11 z') (uq_a12 z') (uq_a13 z') (uq_a14 z') (uq_a15 z') (uq_a16 z') (uq_a17 z') (uq_a18 z') (uq_a19 z') (uq_a20 z') (uq_a21 z') (uq_a22 z') (uq_a23 z') (uq_a24 z') (uq_a25 z') (uq_a26 z')) hK h389
    exact T
  · have T := la_mde (post := post) (L := L) (x5 := nI i) (p1 := xs i) (p2 := xs (i + 1)) (p3 := xs (i + 2)) (Q := fun w x' y' z' => wL_law_389 post L xs (wL_law_48 post L xs kc ks fu) w (nI i) (xs (i + 3)) kc ks (uq_nc x') (uq_fc x') (uq_lv x') (uq_cp x') (uq_nd x') (uq_pn x') (uq_le x') (uq_wc x') (uq_ac x') (uq_dc x') (uq_sc x') (uq_a1 x') (uq_a2 x') (uq_a3 x') (uq_a4 x') (uq_a5 x') (uq_a6 x') (uq_a7 x') (uq_a8 x') (uq_a9 x') (uq_a10 x') (uq_a11 x') (uq_a12 x') (uq_a13 x') (uq_a14 x') (uq_a15 x') (uq_a16 x') (uq_a17 x') (uq_a18 x') (uq_a19 x') (uq_a20 x') (uq_a21 x') (uq_a22 x') (uq_a23 x') (uq_a24 x') (uq_a25 x') (uq_a26 x') (uq_nc y') (uq_fc y') (uq_lv y') (uq_cp y') (uq_nd y') (uq_pn y') (uq_le y') (uq_wc y') (uq_ac y') (uq_dc y') (uq_sc y') (uq_a1 y') (uq_a2 y') (uq_a3 y') (uq_a4 y') (uq_a5 y') (uq_a6 y') (uq_a7 y') (uq_a8 y') (uq_a9 y') (uq_a10 y') (uq_a11 y') (uq_a12 y') (uq_a13 y') (uq_a14 y') (uq_a15 y') (uq_a16 y') (uq_a17 y') (uq_a18 y') (uq_a19 y') (uq_a20 y') (uq_a21 y') (uq_a22 y') (uq_a23 y') (uq_a24 y') (uq_a25 y') (uq_a26 y') (uq_nc z') (uq_fc z') (uq_lv z') (uq_cp z') (uq_nd z') (uq_pn z') (uq_le z') (uq_wc z') (uq_ac z') (uq_dc z') (uq_sc z') (uq_a1 z') (uq_a2 z') (uq_a3 z') (uq_a4 z') (uq_a5 z') (uq_a6 z') (uq_a7 z') (uq_a8 z') (uq_a9 z') (uq_a10 z') (uq_a11 z') (uq_a12 z') (uq_a13 z') (uq_a14 z') (uq_a15 z') (uq_a16 z') (uq_a17 z') (uq_a18 z') (uq_a19 z') (uq_a20 z') (uq_a21 z') (uq_a22 z') (uq_a23 z') (uq_a24 z') (uq_a25 z') (uq_a26 z')) hK hi5 h389
    exact T
  · have go : ∀ v, (v = -1 ∨ ∃ k, v = nI k ∧ k < n) → wL_law_282 post L xs (wL_law_48 post L xs kc ks fu) (nI n) (nI i) (xs (i + 3)) (nI o) v kc ks (uq_nc x) (uq_fc x) (uq_lv x) (uq_cp x) (uq_nd x) (uq_pn x) (uq_le x) (uq_wc x) (uq_ac x) (uq_dc x) (uq_sc x) (uq_a1 x) (uq_a2 x) (uq_a3 x) (uq_a4 x) (uq_a5 x) (uq_a6 x) (uq_a7 x) (uq_a8 x) (uq_a9 x) (uq_a10 x) (uq_a11 x) (uq_a12 x) (uq_a13 x) (uq_a14 x) (uq_a15 x) (uq_a16 x) (uq_a17 x) (uq_a18 x) (uq_a19 x) (uq_a20 x) (uq_a21 x) (uq_a22 x) (uq_a23 x) (uq_a24 x) (uq_a25 x) (uq_a26 x) (uq_nc y) (uq_fc y) (uq_lv y) (uq_cp y) (uq_nd y) (uq_pn y) (uq_le y) (uq_wc y) (uq_ac y) (uq_dc y) (uq_sc y) (uq_a1 y) (uq_a2 y) (uq_a3 y) (uq_a4 y) (uq_a5 y) (uq_a6 y) (uq_a7 y) (uq_a8 y) (uq_a9 y) (uq_a10 y) (uq_a11 y) (uq_a12 y) (uq_a13 y) (uq_a14 y) (uq_a15 y) (uq_a16 y) (uq_a17 y) (uq_a18 y) (uq_a19 y) (uq_a20 y) (uq_a21 y) (uq_a22 y) (uq_a23 y) (uq_a24 y) (uq_a25 y) (uq_a26 y) (uq_nc z) (uq_fc z) (uq_lv z) (uq_cp z) (uq_nd z) (uq_pn z) (uq_le z) (uq_wc z) (uq_ac z) (uq_dc z) (uq_sc z) (uq_a1 z) (uq_a2 z) (uq_a3 z) (uq_a4 z) (uq_a5 z) (uq_a6 z) (uq_a7 z) (uq_a8 z) (uq_a9 z) (uq_a10 z) (uq_a11 z) (uq_a12 z) (uq_a13 z) (uq_a14 z) (uq_a15 z) (uq_a16 z) (uq_a17 z) (uq_a18 z) (uq_a19 z) (uq_a20 z) (uq_a21 z) (uq_a22 z) (uq_a23 z) (uq_a24 z) (uq_a25 z) (uq_a26 z) := by
      intro v hv
      have T := la_otp (post := post) (Q := fun x' y' z' => wL_law_389 post L xs (wL_law_48 post L xs kc ks fu) (nI n) (nI i) (xs (i + 3)) kc ks (uq_nc x') (uq_fc x') (uq_lv x') (uq_cp x') (uq_nd x') (uq_pn x') (uq_le x') (uq_wc x') (uq_ac x') (uq_dc x') (uq_sc x') (uq_a1 x') (uq_a2 x') (uq_a3 x') (uq_a4 x') (uq_a5 x') (uq_a6 x') (uq_a7 x') (uq_a8 x') (uq_a9 x') (uq_a10 x') (uq_a11 x') (uq_a12 x') (uq_a13 x') (uq_a14 x') (uq_a15 x') (uq_a16 x') (uq_a17 x') (uq_a18 x') (uq_a19 x') (uq_a20 x') (uq_a21 x') (uq_a22 x') (uq_a23 x') (uq_a24 x') (uq_a25 x') (uq_a26 x') (uq_nc y') (uq_fc y') (uq_lv y') (uq_cp y') (uq_nd y') (uq_pn y') (uq_le y') (uq_wc y') (uq_ac y') (uq_dc y') (uq_sc y') (uq_a1 y') (uq_a2 y') (uq_a3 y') (uq_a4 y') (uq_a5 y') (uq_a6 y') (uq_a7 y') (uq_a8 y') (uq_a9 y') (uq_a10 y') (uq_a11 y') (uq_a12 y') (uq_a13 y') (uq_a14 y') (uq_a15 y') (uq_a16 y') (uq_a17 y') (uq_a18 y') (uq_a19 y') (uq_a20 y') (uq_a21 y') (uq_a22 y') (uq_a23 y') (uq_a24 y') (uq_a25 y') (uq_a26 y') (uq_nc z') (uq_fc z') (uq_lv z') (uq_cp z') (uq_nd z') (uq_pn z') (uq_le z') (uq_wc z') (uq_ac z') (uq_dc z') (uq_sc z') (uq_a1 z') (uq_a2 z') (uq_a3 z') (uq_a4 z') (uq_a5 z') (uq_a6 z') (uq_a7 z') (uq_a8 z') (uq_a9 z') (uq_a10 z') (uq_a11 z') (uq_a12 z') (uq_a13 z') (uq_a14 z') (uq_a15 z') (uq_a16 z') (uq_a17 z') (uq_a18 z') (uq_a19 z') (uq_a20 z') (uq_a21 z') (uq_a22 z') (uq_a23 z') (uq_a24 z') (uq_a25 z') (uq_a26 z')) hK (by omega : o < 4) rfl hv (h389 n)
      exact T
    refine pk_eq n 0 (fun _ => go (-1) (Or.inl rfl)) (fun n0 => ⟨nI_ne0 (by omega) (by omega), ?_⟩)
    obtain ⟨w, hw, ew⟩ := pk_andE (xs (i + 2)) 8 (m := 255) (by decide)
    have er : (xs (i + 2) &&& 255) - (xs (i + 2) &&& 255) / nI n * nI n = nI (w % n) := by
      rw [ew]
      exact pk_rem (by omega) (by omega) (by omega)
    rw [er]
    exact go _ (Or.inr ⟨w % n, rfl, Nat.mod_lt _ (by omega)⟩)
  · obtain ⟨w, hw, ew⟩ := pk_andE (xs (i + 2)) 8 (m := 255) (by decide)
    have er : (xs (i + 2) &&& 255) - (xs (i + 2) &&& 255) / 6 * 6 = nI (w % 6) := by
      rw [ew]
      exact pk_rem (d := 6) (by omega) (by omega) (by omega)
    refine nm_r er ?_
    have T := la_cof (post := post) (v := (xs (i + 3)).toInt16.toInt32) (Q := fun x' y' z' => wL_law_389 post L xs (wL_law_48 post L xs kc ks fu) (nI n) (nI i) (xs (i + 3)) kc ks (uq_nc x') (uq_fc x') (uq_lv x') (uq_cp x') (uq_nd x') (uq_pn x') (uq_le x') (uq_wc x') (uq_ac x') (uq_dc x') (uq_sc x') (uq_a1 x') (uq_a2 x') (uq_a3 x') (uq_a4 x') (uq_a5 x') (uq_a6 x') (uq_a7 x') (uq_a8 x') (uq_a9 x') (uq_a10 x') (uq_a11 x') (uq_a12 x') (uq_a13 x') (uq_a14 x') (uq_a15 x') (uq_a16 x') (uq_a17 x') (uq_a18 x') (uq_a19 x') (uq_a20 x') (uq_a21 x') (uq_a22 x') (uq_a23 x') (uq_a24 x') (uq_a25 x') (uq_a26 x') (uq_nc y') (uq_fc y') (uq_lv y') (uq_cp y') (uq_nd y') (uq_pn y') (uq_le y') (uq_wc y') (uq_ac y') (uq_dc y') (uq_sc y') (uq_a1 y') (uq_a2 y') (uq_a3 y') (uq_a4 y') (uq_a5 y') (uq_a6 y') (uq_a7 y') (uq_a8 y') (uq_a9 y') (uq_a10 y') (uq_a11 y') (uq_a12 y') (uq_a13 y') (uq_a14 y') (uq_a15 y') (uq_a16 y') (uq_a17 y') (uq_a18 y') (uq_a19 y') (uq_a20 y') (uq_a21 y') (uq_a22 y') (uq_a23 y') (uq_a24 y') (uq_a25 y') (uq_a26 y') (uq_nc z') (uq_fc z') (uq_lv z') (uq_cp z') (uq_nd z') (uq_pn z') (uq_le z') (uq_wc z') (uq_ac z') (uq_dc z') (uq_sc z') (uq_a1 z') (uq_a2 z') (uq_a3 z') (uq_a4 z') (uq_a5 z') (uq_a6 z') (uq_a7 z') (uq_a8 z') (uq_a9 z') (uq_a10 z') (uq_a11 z') (uq_a12 z') (uq_a13 z') (uq_a14 z') (uq_a15 z') (uq_a16 z') (uq_a17 z') (uq_a18 z') (uq_a19 z') (uq_a20 z') (uq_a21 z') (uq_a22 z') (uq_a23 z') (uq_a24 z') (uq_a25 z') (uq_a26 z')) hK (by omega : o < 4) (Nat.mod_lt w (by omega) : w % 6 < 6) rfl rfl (la_short _) (h389 n)
    exact T
  · have hp : ∃ j, j < 2 ∧ nI op &&& 1 = nI j := pk_andE (nI op) 1 (m := 1) (by decide)
    obtain ⟨j, hj, ej⟩ := hp
    have T := la_inp (post := post) (p := nI op &&& 1) (v := (xs (i + 2)).toInt16.toInt32) (Q := fun x' y' z' => wL_law_389 post L xs (wL_law_48 post L xs kc ks fu) (nI n) (nI i) (xs (i + 3)) kc ks (uq_nc x') (uq_fc x') (uq_lv x') (uq_cp x') (uq_nd x') (uq_pn x') (uq_le x') (uq_wc x') (uq_ac x') (uq_dc x') (uq_sc x') (uq_a1 x') (uq_a2 x') (uq_a3 x') (uq_a4 x') (uq_a5 x') (uq_a6 x') (uq_a7 x') (uq_a8 x') (uq_a9 x') (uq_a10 x') (uq_a11 x') (uq_a12 x') (uq_a13 x') (uq_a14 x') (uq_a15 x') (uq_a16 x') (uq_a17 x') (uq_a18 x') (uq_a19 x') (uq_a20 x') (uq_a21 x') (uq_a22 x') (uq_a23 x') (uq_a24 x') (uq_a25 x') (uq_a26 x') (uq_nc y') (uq_fc y') (uq_lv y') (uq_cp y') (uq_nd y') (uq_pn y') (uq_le y') (uq_wc y') (uq_ac y') (uq_dc y') (uq_sc y') (uq_a1 y') (uq_a2 y') (uq_a3 y') (uq_a4 y') (uq_a5 y') (uq_a6 y') (uq_a7 y') (uq_a8 y') (uq_a9 y') (uq_a10 y') (uq_a11 y') (uq_a12 y') (uq_a13 y') (uq_a14 y') (uq_a15 y') (uq_a16 y') (uq_a17 y') (uq_a18 y') (uq_a19 y') (uq_a20 y') (uq_a21 y') (uq_a22 y') (uq_a23 y') (uq_a24 y') (uq_a25 y') (uq_a26 y') (uq_nc z') (uq_fc z') (uq_lv z') (uq_cp z') (uq_nd z') (uq_pn z') (uq_le z') (uq_wc z') (uq_ac z') (uq_dc z') (uq_sc z') (uq_a1 z') (uq_a2 z') (uq_a3 z') (uq_a4 z') (uq_a5 z') (uq_a6 z') (uq_a7 z') (uq_a8 z') (uq_a9 z') (uq_a10 z') (uq_a11 z') (uq_a12 z') (uq_a13 z') (uq_a14 z') (uq_a15 z') (uq_a16 z') (uq_a17 z') (uq_a18 z') (uq_a19 z') (uq_a20 z') (uq_a21 z') (uq_a22 z') (uq_a23 z') (uq_a24 z') (uq_a25 z') (uq_a26 z')) hK hj ej (la_short _) (h389 n)
    exact T
end
section
/-! what was owed -/
theorem i_vc (xs : Nat → Int32) (L : Nat) (hL : L ≤ 260) : wpL_law (fun r => r = 1) L xs := by
  unfold wpL_law
  refine ⟨26, 3378, by omega, by omega, ?_⟩
  refine la_init ⟨by omega, by omega, 26, 3378, by omega, by omega, ?_⟩
  refine la_init ⟨by omega, by omega, 26, 3378, by omega, by omega, ?_⟩
  refine la_init ?_
  refine la_level (u := la_u0) (k := 0) la_u0_F (by omega) rfl (fun y a1 a2 a3 => br_f (by decide) ?_)
  refine la_level (u := la_u0) (k := 1) la_u0_F (by omega) rfl (fun z b1 b2 b3 => br_f (by decide) ?_)
  have I0 : rn_I la_u0 (fun _ => 0) (fun _ => 0) := ⟨⟨2, rfl, by omega⟩, Or.inr la_u0_F⟩
  have T := la_48 (post := fun r => r = 1) (L := L) (xs := xs) (kc := 1 + 26 + 1 + 26 + 1 + 26) (ks := 37 + 3378 + 37 + 3378 + 37 + 3378) (x := la_u0) (y := y) (z := z) hL rfl ⟨rn_g la_u0, _, _, 0, ⟨rfl, a1, b1, la_u0_g, fun a _ => la_smp0, I0, a3, b3, rfl, a2, b2⟩, rfl⟩
  exact T
end
