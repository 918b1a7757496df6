section
/-! ===== PURE: the state, the register of sixteen by bytes and by bits, the operations ===== -/
theorem mb_xor (a b : Nat) : nI a ^^^ nI b = nI (a ^^^ b) := by
  apply Int32.toBitVec_inj.1
  show BitVec.ofNat 32 a ^^^ BitVec.ofNat 32 b = BitVec.ofNat 32 (a ^^^ b)
  apply BitVec.eq_of_getLsbD_eq
  intro i hi
  simp [hi]
theorem mb_and (a b : Nat) : nI a &&& nI b = nI (a &&& b) := by
  apply Int32.toBitVec_inj.1
  show BitVec.ofNat 32 a &&& BitVec.ofNat 32 b = BitVec.ofNat 32 (a &&& b)
  apply BitVec.eq_of_getLsbD_eq
  intro i hi
  simp [hi]
/-- one turn of the table's maker; k turns; the table -/
def mb_ts (c : Nat) : Nat := if c &&& 32768 = 0 then c * 2 else (c * 2) ^^^ 4129
def mb_ti : Nat → Nat → Nat
  | 0, c => c
  | k + 1, c => mb_ts (mb_ti k c)
def mb_tab (b : Nat) : Nat := mb_ti 8 (b * 256) % 65536
/-- a cell of a byte array as a number below 256 -/
def mb_by (x : Int32) : Nat := x.toBitVec.toNat % 256
def mb_step (c b : Nat) : Nat := (c * 256 % 65536) ^^^ mb_tab ((c / 256) ^^^ b)
/-- the check of k bytes from i on, by the table -/
def mb_crc (f : Nat → Int32) (i : Nat) : Nat → Nat
  | 0 => 65535
  | k + 1 => mb_step (mb_crc f i k) (mb_by (f (i + k)))
def mb_bit (c b : Nat) : Nat := if (c / 32768) ^^^ b = 1 then (c * 2 % 65536) ^^^ 4129 else c * 2 % 65536
/-- .. and of k bits -/
def mb_bits (f : Nat → Int32) (i : Nat) : Nat → Nat
  | 0 => 65535
  | k + 1 => mb_bit (mb_bits f i k) (mb_by (f (i + k / 8)) / 2 ^ (7 - k % 8) % 2)
theorem mb_by_lt (x : Int32) : mb_by x < 256 := Nat.mod_lt _ (by decide)
theorem mb_ts_lt {c k : Nat} (h : c < 2 ^ k) (hk : 12 ≤ k) : mb_ts c < 2 ^ (k + 1) := by
  have h1 : c * 2 < 2 ^ (k + 1) := by rw [Nat.pow_succ]; omega
  unfold mb_ts
  split
  · exact h1
  · refine Nat.xor_lt_two_pow h1 ?_
    have h2 : 2 ^ 13 ≤ 2 ^ (k + 1) := Nat.pow_le_pow_right (by decide) (by omega)
    exact Nat.lt_of_lt_of_le (by decide) h2
theorem mb_ti_lt {b : Nat} (hb : b < 256) : ∀ k, mb_ti k (b * 256) < 2 ^ (16 + k)
  | 0 => by show b * 256 < 2 ^ 16; omega
  | k + 1 => mb_ts_lt (k := 16 + k) (mb_ti_lt hb k) (by omega)
theorem mb_ti_lt8 {b : Nat} (hb : b < 256) {k : Nat} (hk : k ≤ 8) : mb_ti k (b * 256) < 2 ^ 24 :=
  Nat.lt_of_lt_of_le (mb_ti_lt hb k) (Nat.pow_le_pow_right (by decide) (by omega))
theorem mb_tab_lt (b : Nat) : mb_tab b < 65536 := Nat.mod_lt _ (by decide)
theorem mb_step_lt (c b : Nat) : mb_step c b < 65536 := Nat.xor_lt_two_pow (n := 16) (Nat.mod_lt _ (by decide)) (mb_tab_lt _)
theorem mb_crc_lt (f : Nat → Int32) (i : Nat) : ∀ k, mb_crc f i k < 65536
  | 0 => by show 65535 < 65536; decide
  | k + 1 => mb_step_lt _ _
theorem mb_bit_lt (c b : Nat) : mb_bit c b < 65536 := by
  unfold mb_bit
  split
  · exact Nat.xor_lt_two_pow (n := 16) (Nat.mod_lt _ (by decide)) (by decide)
  · exact Nat.mod_lt _ (by decide)
theorem mb_bits_lt (f : Nat → Int32) (i : Nat) : ∀ k, mb_bits f i k < 65536
  | 0 => by show 65535 < 65536; decide
  | k + 1 => mb_bit_lt _ _
theorem mb_bit_eq (c b : Nat) : mb_bit c b = (c * 2 % 65536) ^^^ (if (c / 32768) ^^^ b = 1 then 4129 else 0) := by
  unfold mb_bit
  split
  · rfl
  · rw [Nat.xor_zero]
theorem mb_bit_key {p q x y : Nat} (hp : p < 2) (hq : q < 2) (hx : x < 2) (hy : y < 2) : (if (p ^^^ q) ^^^ (x ^^^ y) = 1 then 4129 else 0) = (if p ^^^ x = 1 then 4129 else 0) ^^^ (if q ^^^ y = 1 then 4129 else 0) := by
  rcases (show p = 0 ∨ p = 1 by omega) with rfl | rfl <;> rcases (show q = 0 ∨ q = 1 by omega) with rfl | rfl <;> rcases (show x = 0 ∨ x = 1 by omega) with rfl | rfl <;> rcases (show y = 0 ∨ y = 1 by omega) with rfl | rfl <;> decide
theorem mb_x4 (a b c d : Nat) : (a ^^^ b) ^^^ (c ^^^ d) = (a ^^^ c) ^^^ (b ^^^ d) := by
  rw [Nat.xor_assoc, Nat.xor_assoc, ← Nat.xor_assoc b c d, Nat.xor_comm b c, Nat.xor_assoc c b d]
theorem mb_bit_x {a b x y : Nat} (ha : a < 65536) (hb : b < 65536) (hx : x < 2) (hy : y < 2) : mb_bit (a ^^^ b) (x ^^^ y) = mb_bit a x ^^^ mb_bit b y := by
  have h0 : (a ^^^ b) * 2 = (a * 2) ^^^ (b * 2) := by
    have h := Nat.shiftLeft_xor_distrib (a := a) (b := b) (i := 1)
    rw [Nat.shiftLeft_eq, Nat.shiftLeft_eq, Nat.shiftLeft_eq] at h
    exact h
  have h1 : (a ^^^ b) * 2 % 65536 = (a * 2 % 65536) ^^^ (b * 2 % 65536) := by
    rw [h0]
    exact Nat.xor_mod_two_pow (n := 16)
  have h2 : (a ^^^ b) / 32768 = (a / 32768) ^^^ (b / 32768) := Nat.xor_div_two_pow (n := 15)
  rw [mb_bit_eq, mb_bit_eq, mb_bit_eq, h1, h2, mb_bit_key (by omega) (by omega) hx hy, mb_x4]
/-- eight bits of a byte, the upper first -/
def mb_b8 (c b : Nat) : Nat := mb_bit (mb_bit (mb_bit (mb_bit (mb_bit (mb_bit (mb_bit (mb_bit c (b / 2 ^ 7 % 2)) (b / 2 ^ 6 % 2)) (b / 2 ^ 5 % 2)) (b / 2 ^ 4 % 2)) (b / 2 ^ 3 % 2)) (b / 2 ^ 2 % 2)) (b / 2 ^ 1 % 2)) (b / 2 ^ 0 % 2)
theorem mb_b8_x {a b x y : Nat} (ha : a < 65536) (hb : b < 65536) : mb_b8 (a ^^^ b) (x ^^^ y) = mb_b8 a x ^^^ mb_b8 b y := by
  have hd : ∀ n, (x ^^^ y) / 2 ^ n % 2 = (x / 2 ^ n % 2) ^^^ (y / 2 ^ n % 2) := fun n => by
    rw [Nat.xor_div_two_pow]
    exact Nat.xor_mod_two_pow (n := 1)
  have l : ∀ z, z % 2 < 2 := fun z => Nat.mod_lt z (by decide)
  unfold mb_b8
  rw [hd 7, hd 6, hd 5, hd 4, hd 3, hd 2, hd 1, hd 0]
  rw [mb_bit_x ha hb (l _) (l _)]
  rw [mb_bit_x (mb_bit_lt _ _) (mb_bit_lt _ _) (l _) (l _)]
  rw [mb_bit_x (mb_bit_lt _ _) (mb_bit_lt _ _) (l _) (l _)]
  rw [mb_bit_x (mb_bit_lt _ _) (mb_bit_lt _ _) (l _) (l _)]
  rw [mb_bit_x (mb_bit_lt _ _) (mb_bit_lt _ _) (l _) (l _)]
  rw [mb_bit_x (mb_bit_lt _ _) (mb_bit_lt _ _) (l _) (l _)]
  rw [mb_bit_x (mb_bit_lt _ _) (mb_bit_lt _ _) (l _) (l _)]
  rw [mb_bit_x (mb_bit_lt _ _) (mb_bit_lt _ _) (l _) (l _)]
theorem mb_b8_lo : ∀ k, k < 256 → mb_b8 k 0 = k * 256 := by decide +kernel
theorem mb_b8_hi : ∀ k, k < 256 → mb_b8 (k * 256) 0 = mb_tab k := by decide +kernel
theorem mb_b8_z : ∀ k, k < 256 → mb_b8 (k * 256) k = 0 := by decide +kernel
theorem mb_x256 (c : Nat) : (c / 256 * 256) ^^^ (c % 256) = c := by
  have h1 := Nat.xor_div_two_pow (a := c / 256 * 256) (b := c % 256) (n := 8)
  have h2 := Nat.xor_mod_two_pow (a := c / 256 * 256) (b := c % 256) (n := 8)
  rw [show c / 256 * 256 / 2 ^ 8 = c / 256 by omega, show c % 256 / 2 ^ 8 = 0 by omega, Nat.xor_zero] at h1
  rw [show c / 256 * 256 % 2 ^ 8 = 0 by omega, show c % 256 % 2 ^ 8 = c % 256 by omega, Nat.zero_xor] at h2
  omega
theorem mb_m256 (a b : Nat) : (a ^^^ b) * 256 = (a * 256) ^^^ (b * 256) := by
  have h := Nat.shiftLeft_xor_distrib (a := a) (b := b) (i := 8)
  rw [Nat.shiftLeft_eq, Nat.shiftLeft_eq, Nat.shiftLeft_eq] at h
  exact h
theorem mb_b8_step {c b : Nat} (hc : c < 65536) (hb : b < 256) : mb_b8 c b = mb_step c b := by
  have hh : c / 256 < 256 := by omega
  have hl : c % 256 < 256 := by omega
  have hx : (c / 256) ^^^ b < 256 := Nat.xor_lt_two_pow (n := 8) hh hb
  have e1 : mb_b8 c b = mb_b8 (c / 256 * 256) b ^^^ mb_b8 (c % 256) 0 := by
    rw [← mb_b8_x (by omega) (by omega), mb_x256, Nat.xor_zero]
  have e2 : mb_b8 (c / 256 * 256) b = mb_b8 (((c / 256) ^^^ b) * 256) 0 ^^^ mb_b8 (b * 256) b := by
    rw [← mb_b8_x (by omega) (by omega), ← mb_m256, Nat.xor_assoc, Nat.xor_self, Nat.xor_zero, Nat.zero_xor]
  rw [e1, e2, mb_b8_hi _ hx, mb_b8_z _ hb, mb_b8_lo _ hl, Nat.xor_zero, Nat.xor_comm]
  unfold mb_step
  rw [show c * 256 % 65536 = c % 256 * 256 by omega]
/-- the check bit by bit is the check by the table -/
theorem mb_same (f : Nat → Int32) (i : Nat) : ∀ n, mb_bits f i (8 * n) = mb_crc f i n
  | 0 => rfl
  | n + 1 => by
    have s : ∀ j, j < 8 → mb_bits f i (8 * n + j + 1) = mb_bit (mb_bits f i (8 * n + j)) (mb_by (f (i + n)) / 2 ^ (7 - j) % 2) := fun j hj => by
      show mb_bit (mb_bits f i (8 * n + j)) (mb_by (f (i + (8 * n + j) / 8)) / 2 ^ (7 - (8 * n + j) % 8) % 2) = _
      rw [show (8 * n + j) / 8 = n by omega, show (8 * n + j) % 8 = j by omega]
    have s7 : mb_bits f i (8 * n + 8) = mb_bit (mb_bits f i (8 * n + 7)) (mb_by (f (i + n)) / 2 ^ 0 % 2) := s 7 (by omega)
    have s6 : mb_bits f i (8 * n + 7) = mb_bit (mb_bits f i (8 * n + 6)) (mb_by (f (i + n)) / 2 ^ 1 % 2) := s 6 (by omega)
    have s5 : mb_bits f i (8 * n + 6) = mb_bit (mb_bits f i (8 * n + 5)) (mb_by (f (i + n)) / 2 ^ 2 % 2) := s 5 (by omega)
    have s4 : mb_bits f i (8 * n + 5) = mb_bit (mb_bits f i (8 * n + 4)) (mb_by (f (i + n)) / 2 ^ 3 % 2) := s 4 (by omega)
    have s3 : mb_bits f i (8 * n + 4) = mb_bit (mb_bits f i (8 * n + 3)) (mb_by (f (i + n)) / 2 ^ 4 % 2) := s 3 (by omega)
    have s2 : mb_bits f i (8 * n + 3) = mb_bit (mb_bits f i (8 * n + 2)) (mb_by (f (i + n)) / 2 ^ 5 % 2) := s 2 (by omega)
    have s1 : mb_bits f i (8 * n + 2) = mb_bit (mb_bits f i (8 * n + 1)) (mb_by (f (i + n)) / 2 ^ 6 % 2) := s 1 (by omega)
    have s0 : mb_bits f i (8 * n + 1) = mb_bit (mb_bits f i (8 * n)) (mb_by (f (i + n)) / 2 ^ 7 % 2) := s 0 (by omega)
    rw [show 8 * (n + 1) = 8 * n + 8 by omega, s7, s6, s5, s4, s3, s2, s1, s0, mb_same f i n]
    exact mb_b8_step (mb_crc_lt f i n) (mb_by_lt _)
/-! what the instructions compute, in numbers -/
theorem mb_255 (x : Int32) : x &&& nI 255 = nI (mb_by x) := pk_and x 8 (by decide)
theorem mb_shl8 {c : Nat} (h : c < 65536) : nI c <<< (nI 8 &&& 31) = nI (c * 256) := pk_shlN (nI 8 &&& 31) 8 (by decide +kernel) (by omega)
theorem mb_shl1 {c : Nat} (h : c < 2 ^ 24) : nI c <<< (nI 1 &&& 31) = nI (c * 2) := pk_shlN (nI 1 &&& 31) 1 (by decide +kernel) (by omega)
theorem mb_shr8 {c : Nat} (h : c < 65536) : nI c >>> (nI 8 &&& 31) = nI (c / 256) := pk_shrN (by omega) (nI 8 &&& 31) 8 (by decide +kernel)
theorem mb_shr15 {c : Nat} (h : c < 65536) : nI c >>> (nI 15 &&& 31) = nI (c / 32768) := pk_shrN (by omega) (nI 15 &&& 31) 15 (by decide +kernel)
theorem mb_m16 {c : Nat} (h : c < 2 ^ 32) : nI c &&& nI 65535 = nI (c % 65536) := pk_andN h 16 (by decide)
theorem mb_sm : ∀ s, s < 8 → ((nI s &&& 31).toBitVec.smod 32).toNat = s := by decide +kernel
/-- one bit of a byte out of the int that it is read as -/
theorem mb_bit_i (x : Int32) {s : Nat} (hs : s < 8) : (x >>> (nI s &&& 31)) &&& nI 1 = nI (mb_by x / 2 ^ s % 2) := by
  have h := pk_shr x (nI s &&& 31) s (mb_sm s hs)
  rw [pk_and (x >>> (nI s &&& 31)) (m := nI 1) 1 (by decide)]
  refine congrArg nI ?_
  have hy : (x >>> (nI s &&& 31)).toInt = if 2 * (x >>> (nI s &&& 31)).toBitVec.toNat < 2 ^ 32 then ((x >>> (nI s &&& 31)).toBitVec.toNat : Int) else ((x >>> (nI s &&& 31)).toBitVec.toNat : Int) - (2 ^ 32 : Nat) := BitVec.toInt_eq_toNat_cond _
  have hx : x.toInt = if 2 * x.toBitVec.toNat < 2 ^ 32 then (x.toBitVec.toNat : Int) else (x.toBitVec.toNat : Int) - (2 ^ 32 : Nat) := BitVec.toInt_eq_toNat_cond _
  have lx : x.toBitVec.toNat < 2 ^ 32 := x.toBitVec.isLt
  have ly : (x >>> (nI s &&& 31)).toBitVec.toNat < 2 ^ 32 := (x >>> (nI s &&& 31)).toBitVec.isLt
  unfold mb_by
  rw [h, Int.shiftRight_eq_div_pow] at hy
  generalize (x >>> (nI s &&& 31)).toBitVec.toNat = Y at *
  generalize x.toBitVec.toNat = X at *
  generalize x.toInt = Z at *
  rcases (show s = 0 ∨ s = 1 ∨ s = 2 ∨ s = 3 ∨ s = 4 ∨ s = 5 ∨ s = 6 ∨ s = 7 by omega) with rfl | rfl | rfl | rfl | rfl | rfl | rfl | rfl <;> (split at hy <;> split at hx <;> omega)
/-! ===== the state and the operations ===== -/
abbrev mb_S : Type := (Nat → Int32) × (Nat → Int32) × Nat
def mb_ok (u : mb_S) : Prop := sb_Fit u.1 ∧ sb_Fit u.2.1 ∧ u.2.2 ≤ 512
/-- what a table of checks holds -/
def mb_okT (tab : Nat → Int32) : Prop := ∀ j, j < 256 → tab j = nI (mb_tab j)
abbrev mb_in (i n : Int32) (a : Nat) : Prop := ¬ i < 0 ∧ ¬ n < 0 ∧ i.toNatClampNeg + n.toNatClampNeg ≤ a
def mb_put (b : Int32) (u : mb_S) : Int32 × mb_S := if u.2.2 = 512 then (-1, u) else (nI (u.2.2 + 1), (u.1, upd u.2.1 u.2.2 b.toInt8.toInt32, u.2.2 + 1))
def mb_cut (k : Int32) (u : mb_S) : Int32 × mb_S := if ¬ k < 0 ∧ k.toNatClampNeg ≤ u.2.2 then (1, (u.1, u.2.1, k.toNatClampNeg)) else (0, u)
def mb_rowAt (k : Int32) (u : mb_S) : Int32 := if ¬ k < 0 ∧ k.toNatClampNeg < u.2.2 then nI (mb_by (u.2.1 k.toNatClampNeg)) else -1
def mb_at (k : Int32) (u : mb_S) : Int32 := if ¬ k < 0 ∧ k.toNatClampNeg < 4096 then nI (mb_by (u.1 k.toNatClampNeg)) else -1
def mb_load (k n q : Int32) (u : mb_S) : Int32 × mb_S := if ¬ n < 1 ∧ mb_in k n u.2.2 ∧ mb_in q n 4096 then (1, (va_cpy u.2.1 u.1 k.toNatClampNeg q.toNatClampNeg n.toNatClampNeg, u.2.1, u.2.2)) else (0, u)
def mb_dump (q n : Int32) (u : mb_S) : Int32 × mb_S := if ¬ n < 1 ∧ mb_in q n 4096 ∧ u.2.2 + n.toNatClampNeg ≤ 512 then (1, (u.1, va_cpy u.1 u.2.1 q.toNatClampNeg u.2.2 n.toNatClampNeg, u.2.2 + n.toNatClampNeg)) else (0, u)
def mb_check (q n : Int32) (u : mb_S) : Int32 := if mb_in q n 4096 then nI (mb_crc u.1 q.toNatClampNeg n.toNatClampNeg) else -1
def mb_rowCheck (n : Int32) (u : mb_S) : Int32 := if ¬ n < 0 ∧ n.toNatClampNeg ≤ u.2.2 then nI (mb_crc u.2.1 0 n.toNatClampNeg) else -1
def mb_seal (u : mb_S) : Int32 × mb_S := if 510 < u.2.2 then (0, u) else (1, (u.1, upd (upd u.2.1 u.2.2 (nI (mb_crc u.2.1 0 u.2.2 / 256)).toInt8.toInt32) (u.2.2 + 1) (nI (mb_crc u.2.1 0 u.2.2)).toInt8.toInt32, u.2.2 + 2))
theorem mb_ok_put {u : mb_S} (h : mb_ok u) (b : Int32) : mb_ok (mb_put b u).2 := by
  obtain ⟨h1, h2, h3⟩ := h
  unfold mb_put
  split
  · exact ⟨h1, h2, h3⟩
  · exact ⟨h1, sb_fitU h2 (pk_fb _), by show u.2.2 + 1 ≤ 512; omega⟩
theorem mb_ok_cut {u : mb_S} (h : mb_ok u) (k : Int32) : mb_ok (mb_cut k u).2 := by
  obtain ⟨h1, h2, h3⟩ := h
  unfold mb_cut
  split
  · rename_i h4
    exact ⟨h1, h2, Nat.le_trans h4.2 h3⟩
  · exact ⟨h1, h2, h3⟩
theorem mb_ok_load {u : mb_S} (h : mb_ok u) (k n q : Int32) : mb_ok (mb_load k n q u).2 := by
  obtain ⟨h1, h2, h3⟩ := h
  unfold mb_load
  split
  · exact ⟨sb_fitC h2 h1, h2, h3⟩
  · exact ⟨h1, h2, h3⟩
theorem mb_ok_dump {u : mb_S} (h : mb_ok u) (q n : Int32) : mb_ok (mb_dump q n u).2 := by
  obtain ⟨h1, h2, h3⟩ := h
  unfold mb_dump
  split
  · rename_i h4
    exact ⟨h1, sb_fitC h1 h2, h4.2.2⟩
  · exact ⟨h1, h2, h3⟩
theorem mb_ok_seal {u : mb_S} (h : mb_ok u) : mb_ok (mb_seal u).2 := by
  obtain ⟨h1, h2, h3⟩ := h
  unfold mb_seal
  split
  · exact ⟨h1, h2, h3⟩
  · exact ⟨h1, sb_fitU (sb_fitU h2 (pk_fb _)) (pk_fb _), by show u.2.2 + 2 ≤ 512; omega⟩
theorem mb_ok_0 : mb_ok (fun _ => 0, fun _ => 0, 0) := ⟨sb_fit0, sb_fit0, Nat.zero_le _⟩
/-- a byte that is kept stays what it is -/
theorem mb_vb {x : Int32} (h : fits .byte (.int x) = true) : vp_nar .byte x = x := by
  have h2 : (-128 : Int32) ≤ x ∧ x ≤ 127 := by simpa [fits] using h
  have e1 : (-128 : Int32).toInt = -128 := by decide
  have e2 : (127 : Int32).toInt = 127 := by decide
  rw [Int32.le_iff_toInt_le, Int32.le_iff_toInt_le, e1, e2] at h2
  rw [vp_nar_byte]
  exact lg_i2b_small h2.1 (by omega)
/-- copying one cell more -/
theorem mb_cpy_s (f g : Nat → Int32) (sp dp n : Nat) : upd (va_cpy f g sp dp n) (dp + n) (f (sp + n)) = va_cpy f g sp dp (n + 1) := by
  funext j
  by_cases h : j = dp + n
  · subst h
    rw [pk_us, pk_cpy_in (by omega) (by omega)]
    exact congrArg f (by omega)
  · rw [pk_un h]
    by_cases h2 : dp ≤ j ∧ j < dp + n
    · rw [pk_cpy_in h2.1 h2.2, pk_cpy_in h2.1 (by omega)]
    · rw [pk_cpy_out (by omega), pk_cpy_out (by omega)]
theorem mb_cpy_0 (f g : Nat → Int32) (sp dp : Nat) : va_cpy f g sp dp 0 = g := by
  funext j
  rw [pk_cpy_out (by omega)]
end
section
-- ===== PART A: goes FIRST, ahead of the names: the tables' words, and 'selects' of the private methods out of them =====
/-- a private method of a class that the tables say can be made, by its rows of tables_1 -/
def lw_okq (q : MethodName × Nat) : Prop := (q.1.cls ≠ "java/lang/invoke/MethodHandle" ∧ q.1.cls ≠ "java/lang/invoke/VarHandle") ∧ Cond.instantiable q.1.cls q.2 ∈ tables_1 ∧ Cond.privateMethod q.1 ∈ tables_1 ∧ Cond.instanceMethod q.1 ∈ tables_1
def lw_privs : List (MethodName × Nat) := []
def lw_tbl : List Cond := k2_sels lw_privs ++ tables_1
theorem lw_privs_ok : ∀ q ∈ lw_privs, lw_okq q := fun _ h => absurd h List.not_mem_nil
-- ===== names: classes, their fields in the order of the slots, methods, words =====
def R_law : String := "MemoryBankLaw"
def R_Sums : String := "MemoryBank$Sums"
def F_Sums : u_T := fun k => match k with
  | _ => ("MemoryBank$Sums", "table", "[C", true)
def t_Sums : Nat → FieldType := fun k => match k with
  | _ => .array .char
abbrev w_Sums : List Cond := u_ws R_Sums F_Sums 1
theorem n_Sums : ∀ a, a < 1 → ∀ b, b < 1 → a ≠ b → (F_Sums a).2.1 ≠ (F_Sums b).2.1 := by decide +kernel
theorem t_Sums_ok : ∀ k, k < 1 → parseFieldDescriptor (F_Sums k).2.2.1 = some (t_Sums k) := by decide +kernel
theorem i_Sums : ∀ w ∈ w_Sums, w ∈ lw_tbl := by decide +kernel
def R_Bank : String := "MemoryBank"
def F_Bank : u_T := fun k => match k with
  | 0 => ("MemoryBank", "sums", "LMemoryBank$Sums;", true)
  | 1 => ("MemoryBank", "memory", "[B", true)
  | 2 => ("MemoryBank", "row", "[B", true)
  | _ => ("MemoryBank", "size", "I", false)
def t_Bank : Nat → FieldType := fun k => match k with
  | 0 => .object "MemoryBank$Sums"
  | 1 => .array .byte
  | 2 => .array .byte
  | _ => .int
abbrev w_Bank : List Cond := u_ws R_Bank F_Bank 4
theorem n_Bank : ∀ a, a < 4 → ∀ b, b < 4 → a ≠ b → (F_Bank a).2.1 ≠ (F_Bank b).2.1 := by decide +kernel
theorem t_Bank_ok : ∀ k, k < 4 → parseFieldDescriptor (F_Bank k).2.2.1 = some (t_Bank k) := by decide +kernel
theorem i_Bank : ∀ w ∈ w_Bank, w ∈ lw_tbl := by decide +kernel
def R_Model : String := "MemoryBankModel"
def F_Model : u_T := fun k => match k with
  | 0 => ("MemoryBankModel", "thrown", "I", false)
  | 1 => ("MemoryBankModel", "memory", "[B", true)
  | 2 => ("MemoryBankModel", "row", "[B", true)
  | _ => ("MemoryBankModel", "size", "I", false)
def t_Model : Nat → FieldType := fun k => match k with
  | 0 => .int
  | 1 => .array .byte
  | 2 => .array .byte
  | _ => .int
abbrev w_Model : List Cond := u_ws R_Model F_Model 4
theorem n_Model : ∀ a, a < 4 → ∀ b, b < 4 → a ≠ b → (F_Model a).2.1 ≠ (F_Model b).2.1 := by decide +kernel
theorem t_Model_ok : ∀ k, k < 4 → parseFieldDescriptor (F_Model k).2.2.1 = some (t_Model k) := by decide +kernel
theorem i_Model : ∀ w ∈ w_Model, w ∈ lw_tbl := by decide +kernel
def y_acopy : MethodName := ⟨"java/lang/System", "arraycopy", "(Ljava/lang/Object;ILjava/lang/Object;II)V"⟩
abbrev b_Sums_init : ByteArray := prog_2_method_1_code
def y_Sums_init : MethodName := ⟨R_Sums, "<init>", "()V"⟩
abbrev b_Sums_of : ByteArray := prog_2_method_2_code
def y_Sums_of : MethodName := ⟨R_Sums, "of", "([BII)I"⟩
abbrev b_Bank_init : ByteArray := prog_1_method_1_code
def y_Bank_init : MethodName := ⟨R_Bank, "<init>", "()V"⟩
abbrev b_Bank_isIn : ByteArray := prog_1_method_2_code
def y_Bank_isIn : MethodName := ⟨R_Bank, "isIn", "(III)Z"⟩
abbrev b_Bank_put : ByteArray := prog_1_method_3_code
def y_Bank_put : MethodName := ⟨R_Bank, "put", "(I)I"⟩
abbrev b_Bank_cut : ByteArray := prog_1_method_4_code
def y_Bank_cut : MethodName := ⟨R_Bank, "cut", "(I)Z"⟩
abbrev b_Bank_size : ByteArray := prog_1_method_5_code
def y_Bank_size : MethodName := ⟨R_Bank, "size", "()I"⟩
abbrev b_Bank_rowAt : ByteArray := prog_1_method_6_code
def y_Bank_rowAt : MethodName := ⟨R_Bank, "rowAt", "(I)I"⟩
abbrev b_Bank_load : ByteArray := prog_1_method_7_code
def y_Bank_load : MethodName := ⟨R_Bank, "load", "(III)Z"⟩
abbrev b_Bank_dump : ByteArray := prog_1_method_8_code
def y_Bank_dump : MethodName := ⟨R_Bank, "dump", "(II)Z"⟩
abbrev b_Bank_check : ByteArray := prog_1_method_9_code
def y_Bank_check : MethodName := ⟨R_Bank, "check", "(II)I"⟩
abbrev b_Bank_rowCheck : ByteArray := prog_1_method_10_code
def y_Bank_rowCheck : MethodName := ⟨R_Bank, "rowCheck", "(I)I"⟩
abbrev b_Bank_seal : ByteArray := prog_1_method_11_code
def y_Bank_seal : MethodName := ⟨R_Bank, "seal", "()Z"⟩
abbrev b_Bank_at : ByteArray := prog_1_method_12_code
def y_Bank_at : MethodName := ⟨R_Bank, "at", "(I)I"⟩
abbrev b_Model_init : ByteArray := prog_4_method_1_code
def y_Model_init : MethodName := ⟨R_Model, "<init>", "()V"⟩
abbrev b_Model_checkOf : ByteArray := prog_4_method_3_code
def y_Model_checkOf : MethodName := ⟨R_Model, "checkOf", "([BII)I"⟩
abbrev b_Model_in : ByteArray := prog_4_method_4_code
def y_Model_in : MethodName := ⟨R_Model, "in", "(III)Z"⟩
abbrev b_Model_put : ByteArray := prog_4_method_5_code
def y_Model_put : MethodName := ⟨R_Model, "put", "(I)I"⟩
abbrev b_Model_cut : ByteArray := prog_4_method_6_code
def y_Model_cut : MethodName := ⟨R_Model, "cut", "(I)Z"⟩
abbrev b_Model_size : ByteArray := prog_4_method_7_code
def y_Model_size : MethodName := ⟨R_Model, "size", "()I"⟩
abbrev b_Model_rowAt : ByteArray := prog_4_method_8_code
def y_Model_rowAt : MethodName := ⟨R_Model, "rowAt", "(I)I"⟩
abbrev b_Model_load : ByteArray := prog_4_method_9_code
def y_Model_load : MethodName := ⟨R_Model, "load", "(III)Z"⟩
abbrev b_Model_dump : ByteArray := prog_4_method_10_code
def y_Model_dump : MethodName := ⟨R_Model, "dump", "(II)Z"⟩
abbrev b_Model_check : ByteArray := prog_4_method_11_code
def y_Model_check : MethodName := ⟨R_Model, "check", "(II)I"⟩
abbrev b_Model_rowCheck : ByteArray := prog_4_method_12_code
def y_Model_rowCheck : MethodName := ⟨R_Model, "rowCheck", "(I)I"⟩
abbrev b_Model_seal : ByteArray := prog_4_method_13_code
def y_Model_seal : MethodName := ⟨R_Model, "seal", "()Z"⟩
abbrev b_Model_at : ByteArray := prog_4_method_14_code
def y_Model_at : MethodName := ⟨R_Model, "at", "(I)I"⟩
def w_Sums_init : List Cond := [.code y_Sums_init b_Sums_init 4 none, .methodLink R_Sums 1 objectInit, .instanceMethod objectInit, .code objectInit ⟨#[0xb1]⟩ 1 none, .arrayClass .char, .fieldLink R_Sums 7 "MemoryBank$Sums" "table" "[C", .constant R_Sums 13 32768, .laysFinal "MemoryBank$Sums" "MemoryBank$Sums" "table" "[C"]
def w_Sums_of : List Cond := [.code y_Sums_of b_Sums_of 6 (some .int), .constant R_Sums 14 65535, .fieldLink R_Sums 7 "MemoryBank$Sums" "table" "[C", .laysFinal "MemoryBank$Sums" "MemoryBank$Sums" "table" "[C"]
def w_Bank_init : List Cond := [.code y_Bank_init b_Bank_init 1 none, .methodLink R_Bank 1 objectInit, .instanceMethod objectInit, .code objectInit ⟨#[0xb1]⟩ 1 none, .classLink R_Bank 7 R_Sums, .instantiable R_Sums 1, .initialized R_Sums, .methodLink R_Bank 9 y_Sums_init, .instanceMethod y_Sums_init, .code y_Sums_init b_Sums_init 4 none, .methodLink R_Sums 1 objectInit, .arrayClass .char, .fieldLink R_Sums 7 "MemoryBank$Sums" "table" "[C", .constant R_Sums 13 32768, .laysFinal "MemoryBank$Sums" "MemoryBank$Sums" "table" "[C", .fieldLink R_Bank 10 "MemoryBank" "sums" "LMemoryBank$Sums;", .arrayClass .byte, .fieldLink R_Bank 16 "MemoryBank" "memory" "[B", .fieldLink R_Bank 20 "MemoryBank" "row" "[B", .laysFinal "MemoryBank" "MemoryBank" "sums" "LMemoryBank$Sums;", .laysFinal "MemoryBank" "MemoryBank" "memory" "[B", .laysFinal "MemoryBank" "MemoryBank" "row" "[B", .lays "MemoryBank" "MemoryBank" "size" "I"]
def w_Bank_isIn : List Cond := [.code y_Bank_isIn b_Bank_isIn 3 (some .boolean)]
def w_Bank_put : List Cond := [.code y_Bank_put b_Bank_put 2 (some .int), .fieldLink R_Bank 23 "MemoryBank" "size" "I", .fieldLink R_Bank 20 "MemoryBank" "row" "[B", .laysFinal "MemoryBank" "MemoryBank" "sums" "LMemoryBank$Sums;", .laysFinal "MemoryBank" "MemoryBank" "memory" "[B", .laysFinal "MemoryBank" "MemoryBank" "row" "[B", .lays "MemoryBank" "MemoryBank" "size" "I"]
def w_Bank_cut : List Cond := [.code y_Bank_cut b_Bank_cut 2 (some .boolean), .fieldLink R_Bank 23 "MemoryBank" "size" "I", .laysFinal "MemoryBank" "MemoryBank" "sums" "LMemoryBank$Sums;", .laysFinal "MemoryBank" "MemoryBank" "memory" "[B", .laysFinal "MemoryBank" "MemoryBank" "row" "[B", .lays "MemoryBank" "MemoryBank" "size" "I"]
def w_Bank_size : List Cond := [.code y_Bank_size b_Bank_size 1 (some .int), .fieldLink R_Bank 23 "MemoryBank" "size" "I", .laysFinal "MemoryBank" "MemoryBank" "sums" "LMemoryBank$Sums;", .laysFinal "MemoryBank" "MemoryBank" "memory" "[B", .laysFinal "MemoryBank" "MemoryBank" "row" "[B", .lays "MemoryBank" "MemoryBank" "size" "I"]
def w_Bank_rowAt : List Cond := [.code y_Bank_rowAt b_Bank_rowAt 2 (some .int), .fieldLink R_Bank 23 "MemoryBank" "size" "I", .fieldLink R_Bank 20 "MemoryBank" "row" "[B", .laysFinal "MemoryBank" "MemoryBank" "sums" "LMemoryBank$Sums;", .laysFinal "MemoryBank" "MemoryBank" "memory" "[B", .laysFinal "MemoryBank" "MemoryBank" "row" "[B", .lays "MemoryBank" "MemoryBank" "size" "I"]
def w_Bank_load : List Cond := [.code y_Bank_load b_Bank_load 4 (some .boolean), .fieldLink R_Bank 23 "MemoryBank" "size" "I", .methodLink R_Bank 27 y_Bank_isIn, .static y_Bank_isIn, .initialized R_Bank, .code y_Bank_isIn b_Bank_isIn 3 (some .boolean), .fieldLink R_Bank 20 "MemoryBank" "row" "[B", .fieldLink R_Bank 16 "MemoryBank" "memory" "[B", .methodLink R_Bank 31 y_acopy, .native y_acopy, .static y_acopy, .initialized "java/lang/System", .laysFinal "MemoryBank" "MemoryBank" "sums" "LMemoryBank$Sums;", .laysFinal "MemoryBank" "MemoryBank" "memory" "[B", .laysFinal "MemoryBank" "MemoryBank" "row" "[B", .lays "MemoryBank" "MemoryBank" "size" "I"]
def w_Bank_dump : List Cond := [.code y_Bank_dump b_Bank_dump 3 (some .boolean), .methodLink R_Bank 27 y_Bank_isIn, .static y_Bank_isIn, .initialized R_Bank, .code y_Bank_isIn b_Bank_isIn 3 (some .boolean), .fieldLink R_Bank 23 "MemoryBank" "size" "I", .fieldLink R_Bank 16 "MemoryBank" "memory" "[B", .fieldLink R_Bank 20 "MemoryBank" "row" "[B", .methodLink R_Bank 31 y_acopy, .native y_acopy, .static y_acopy, .initialized "java/lang/System", .laysFinal "MemoryBank" "MemoryBank" "sums" "LMemoryBank$Sums;", .laysFinal "MemoryBank" "MemoryBank" "memory" "[B", .laysFinal "MemoryBank" "MemoryBank" "row" "[B", .lays "MemoryBank" "MemoryBank" "size" "I"]
def w_Bank_check : List Cond := [.code y_Bank_check b_Bank_check 3 (some .int), .methodLink R_Bank 27 y_Bank_isIn, .static y_Bank_isIn, .initialized R_Bank, .code y_Bank_isIn b_Bank_isIn 3 (some .boolean), .fieldLink R_Bank 10 "MemoryBank" "sums" "LMemoryBank$Sums;", .fieldLink R_Bank 16 "MemoryBank" "memory" "[B", .methodLink R_Bank 37 y_Sums_of, .instanceMethod y_Sums_of, .selects R_Sums y_Sums_of y_Sums_of, .initialized R_Sums, .code y_Sums_of b_Sums_of 6 (some .int), .constant R_Sums 14 65535, .fieldLink R_Sums 7 "MemoryBank$Sums" "table" "[C", .laysFinal "MemoryBank$Sums" "MemoryBank$Sums" "table" "[C", .laysFinal "MemoryBank" "MemoryBank" "sums" "LMemoryBank$Sums;", .laysFinal "MemoryBank" "MemoryBank" "memory" "[B", .laysFinal "MemoryBank" "MemoryBank" "row" "[B", .lays "MemoryBank" "MemoryBank" "size" "I"]
def w_Bank_rowCheck : List Cond := [.code y_Bank_rowCheck b_Bank_rowCheck 2 (some .int), .fieldLink R_Bank 23 "MemoryBank" "size" "I", .fieldLink R_Bank 10 "MemoryBank" "sums" "LMemoryBank$Sums;", .fieldLink R_Bank 20 "MemoryBank" "row" "[B", .methodLink R_Bank 37 y_Sums_of, .instanceMethod y_Sums_of, .selects R_Sums y_Sums_of y_Sums_of, .initialized R_Sums, .code y_Sums_of b_Sums_of 6 (some .int), .constant R_Sums 14 65535, .fieldLink R_Sums 7 "MemoryBank$Sums" "table" "[C", .laysFinal "MemoryBank$Sums" "MemoryBank$Sums" "table" "[C", .laysFinal "MemoryBank" "MemoryBank" "sums" "LMemoryBank$Sums;", .laysFinal "MemoryBank" "MemoryBank" "memory" "[B", .laysFinal "MemoryBank" "MemoryBank" "row" "[B", .lays "MemoryBank" "MemoryBank" "size" "I"]
def w_Bank_seal : List Cond := [.code y_Bank_seal b_Bank_seal 2 (some .boolean), .fieldLink R_Bank 23 "MemoryBank" "size" "I", .fieldLink R_Bank 10 "MemoryBank" "sums" "LMemoryBank$Sums;", .fieldLink R_Bank 20 "MemoryBank" "row" "[B", .methodLink R_Bank 37 y_Sums_of, .instanceMethod y_Sums_of, .selects R_Sums y_Sums_of y_Sums_of, .initialized R_Sums, .code y_Sums_of b_Sums_of 6 (some .int), .constant R_Sums 14 65535, .fieldLink R_Sums 7 "MemoryBank$Sums" "table" "[C", .laysFinal "MemoryBank$Sums" "MemoryBank$Sums" "table" "[C", .laysFinal "MemoryBank" "MemoryBank" "sums" "LMemoryBank$Sums;", .laysFinal "MemoryBank" "MemoryBank" "memory" "[B", .laysFinal "MemoryBank" "MemoryBank" "row" "[B", .lays "MemoryBank" "MemoryBank" "size" "I"]
def w_Bank_at : List Cond := [.code y_Bank_at b_Bank_at 2 (some .int), .fieldLink R_Bank 16 "MemoryBank" "memory" "[B", .laysFinal "MemoryBank" "MemoryBank" "sums" "LMemoryBank$Sums;", .laysFinal "MemoryBank" "MemoryBank" "memory" "[B", .laysFinal "MemoryBank" "MemoryBank" "row" "[B", .lays "MemoryBank" "MemoryBank" "size" "I"]
def w_Model_init : List Cond := [.code y_Model_init b_Model_init 1 none, .methodLink R_Model 1 objectInit, .instanceMethod objectInit, .code objectInit ⟨#[0xb1]⟩ 1 none, .arrayClass .byte, .fieldLink R_Model 7 "MemoryBankModel" "memory" "[B", .fieldLink R_Model 13 "MemoryBankModel" "row" "[B", .lays "MemoryBankModel" "MemoryBankModel" "thrown" "I", .laysFinal "MemoryBankModel" "MemoryBankModel" "memory" "[B", .laysFinal "MemoryBankModel" "MemoryBankModel" "row" "[B", .lays "MemoryBankModel" "MemoryBankModel" "size" "I"]
def w_Model_checkOf : List Cond := [.code y_Model_checkOf b_Model_checkOf 7 (some .int), .constant R_Model 20 65535]
def w_Model_in : List Cond := [.code y_Model_in b_Model_in 3 (some .boolean)]
def w_Model_put : List Cond := [.code y_Model_put b_Model_put 2 (some .int), .fieldLink R_Model 16 "MemoryBankModel" "thrown" "I", .fieldLink R_Model 21 "MemoryBankModel" "size" "I", .fieldLink R_Model 13 "MemoryBankModel" "row" "[B", .lays "MemoryBankModel" "MemoryBankModel" "thrown" "I", .laysFinal "MemoryBankModel" "MemoryBankModel" "memory" "[B", .laysFinal "MemoryBankModel" "MemoryBankModel" "row" "[B", .lays "MemoryBankModel" "MemoryBankModel" "size" "I"]
def w_Model_cut : List Cond := [.code y_Model_cut b_Model_cut 2 (some .boolean), .fieldLink R_Model 16 "MemoryBankModel" "thrown" "I", .fieldLink R_Model 21 "MemoryBankModel" "size" "I", .lays "MemoryBankModel" "MemoryBankModel" "thrown" "I", .laysFinal "MemoryBankModel" "MemoryBankModel" "memory" "[B", .laysFinal "MemoryBankModel" "MemoryBankModel" "row" "[B", .lays "MemoryBankModel" "MemoryBankModel" "size" "I"]
def w_Model_size : List Cond := [.code y_Model_size b_Model_size 1 (some .int), .fieldLink R_Model 16 "MemoryBankModel" "thrown" "I", .fieldLink R_Model 21 "MemoryBankModel" "size" "I", .lays "MemoryBankModel" "MemoryBankModel" "thrown" "I", .laysFinal "MemoryBankModel" "MemoryBankModel" "memory" "[B", .laysFinal "MemoryBankModel" "MemoryBankModel" "row" "[B", .lays "MemoryBankModel" "MemoryBankModel" "size" "I"]
def w_Model_rowAt : List Cond := [.code y_Model_rowAt b_Model_rowAt 2 (some .int), .fieldLink R_Model 16 "MemoryBankModel" "thrown" "I", .fieldLink R_Model 21 "MemoryBankModel" "size" "I", .fieldLink R_Model 13 "MemoryBankModel" "row" "[B", .lays "MemoryBankModel" "MemoryBankModel" "thrown" "I", .laysFinal "MemoryBankModel" "MemoryBankModel" "memory" "[B", .laysFinal "MemoryBankModel" "MemoryBankModel" "row" "[B", .lays "MemoryBankModel" "MemoryBankModel" "size" "I"]
def w_Model_load : List Cond := [.code y_Model_load b_Model_load 5 (some .boolean), .fieldLink R_Model 16 "MemoryBankModel" "thrown" "I", .fieldLink R_Model 21 "MemoryBankModel" "size" "I", .methodLink R_Model 24 y_Model_in, .static y_Model_in, .initialized R_Model, .code y_Model_in b_Model_in 3 (some .boolean), .fieldLink R_Model 7 "MemoryBankModel" "memory" "[B", .fieldLink R_Model 13 "MemoryBankModel" "row" "[B", .lays "MemoryBankModel" "MemoryBankModel" "thrown" "I", .laysFinal "MemoryBankModel" "MemoryBankModel" "memory" "[B", .laysFinal "MemoryBankModel" "MemoryBankModel" "row" "[B", .lays "MemoryBankModel" "MemoryBankModel" "size" "I"]
def w_Model_dump : List Cond := [.code y_Model_dump b_Model_dump 4 (some .boolean), .fieldLink R_Model 16 "MemoryBankModel" "thrown" "I", .methodLink R_Model 24 y_Model_in, .static y_Model_in, .initialized R_Model, .code y_Model_in b_Model_in 3 (some .boolean), .fieldLink R_Model 21 "MemoryBankModel" "size" "I", .fieldLink R_Model 13 "MemoryBankModel" "row" "[B", .fieldLink R_Model 7 "MemoryBankModel" "memory" "[B", .lays "MemoryBankModel" "MemoryBankModel" "thrown" "I", .laysFinal "MemoryBankModel" "MemoryBankModel" "memory" "[B", .laysFinal "MemoryBankModel" "MemoryBankModel" "row" "[B", .lays "MemoryBankModel" "MemoryBankModel" "size" "I"]
def w_Model_check : List Cond := [.code y_Model_check b_Model_check 3 (some .int), .fieldLink R_Model 16 "MemoryBankModel" "thrown" "I", .methodLink R_Model 24 y_Model_in, .static y_Model_in, .initialized R_Model, .code y_Model_in b_Model_in 3 (some .boolean), .fieldLink R_Model 7 "MemoryBankModel" "memory" "[B", .methodLink R_Model 28 y_Model_checkOf, .static y_Model_checkOf, .code y_Model_checkOf b_Model_checkOf 7 (some .int), .constant R_Model 20 65535, .lays "MemoryBankModel" "MemoryBankModel" "thrown" "I", .laysFinal "MemoryBankModel" "MemoryBankModel" "memory" "[B", .laysFinal "MemoryBankModel" "MemoryBankModel" "row" "[B", .lays "MemoryBankModel" "MemoryBankModel" "size" "I"]
def w_Model_rowCheck : List Cond := [.code y_Model_rowCheck b_Model_rowCheck 2 (some .int), .fieldLink R_Model 16 "MemoryBankModel" "thrown" "I", .fieldLink R_Model 21 "MemoryBankModel" "size" "I", .methodLink R_Model 24 y_Model_in, .static y_Model_in, .initialized R_Model, .code y_Model_in b_Model_in 3 (some .boolean), .fieldLink R_Model 13 "MemoryBankModel" "row" "[B", .methodLink R_Model 28 y_Model_checkOf, .static y_Model_checkOf, .code y_Model_checkOf b_Model_checkOf 7 (some .int), .constant R_Model 20 65535, .lays "MemoryBankModel" "MemoryBankModel" "thrown" "I", .laysFinal "MemoryBankModel" "MemoryBankModel" "memory" "[B", .laysFinal "MemoryBankModel" "MemoryBankModel" "row" "[B", .lays "MemoryBankModel" "MemoryBankModel" "size" "I"]
def w_Model_seal : List Cond := [.code y_Model_seal b_Model_seal 2 (some .boolean), .fieldLink R_Model 16 "MemoryBankModel" "thrown" "I", .fieldLink R_Model 21 "MemoryBankModel" "size" "I", .fieldLink R_Model 13 "MemoryBankModel" "row" "[B", .methodLink R_Model 28 y_Model_checkOf, .static y_Model_checkOf, .initialized R_Model, .code y_Model_checkOf b_Model_checkOf 7 (some .int), .constant R_Model 20 65535, .lays "MemoryBankModel" "MemoryBankModel" "thrown" "I", .laysFinal "MemoryBankModel" "MemoryBankModel" "memory" "[B", .laysFinal "MemoryBankModel" "MemoryBankModel" "row" "[B", .lays "MemoryBankModel" "MemoryBankModel" "size" "I"]
def w_Model_at : List Cond := [.code y_Model_at b_Model_at 2 (some .int), .fieldLink R_Model 16 "MemoryBankModel" "thrown" "I", .fieldLink R_Model 7 "MemoryBankModel" "memory" "[B", .lays "MemoryBankModel" "MemoryBankModel" "thrown" "I", .laysFinal "MemoryBankModel" "MemoryBankModel" "memory" "[B", .laysFinal "MemoryBankModel" "MemoryBankModel" "row" "[B", .lays "MemoryBankModel" "MemoryBankModel" "size" "I"]
-- the classes whose objects the worlds hold
abbrev classes : List vw_C := [(R_Sums, F_Sums, 1), (R_Bank, F_Bank, 4), (R_Model, F_Model, 4)]
-- the fields' words are among a method's
theorem i_Sums_init_Sums : ∀ w ∈ w_Sums, w ∈ w_Sums_init := by decide +kernel
theorem i_Sums_of_Sums : ∀ w ∈ w_Sums, w ∈ w_Sums_of := by decide +kernel
theorem i_Bank_init_Sums : ∀ w ∈ w_Sums, w ∈ w_Bank_init := by decide +kernel
theorem i_Bank_init_Bank : ∀ w ∈ w_Bank, w ∈ w_Bank_init := by decide +kernel
theorem i_Bank_put_Bank : ∀ w ∈ w_Bank, w ∈ w_Bank_put := by decide +kernel
theorem i_Bank_cut_Bank : ∀ w ∈ w_Bank, w ∈ w_Bank_cut := by decide +kernel
theorem i_Bank_size_Bank : ∀ w ∈ w_Bank, w ∈ w_Bank_size := by decide +kernel
theorem i_Bank_rowAt_Bank : ∀ w ∈ w_Bank, w ∈ w_Bank_rowAt := by decide +kernel
theorem i_Bank_load_Bank : ∀ w ∈ w_Bank, w ∈ w_Bank_load := by decide +kernel
theorem i_Bank_dump_Bank : ∀ w ∈ w_Bank, w ∈ w_Bank_dump := by decide +kernel
theorem i_Bank_check_Sums : ∀ w ∈ w_Sums, w ∈ w_Bank_check := by decide +kernel
theorem i_Bank_check_Bank : ∀ w ∈ w_Bank, w ∈ w_Bank_check := by decide +kernel
theorem i_Bank_rowCheck_Sums : ∀ w ∈ w_Sums, w ∈ w_Bank_rowCheck := by decide +kernel
theorem i_Bank_rowCheck_Bank : ∀ w ∈ w_Bank, w ∈ w_Bank_rowCheck := by decide +kernel
theorem i_Bank_seal_Sums : ∀ w ∈ w_Sums, w ∈ w_Bank_seal := by decide +kernel
theorem i_Bank_seal_Bank : ∀ w ∈ w_Bank, w ∈ w_Bank_seal := by decide +kernel
theorem i_Bank_at_Bank : ∀ w ∈ w_Bank, w ∈ w_Bank_at := by decide +kernel
theorem i_Model_init_Model : ∀ w ∈ w_Model, w ∈ w_Model_init := by decide +kernel
theorem i_Model_put_Model : ∀ w ∈ w_Model, w ∈ w_Model_put := by decide +kernel
theorem i_Model_cut_Model : ∀ w ∈ w_Model, w ∈ w_Model_cut := by decide +kernel
theorem i_Model_size_Model : ∀ w ∈ w_Model, w ∈ w_Model_size := by decide +kernel
theorem i_Model_rowAt_Model : ∀ w ∈ w_Model, w ∈ w_Model_rowAt := by decide +kernel
theorem i_Model_load_Model : ∀ w ∈ w_Model, w ∈ w_Model_load := by decide +kernel
theorem i_Model_dump_Model : ∀ w ∈ w_Model, w ∈ w_Model_dump := by decide +kernel
theorem i_Model_check_Model : ∀ w ∈ w_Model, w ∈ w_Model_check := by decide +kernel
theorem i_Model_rowCheck_Model : ∀ w ∈ w_Model, w ∈ w_Model_rowCheck := by decide +kernel
theorem i_Model_seal_Model : ∀ w ∈ w_Model, w ∈ w_Model_seal := by decide +kernel
theorem i_Model_at_Model : ∀ w ∈ w_Model, w ∈ w_Model_at := by decide +kernel
-- a callee's words are among the caller's
set_option maxRecDepth 20000 in
theorem g_Bank_init_Sums_init : GoodIn w_Bank_init (w_Sums_init) := goodIn_p _ [9, 3] rfl (by decide +kernel)
set_option maxRecDepth 20000 in
theorem g_Bank_load_Bank_isIn : GoodIn w_Bank_load (wsS R_Bank 27 y_Bank_isIn w_Bank_isIn) := goodIn_p _ [5] rfl (by decide +kernel)
set_option maxRecDepth 20000 in
theorem g_Bank_dump_Bank_isIn : GoodIn w_Bank_dump (wsS R_Bank 27 y_Bank_isIn w_Bank_isIn) := goodIn_p _ [4] rfl (by decide +kernel)
set_option maxRecDepth 20000 in
theorem g_Bank_check_Bank_isIn : GoodIn w_Bank_check (wsS R_Bank 27 y_Bank_isIn w_Bank_isIn) := goodIn_p _ [4] rfl (by decide +kernel)
set_option maxRecDepth 20000 in
theorem g_Bank_check_Sums_of : GoodIn w_Bank_check (wsV R_Bank 37 R_Sums y_Sums_of w_Sums_of) := goodIn_p _ [11] rfl (by decide +kernel)
set_option maxRecDepth 20000 in
theorem g_Bank_rowCheck_Sums_of : GoodIn w_Bank_rowCheck (wsV R_Bank 37 R_Sums y_Sums_of w_Sums_of) := goodIn_p _ [8] rfl (by decide +kernel)
set_option maxRecDepth 20000 in
theorem g_Bank_seal_Sums_of : GoodIn w_Bank_seal (wsV R_Bank 37 R_Sums y_Sums_of w_Sums_of) := goodIn_p _ [8] rfl (by decide +kernel)
set_option maxRecDepth 20000 in
theorem g_Model_load_Model_in : GoodIn w_Model_load (wsS R_Model 24 y_Model_in w_Model_in) := goodIn_p _ [6] rfl (by decide +kernel)
set_option maxRecDepth 20000 in
theorem g_Model_dump_Model_in : GoodIn w_Model_dump (wsS R_Model 24 y_Model_in w_Model_in) := goodIn_p _ [5] rfl (by decide +kernel)
set_option maxRecDepth 20000 in
theorem g_Model_check_Model_in : GoodIn w_Model_check (wsS R_Model 24 y_Model_in w_Model_in) := goodIn_p _ [5] rfl (by decide +kernel)
set_option maxRecDepth 20000 in
theorem g_Model_check_Model_checkOf : GoodIn w_Model_check (wsS R_Model 28 y_Model_checkOf w_Model_checkOf) := goodIn_p _ [9] rfl (by decide +kernel)
set_option maxRecDepth 20000 in
theorem g_Model_rowCheck_Model_in : GoodIn w_Model_rowCheck (wsS R_Model 24 y_Model_in w_Model_in) := goodIn_p _ [6] rfl (by decide +kernel)
set_option maxRecDepth 20000 in
theorem g_Model_rowCheck_Model_checkOf : GoodIn w_Model_rowCheck (wsS R_Model 28 y_Model_checkOf w_Model_checkOf) := goodIn_p _ [10] rfl (by decide +kernel)
set_option maxRecDepth 20000 in
theorem g_Model_seal_Model_checkOf : GoodIn w_Model_seal (wsS R_Model 28 y_Model_checkOf w_Model_checkOf) := goodIn_p _ [7] rfl (by decide +kernel)
set_option maxRecDepth 20000 in
theorem g_law_Bank_init : GoodIn lw_tbl (w_Bank_init) := goodIn_p _ [9, 12, 17] rfl (by decide +kernel)
set_option maxRecDepth 20000 in
theorem g_law_Model_init : GoodIn lw_tbl (w_Model_init) := goodIn_p _ [94, 12] rfl (by decide +kernel)
set_option maxRecDepth 20000 in
theorem g_law_Bank_put : GoodIn lw_tbl (wsV R_law 13 R_Bank y_Bank_put w_Bank_put) := goodIn_p _ [42] rfl (by decide +kernel)
set_option maxRecDepth 20000 in
theorem g_law_Model_put : GoodIn lw_tbl (wsV R_law 17 R_Model y_Model_put w_Model_put) := goodIn_p _ [112] rfl (by decide +kernel)
set_option maxRecDepth 20000 in
theorem g_law_Bank_cut : GoodIn lw_tbl (wsV R_law 18 R_Bank y_Bank_cut w_Bank_cut) := goodIn_p _ [46] rfl (by decide +kernel)
set_option maxRecDepth 20000 in
theorem g_law_Model_cut : GoodIn lw_tbl (wsV R_law 22 R_Model y_Model_cut w_Model_cut) := goodIn_p _ [116] rfl (by decide +kernel)
set_option maxRecDepth 20000 in
theorem g_law_Bank_size : GoodIn lw_tbl (wsV R_law 23 R_Bank y_Bank_size w_Bank_size) := goodIn_p _ [50] rfl (by decide +kernel)
set_option maxRecDepth 20000 in
theorem g_law_Model_size : GoodIn lw_tbl (wsV R_law 27 R_Model y_Model_size w_Model_size) := goodIn_p _ [120] rfl (by decide +kernel)
set_option maxRecDepth 20000 in
theorem g_law_Bank_rowAt : GoodIn lw_tbl (wsV R_law 28 R_Bank y_Bank_rowAt w_Bank_rowAt) := goodIn_p _ [54] rfl (by decide +kernel)
set_option maxRecDepth 20000 in
theorem g_law_Model_rowAt : GoodIn lw_tbl (wsV R_law 31 R_Model y_Model_rowAt w_Model_rowAt) := goodIn_p _ [124] rfl (by decide +kernel)
set_option maxRecDepth 20000 in
theorem g_law_Bank_load : GoodIn lw_tbl (wsV R_law 32 R_Bank y_Bank_load w_Bank_load) := goodIn_p _ [58, 61] rfl (by decide +kernel)
set_option maxRecDepth 20000 in
theorem g_law_Model_load : GoodIn lw_tbl (wsV R_law 36 R_Model y_Model_load w_Model_load) := goodIn_p _ [128, 131] rfl (by decide +kernel)
set_option maxRecDepth 20000 in
theorem g_law_Bank_dump : GoodIn lw_tbl (wsV R_law 37 R_Bank y_Bank_dump w_Bank_dump) := goodIn_p _ [68, 61] rfl (by decide +kernel)
set_option maxRecDepth 20000 in
theorem g_law_Model_dump : GoodIn lw_tbl (wsV R_law 41 R_Model y_Model_dump w_Model_dump) := goodIn_p _ [135, 131] rfl (by decide +kernel)
set_option maxRecDepth 20000 in
theorem g_law_Bank_check : GoodIn lw_tbl (wsV R_law 42 R_Bank y_Bank_check w_Bank_check) := goodIn_p _ [72, 61, 76] rfl (by decide +kernel)
set_option maxRecDepth 20000 in
theorem g_law_Model_check : GoodIn lw_tbl (wsV R_law 46 R_Model y_Model_check w_Model_check) := goodIn_p _ [139, 131, 142] rfl (by decide +kernel)
set_option maxRecDepth 20000 in
theorem g_law_Bank_rowCheck : GoodIn lw_tbl (wsV R_law 47 R_Bank y_Bank_rowCheck w_Bank_rowCheck) := goodIn_p _ [81, 76] rfl (by decide +kernel)
set_option maxRecDepth 20000 in
theorem g_law_Model_rowCheck : GoodIn lw_tbl (wsV R_law 50 R_Model y_Model_rowCheck w_Model_rowCheck) := goodIn_p _ [147, 131, 142] rfl (by decide +kernel)
set_option maxRecDepth 20000 in
theorem g_law_Bank_seal : GoodIn lw_tbl (wsV R_law 51 R_Bank y_Bank_seal w_Bank_seal) := goodIn_p _ [85, 76] rfl (by decide +kernel)
set_option maxRecDepth 20000 in
theorem g_law_Model_seal : GoodIn lw_tbl (wsV R_law 55 R_Model y_Model_seal w_Model_seal) := goodIn_p _ [151, 142] rfl (by decide +kernel)
set_option maxRecDepth 20000 in
theorem g_law_Bank_at : GoodIn lw_tbl (wsV R_law 56 R_Bank y_Bank_at w_Bank_at) := goodIn_p _ [89] rfl (by decide +kernel)
set_option maxRecDepth 20000 in
theorem g_law_Model_at : GoodIn lw_tbl (wsV R_law 59 R_Model y_Model_at w_Model_at) := goodIn_p _ [155] rfl (by decide +kernel)
end
section
-- the instructions, decoded
theorem d_Sums_init_0 : decode b_Sums_init 0 = .ok (.aload_n 0, 1) := by decide +kernel
theorem d_Sums_init_1 : decode b_Sums_init 1 = .ok (.invokespecial 1, 3) := by decide +kernel
theorem d_Sums_init_4 : decode b_Sums_init 4 = .ok (.aload_n 0, 1) := by decide +kernel
theorem d_Sums_init_5 : decode b_Sums_init 5 = .ok (.sipush 256, 3) := by decide +kernel
theorem d_Sums_init_8 : decode b_Sums_init 8 = .ok (.newarray .char, 2) := by decide +kernel
theorem d_Sums_init_10 : decode b_Sums_init 10 = .ok (.putfield 7, 3) := by decide +kernel
theorem d_Sums_init_13 : decode b_Sums_init 13 = .ok (.iconst 0, 1) := by decide +kernel
theorem d_Sums_init_14 : decode b_Sums_init 14 = .ok (.istore_n 1, 1) := by decide +kernel
theorem d_Sums_init_15 : decode b_Sums_init 15 = .ok (.iload_n 1, 1) := by decide +kernel
theorem d_Sums_init_16 : decode b_Sums_init 16 = .ok (.aload_n 0, 1) := by decide +kernel
theorem d_Sums_init_17 : decode b_Sums_init 17 = .ok (.getfield 7, 3) := by decide +kernel
theorem d_Sums_init_20 : decode b_Sums_init 20 = .ok (.arraylength, 1) := by decide +kernel
theorem d_Sums_init_21 : decode b_Sums_init 21 = .ok (.if_icmp .ge 57, 3) := by decide +kernel
theorem d_Sums_init_24 : decode b_Sums_init 24 = .ok (.iload_n 1, 1) := by decide +kernel
theorem d_Sums_init_25 : decode b_Sums_init 25 = .ok (.bipush 8, 2) := by decide +kernel
theorem d_Sums_init_27 : decode b_Sums_init 27 = .ok (.ishl, 1) := by decide +kernel
theorem d_Sums_init_28 : decode b_Sums_init 28 = .ok (.istore_n 2, 1) := by decide +kernel
theorem d_Sums_init_29 : decode b_Sums_init 29 = .ok (.iconst 0, 1) := by decide +kernel
theorem d_Sums_init_30 : decode b_Sums_init 30 = .ok (.istore_n 3, 1) := by decide +kernel
theorem d_Sums_init_31 : decode b_Sums_init 31 = .ok (.iload_n 3, 1) := by decide +kernel
theorem d_Sums_init_32 : decode b_Sums_init 32 = .ok (.bipush 8, 2) := by decide +kernel
theorem d_Sums_init_34 : decode b_Sums_init 34 = .ok (.if_icmp .ge 30, 3) := by decide +kernel
theorem d_Sums_init_37 : decode b_Sums_init 37 = .ok (.iload_n 2, 1) := by decide +kernel
theorem d_Sums_init_38 : decode b_Sums_init 38 = .ok (.ldc 13, 2) := by decide +kernel
theorem d_Sums_init_40 : decode b_Sums_init 40 = .ok (.iand, 1) := by decide +kernel
theorem d_Sums_init_41 : decode b_Sums_init 41 = .ok (.ifCond .ne 9, 3) := by decide +kernel
theorem d_Sums_init_44 : decode b_Sums_init 44 = .ok (.iload_n 2, 1) := by decide +kernel
theorem d_Sums_init_45 : decode b_Sums_init 45 = .ok (.iconst 1, 1) := by decide +kernel
theorem d_Sums_init_46 : decode b_Sums_init 46 = .ok (.ishl, 1) := by decide +kernel
theorem d_Sums_init_47 : decode b_Sums_init 47 = .ok (.goto 10, 3) := by decide +kernel
theorem d_Sums_init_50 : decode b_Sums_init 50 = .ok (.iload_n 2, 1) := by decide +kernel
theorem d_Sums_init_51 : decode b_Sums_init 51 = .ok (.iconst 1, 1) := by decide +kernel
theorem d_Sums_init_52 : decode b_Sums_init 52 = .ok (.ishl, 1) := by decide +kernel
theorem d_Sums_init_53 : decode b_Sums_init 53 = .ok (.sipush 4129, 3) := by decide +kernel
theorem d_Sums_init_56 : decode b_Sums_init 56 = .ok (.ixor, 1) := by decide +kernel
theorem d_Sums_init_57 : decode b_Sums_init 57 = .ok (.istore_n 2, 1) := by decide +kernel
theorem d_Sums_init_58 : decode b_Sums_init 58 = .ok (.iinc 3 1, 3) := by decide +kernel
theorem d_Sums_init_61 : decode b_Sums_init 61 = .ok (.goto (-30), 3) := by decide +kernel
theorem d_Sums_init_64 : decode b_Sums_init 64 = .ok (.aload_n 0, 1) := by decide +kernel
theorem d_Sums_init_65 : decode b_Sums_init 65 = .ok (.getfield 7, 3) := by decide +kernel
theorem d_Sums_init_68 : decode b_Sums_init 68 = .ok (.iload_n 1, 1) := by decide +kernel
theorem d_Sums_init_69 : decode b_Sums_init 69 = .ok (.iload_n 2, 1) := by decide +kernel
theorem d_Sums_init_70 : decode b_Sums_init 70 = .ok (.i2c, 1) := by decide +kernel
theorem d_Sums_init_71 : decode b_Sums_init 71 = .ok (.castore, 1) := by decide +kernel
theorem d_Sums_init_72 : decode b_Sums_init 72 = .ok (.iinc 1 1, 3) := by decide +kernel
theorem d_Sums_init_75 : decode b_Sums_init 75 = .ok (.goto (-60), 3) := by decide +kernel
theorem d_Sums_init_78 : decode b_Sums_init 78 = .ok (.return_, 1) := by decide +kernel
theorem d_Sums_of_0 : decode b_Sums_of 0 = .ok (.ldc 14, 2) := by decide +kernel
theorem d_Sums_of_2 : decode b_Sums_of 2 = .ok (.istore 4, 2) := by decide +kernel
theorem d_Sums_of_4 : decode b_Sums_of 4 = .ok (.iload_n 2, 1) := by decide +kernel
theorem d_Sums_of_5 : decode b_Sums_of 5 = .ok (.istore 5, 2) := by decide +kernel
theorem d_Sums_of_7 : decode b_Sums_of 7 = .ok (.iload 5, 2) := by decide +kernel
theorem d_Sums_of_9 : decode b_Sums_of 9 = .ok (.iload_n 2, 1) := by decide +kernel
theorem d_Sums_of_10 : decode b_Sums_of 10 = .ok (.iload_n 3, 1) := by decide +kernel
theorem d_Sums_of_11 : decode b_Sums_of 11 = .ok (.iadd, 1) := by decide +kernel
theorem d_Sums_of_12 : decode b_Sums_of 12 = .ok (.if_icmp .ge 39, 3) := by decide +kernel
theorem d_Sums_of_15 : decode b_Sums_of 15 = .ok (.iload 4, 2) := by decide +kernel
theorem d_Sums_of_17 : decode b_Sums_of 17 = .ok (.bipush 8, 2) := by decide +kernel
theorem d_Sums_of_19 : decode b_Sums_of 19 = .ok (.ishl, 1) := by decide +kernel
theorem d_Sums_of_20 : decode b_Sums_of 20 = .ok (.ldc 14, 2) := by decide +kernel
theorem d_Sums_of_22 : decode b_Sums_of 22 = .ok (.iand, 1) := by decide +kernel
theorem d_Sums_of_23 : decode b_Sums_of 23 = .ok (.aload_n 0, 1) := by decide +kernel
theorem d_Sums_of_24 : decode b_Sums_of 24 = .ok (.getfield 7, 3) := by decide +kernel
theorem d_Sums_of_27 : decode b_Sums_of 27 = .ok (.iload 4, 2) := by decide +kernel
theorem d_Sums_of_29 : decode b_Sums_of 29 = .ok (.bipush 8, 2) := by decide +kernel
theorem d_Sums_of_31 : decode b_Sums_of 31 = .ok (.ishr, 1) := by decide +kernel
theorem d_Sums_of_32 : decode b_Sums_of 32 = .ok (.aload_n 1, 1) := by decide +kernel
theorem d_Sums_of_33 : decode b_Sums_of 33 = .ok (.iload 5, 2) := by decide +kernel
theorem d_Sums_of_35 : decode b_Sums_of 35 = .ok (.baload, 1) := by decide +kernel
theorem d_Sums_of_36 : decode b_Sums_of 36 = .ok (.sipush 255, 3) := by decide +kernel
theorem d_Sums_of_39 : decode b_Sums_of 39 = .ok (.iand, 1) := by decide +kernel
theorem d_Sums_of_40 : decode b_Sums_of 40 = .ok (.ixor, 1) := by decide +kernel
theorem d_Sums_of_41 : decode b_Sums_of 41 = .ok (.caload, 1) := by decide +kernel
theorem d_Sums_of_42 : decode b_Sums_of 42 = .ok (.ixor, 1) := by decide +kernel
theorem d_Sums_of_43 : decode b_Sums_of 43 = .ok (.istore 4, 2) := by decide +kernel
theorem d_Sums_of_45 : decode b_Sums_of 45 = .ok (.iinc 5 1, 3) := by decide +kernel
theorem d_Sums_of_48 : decode b_Sums_of 48 = .ok (.goto (-41), 3) := by decide +kernel
theorem d_Sums_of_51 : decode b_Sums_of 51 = .ok (.iload 4, 2) := by decide +kernel
theorem d_Sums_of_53 : decode b_Sums_of 53 = .ok (.ireturn, 1) := by decide +kernel
theorem d_Bank_init_0 : decode b_Bank_init 0 = .ok (.aload_n 0, 1) := by decide +kernel
theorem d_Bank_init_1 : decode b_Bank_init 1 = .ok (.invokespecial 1, 3) := by decide +kernel
theorem d_Bank_init_4 : decode b_Bank_init 4 = .ok (.aload_n 0, 1) := by decide +kernel
theorem d_Bank_init_5 : decode b_Bank_init 5 = .ok (.new 7, 3) := by decide +kernel
theorem d_Bank_init_8 : decode b_Bank_init 8 = .ok (.dup, 1) := by decide +kernel
theorem d_Bank_init_9 : decode b_Bank_init 9 = .ok (.invokespecial 9, 3) := by decide +kernel
theorem d_Bank_init_12 : decode b_Bank_init 12 = .ok (.putfield 10, 3) := by decide +kernel
theorem d_Bank_init_15 : decode b_Bank_init 15 = .ok (.aload_n 0, 1) := by decide +kernel
theorem d_Bank_init_16 : decode b_Bank_init 16 = .ok (.sipush 4096, 3) := by decide +kernel
theorem d_Bank_init_19 : decode b_Bank_init 19 = .ok (.newarray .byte, 2) := by decide +kernel
theorem d_Bank_init_21 : decode b_Bank_init 21 = .ok (.putfield 16, 3) := by decide +kernel
theorem d_Bank_init_24 : decode b_Bank_init 24 = .ok (.aload_n 0, 1) := by decide +kernel
theorem d_Bank_init_25 : decode b_Bank_init 25 = .ok (.sipush 512, 3) := by decide +kernel
theorem d_Bank_init_28 : decode b_Bank_init 28 = .ok (.newarray .byte, 2) := by decide +kernel
theorem d_Bank_init_30 : decode b_Bank_init 30 = .ok (.putfield 20, 3) := by decide +kernel
theorem d_Bank_init_33 : decode b_Bank_init 33 = .ok (.return_, 1) := by decide +kernel
theorem d_Bank_isIn_0 : decode b_Bank_isIn 0 = .ok (.iload_n 1, 1) := by decide +kernel
theorem d_Bank_isIn_1 : decode b_Bank_isIn 1 = .ok (.ifCond .lt 23, 3) := by decide +kernel
theorem d_Bank_isIn_4 : decode b_Bank_isIn 4 = .ok (.iload_n 1, 1) := by decide +kernel
theorem d_Bank_isIn_5 : decode b_Bank_isIn 5 = .ok (.iload_n 2, 1) := by decide +kernel
theorem d_Bank_isIn_6 : decode b_Bank_isIn 6 = .ok (.if_icmp .gt 18, 3) := by decide +kernel
theorem d_Bank_isIn_9 : decode b_Bank_isIn 9 = .ok (.iload_n 0, 1) := by decide +kernel
theorem d_Bank_isIn_10 : decode b_Bank_isIn 10 = .ok (.ifCond .lt 14, 3) := by decide +kernel
theorem d_Bank_isIn_13 : decode b_Bank_isIn 13 = .ok (.iload_n 0, 1) := by decide +kernel
theorem d_Bank_isIn_14 : decode b_Bank_isIn 14 = .ok (.iload_n 2, 1) := by decide +kernel
theorem d_Bank_isIn_15 : decode b_Bank_isIn 15 = .ok (.iload_n 1, 1) := by decide +kernel
theorem d_Bank_isIn_16 : decode b_Bank_isIn 16 = .ok (.isub, 1) := by decide +kernel
theorem d_Bank_isIn_17 : decode b_Bank_isIn 17 = .ok (.if_icmp .gt 7, 3) := by decide +kernel
theorem d_Bank_isIn_20 : decode b_Bank_isIn 20 = .ok (.iconst 1, 1) := by decide +kernel
theorem d_Bank_isIn_21 : decode b_Bank_isIn 21 = .ok (.goto 4, 3) := by decide +kernel
theorem d_Bank_isIn_24 : decode b_Bank_isIn 24 = .ok (.iconst 0, 1) := by decide +kernel
theorem d_Bank_isIn_25 : decode b_Bank_isIn 25 = .ok (.ireturn, 1) := by decide +kernel
theorem d_Bank_put_0 : decode b_Bank_put 0 = .ok (.aload_n 0, 1) := by decide +kernel
theorem d_Bank_put_1 : decode b_Bank_put 1 = .ok (.getfield 23, 3) := by decide +kernel
theorem d_Bank_put_4 : decode b_Bank_put 4 = .ok (.sipush 512, 3) := by decide +kernel
theorem d_Bank_put_7 : decode b_Bank_put 7 = .ok (.if_icmp .ne 5, 3) := by decide +kernel
theorem d_Bank_put_10 : decode b_Bank_put 10 = .ok (.iconst (-1), 1) := by decide +kernel
theorem d_Bank_put_11 : decode b_Bank_put 11 = .ok (.ireturn, 1) := by decide +kernel
theorem d_Bank_put_12 : decode b_Bank_put 12 = .ok (.aload_n 0, 1) := by decide +kernel
theorem d_Bank_put_13 : decode b_Bank_put 13 = .ok (.getfield 20, 3) := by decide +kernel
theorem d_Bank_put_16 : decode b_Bank_put 16 = .ok (.aload_n 0, 1) := by decide +kernel
theorem d_Bank_put_17 : decode b_Bank_put 17 = .ok (.getfield 23, 3) := by decide +kernel
theorem d_Bank_put_20 : decode b_Bank_put 20 = .ok (.iload_n 1, 1) := by decide +kernel
theorem d_Bank_put_21 : decode b_Bank_put 21 = .ok (.i2b, 1) := by decide +kernel
theorem d_Bank_put_22 : decode b_Bank_put 22 = .ok (.bastore, 1) := by decide +kernel
theorem d_Bank_put_23 : decode b_Bank_put 23 = .ok (.aload_n 0, 1) := by decide +kernel
theorem d_Bank_put_24 : decode b_Bank_put 24 = .ok (.dup, 1) := by decide +kernel
theorem d_Bank_put_25 : decode b_Bank_put 25 = .ok (.getfield 23, 3) := by decide +kernel
theorem d_Bank_put_28 : decode b_Bank_put 28 = .ok (.iconst 1, 1) := by decide +kernel
theorem d_Bank_put_29 : decode b_Bank_put 29 = .ok (.iadd, 1) := by decide +kernel
theorem d_Bank_put_30 : decode b_Bank_put 30 = .ok (.putfield 23, 3) := by decide +kernel
theorem d_Bank_put_33 : decode b_Bank_put 33 = .ok (.aload_n 0, 1) := by decide +kernel
theorem d_Bank_put_34 : decode b_Bank_put 34 = .ok (.getfield 23, 3) := by decide +kernel
theorem d_Bank_put_37 : decode b_Bank_put 37 = .ok (.ireturn, 1) := by decide +kernel
theorem d_Bank_cut_0 : decode b_Bank_cut 0 = .ok (.iload_n 1, 1) := by decide +kernel
theorem d_Bank_cut_1 : decode b_Bank_cut 1 = .ok (.ifCond .lt 11, 3) := by decide +kernel
theorem d_Bank_cut_4 : decode b_Bank_cut 4 = .ok (.iload_n 1, 1) := by decide +kernel
theorem d_Bank_cut_5 : decode b_Bank_cut 5 = .ok (.aload_n 0, 1) := by decide +kernel
theorem d_Bank_cut_6 : decode b_Bank_cut 6 = .ok (.getfield 23, 3) := by decide +kernel
theorem d_Bank_cut_9 : decode b_Bank_cut 9 = .ok (.if_icmp .le 5, 3) := by decide +kernel
theorem d_Bank_cut_12 : decode b_Bank_cut 12 = .ok (.iconst 0, 1) := by decide +kernel
theorem d_Bank_cut_13 : decode b_Bank_cut 13 = .ok (.ireturn, 1) := by decide +kernel
theorem d_Bank_cut_14 : decode b_Bank_cut 14 = .ok (.aload_n 0, 1) := by decide +kernel
theorem d_Bank_cut_15 : decode b_Bank_cut 15 = .ok (.iload_n 1, 1) := by decide +kernel
theorem d_Bank_cut_16 : decode b_Bank_cut 16 = .ok (.putfield 23, 3) := by decide +kernel
theorem d_Bank_cut_19 : decode b_Bank_cut 19 = .ok (.iconst 1, 1) := by decide +kernel
theorem d_Bank_cut_20 : decode b_Bank_cut 20 = .ok (.ireturn, 1) := by decide +kernel
theorem d_Bank_size_0 : decode b_Bank_size 0 = .ok (.aload_n 0, 1) := by decide +kernel
theorem d_Bank_size_1 : decode b_Bank_size 1 = .ok (.getfield 23, 3) := by decide +kernel
theorem d_Bank_size_4 : decode b_Bank_size 4 = .ok (.ireturn, 1) := by decide +kernel
theorem d_Bank_rowAt_0 : decode b_Bank_rowAt 0 = .ok (.iload_n 1, 1) := by decide +kernel
theorem d_Bank_rowAt_1 : decode b_Bank_rowAt 1 = .ok (.ifCond .lt 11, 3) := by decide +kernel
theorem d_Bank_rowAt_4 : decode b_Bank_rowAt 4 = .ok (.iload_n 1, 1) := by decide +kernel
theorem d_Bank_rowAt_5 : decode b_Bank_rowAt 5 = .ok (.aload_n 0, 1) := by decide +kernel
theorem d_Bank_rowAt_6 : decode b_Bank_rowAt 6 = .ok (.getfield 23, 3) := by decide +kernel
theorem d_Bank_rowAt_9 : decode b_Bank_rowAt 9 = .ok (.if_icmp .lt 7, 3) := by decide +kernel
theorem d_Bank_rowAt_12 : decode b_Bank_rowAt 12 = .ok (.iconst (-1), 1) := by decide +kernel
theorem d_Bank_rowAt_13 : decode b_Bank_rowAt 13 = .ok (.goto 13, 3) := by decide +kernel
theorem d_Bank_rowAt_16 : decode b_Bank_rowAt 16 = .ok (.aload_n 0, 1) := by decide +kernel
theorem d_Bank_rowAt_17 : decode b_Bank_rowAt 17 = .ok (.getfield 20, 3) := by decide +kernel
theorem d_Bank_rowAt_20 : decode b_Bank_rowAt 20 = .ok (.iload_n 1, 1) := by decide +kernel
theorem d_Bank_rowAt_21 : decode b_Bank_rowAt 21 = .ok (.baload, 1) := by decide +kernel
theorem d_Bank_rowAt_22 : decode b_Bank_rowAt 22 = .ok (.sipush 255, 3) := by decide +kernel
theorem d_Bank_rowAt_25 : decode b_Bank_rowAt 25 = .ok (.iand, 1) := by decide +kernel
theorem d_Bank_rowAt_26 : decode b_Bank_rowAt 26 = .ok (.ireturn, 1) := by decide +kernel
theorem d_Bank_load_0 : decode b_Bank_load 0 = .ok (.iload_n 2, 1) := by decide +kernel
theorem d_Bank_load_1 : decode b_Bank_load 1 = .ok (.iconst 1, 1) := by decide +kernel
theorem d_Bank_load_2 : decode b_Bank_load 2 = .ok (.if_icmp .lt 26, 3) := by decide +kernel
theorem d_Bank_load_5 : decode b_Bank_load 5 = .ok (.iload_n 1, 1) := by decide +kernel
theorem d_Bank_load_6 : decode b_Bank_load 6 = .ok (.iload_n 2, 1) := by decide +kernel
theorem d_Bank_load_7 : decode b_Bank_load 7 = .ok (.aload_n 0, 1) := by decide +kernel
theorem d_Bank_load_8 : decode b_Bank_load 8 = .ok (.getfield 23, 3) := by decide +kernel
theorem d_Bank_load_11 : decode b_Bank_load 11 = .ok (.invokestatic 27, 3) := by decide +kernel
theorem d_Bank_load_14 : decode b_Bank_load 14 = .ok (.ifCond .eq 14, 3) := by decide +kernel
theorem d_Bank_load_17 : decode b_Bank_load 17 = .ok (.iload_n 3, 1) := by decide +kernel
theorem d_Bank_load_18 : decode b_Bank_load 18 = .ok (.iload_n 2, 1) := by decide +kernel
theorem d_Bank_load_19 : decode b_Bank_load 19 = .ok (.sipush 4096, 3) := by decide +kernel
theorem d_Bank_load_22 : decode b_Bank_load 22 = .ok (.invokestatic 27, 3) := by decide +kernel
theorem d_Bank_load_25 : decode b_Bank_load 25 = .ok (.ifCond .ne 5, 3) := by decide +kernel
theorem d_Bank_load_28 : decode b_Bank_load 28 = .ok (.iconst 0, 1) := by decide +kernel
theorem d_Bank_load_29 : decode b_Bank_load 29 = .ok (.ireturn, 1) := by decide +kernel
theorem d_Bank_load_30 : decode b_Bank_load 30 = .ok (.aload_n 0, 1) := by decide +kernel
theorem d_Bank_load_31 : decode b_Bank_load 31 = .ok (.getfield 20, 3) := by decide +kernel
theorem d_Bank_load_34 : decode b_Bank_load 34 = .ok (.iload_n 1, 1) := by decide +kernel
theorem d_Bank_load_35 : decode b_Bank_load 35 = .ok (.aload_n 0, 1) := by decide +kernel
theorem d_Bank_load_36 : decode b_Bank_load 36 = .ok (.getfield 16, 3) := by decide +kernel
theorem d_Bank_load_39 : decode b_Bank_load 39 = .ok (.iload_n 3, 1) := by decide +kernel
theorem d_Bank_load_40 : decode b_Bank_load 40 = .ok (.iload_n 2, 1) := by decide +kernel
theorem d_Bank_load_41 : decode b_Bank_load 41 = .ok (.invokestatic 31, 3) := by decide +kernel
theorem d_Bank_load_44 : decode b_Bank_load 44 = .ok (.iconst 1, 1) := by decide +kernel
theorem d_Bank_load_45 : decode b_Bank_load 45 = .ok (.ireturn, 1) := by decide +kernel
theorem d_Bank_dump_0 : decode b_Bank_dump 0 = .ok (.iload_n 2, 1) := by decide +kernel
theorem d_Bank_dump_1 : decode b_Bank_dump 1 = .ok (.iconst 1, 1) := by decide +kernel
theorem d_Bank_dump_2 : decode b_Bank_dump 2 = .ok (.if_icmp .lt 26, 3) := by decide +kernel
theorem d_Bank_dump_5 : decode b_Bank_dump 5 = .ok (.iload_n 1, 1) := by decide +kernel
theorem d_Bank_dump_6 : decode b_Bank_dump 6 = .ok (.iload_n 2, 1) := by decide +kernel
theorem d_Bank_dump_7 : decode b_Bank_dump 7 = .ok (.sipush 4096, 3) := by decide +kernel
theorem d_Bank_dump_10 : decode b_Bank_dump 10 = .ok (.invokestatic 27, 3) := by decide +kernel
theorem d_Bank_dump_13 : decode b_Bank_dump 13 = .ok (.ifCond .eq 15, 3) := by decide +kernel
theorem d_Bank_dump_16 : decode b_Bank_dump 16 = .ok (.iload_n 2, 1) := by decide +kernel
theorem d_Bank_dump_17 : decode b_Bank_dump 17 = .ok (.sipush 512, 3) := by decide +kernel
theorem d_Bank_dump_20 : decode b_Bank_dump 20 = .ok (.aload_n 0, 1) := by decide +kernel
theorem d_Bank_dump_21 : decode b_Bank_dump 21 = .ok (.getfield 23, 3) := by decide +kernel
theorem d_Bank_dump_24 : decode b_Bank_dump 24 = .ok (.isub, 1) := by decide +kernel
theorem d_Bank_dump_25 : decode b_Bank_dump 25 = .ok (.if_icmp .le 5, 3) := by decide +kernel
theorem d_Bank_dump_28 : decode b_Bank_dump 28 = .ok (.iconst 0, 1) := by decide +kernel
theorem d_Bank_dump_29 : decode b_Bank_dump 29 = .ok (.ireturn, 1) := by decide +kernel
theorem d_Bank_dump_30 : decode b_Bank_dump 30 = .ok (.aload_n 0, 1) := by decide +kernel
theorem d_Bank_dump_31 : decode b_Bank_dump 31 = .ok (.getfield 16, 3) := by decide +kernel
theorem d_Bank_dump_34 : decode b_Bank_dump 34 = .ok (.iload_n 1, 1) := by decide +kernel
theorem d_Bank_dump_35 : decode b_Bank_dump 35 = .ok (.aload_n 0, 1) := by decide +kernel
theorem d_Bank_dump_36 : decode b_Bank_dump 36 = .ok (.getfield 20, 3) := by decide +kernel
theorem d_Bank_dump_39 : decode b_Bank_dump 39 = .ok (.aload_n 0, 1) := by decide +kernel
theorem d_Bank_dump_40 : decode b_Bank_dump 40 = .ok (.getfield 23, 3) := by decide +kernel
theorem d_Bank_dump_43 : decode b_Bank_dump 43 = .ok (.iload_n 2, 1) := by decide +kernel
theorem d_Bank_dump_44 : decode b_Bank_dump 44 = .ok (.invokestatic 31, 3) := by decide +kernel
theorem d_Bank_dump_47 : decode b_Bank_dump 47 = .ok (.aload_n 0, 1) := by decide +kernel
theorem d_Bank_dump_48 : decode b_Bank_dump 48 = .ok (.dup, 1) := by decide +kernel
theorem d_Bank_dump_49 : decode b_Bank_dump 49 = .ok (.getfield 23, 3) := by decide +kernel
theorem d_Bank_dump_52 : decode b_Bank_dump 52 = .ok (.iload_n 2, 1) := by decide +kernel
theorem d_Bank_dump_53 : decode b_Bank_dump 53 = .ok (.iadd, 1) := by decide +kernel
theorem d_Bank_dump_54 : decode b_Bank_dump 54 = .ok (.putfield 23, 3) := by decide +kernel
theorem d_Bank_dump_57 : decode b_Bank_dump 57 = .ok (.iconst 1, 1) := by decide +kernel
theorem d_Bank_dump_58 : decode b_Bank_dump 58 = .ok (.ireturn, 1) := by decide +kernel
theorem d_Bank_check_0 : decode b_Bank_check 0 = .ok (.iload_n 1, 1) := by decide +kernel
theorem d_Bank_check_1 : decode b_Bank_check 1 = .ok (.iload_n 2, 1) := by decide +kernel
theorem d_Bank_check_2 : decode b_Bank_check 2 = .ok (.sipush 4096, 3) := by decide +kernel
theorem d_Bank_check_5 : decode b_Bank_check 5 = .ok (.invokestatic 27, 3) := by decide +kernel
theorem d_Bank_check_8 : decode b_Bank_check 8 = .ok (.ifCond .eq 19, 3) := by decide +kernel
theorem d_Bank_check_11 : decode b_Bank_check 11 = .ok (.aload_n 0, 1) := by decide +kernel
theorem d_Bank_check_12 : decode b_Bank_check 12 = .ok (.getfield 10, 3) := by decide +kernel
theorem d_Bank_check_15 : decode b_Bank_check 15 = .ok (.aload_n 0, 1) := by decide +kernel
theorem d_Bank_check_16 : decode b_Bank_check 16 = .ok (.getfield 16, 3) := by decide +kernel
theorem d_Bank_check_19 : decode b_Bank_check 19 = .ok (.iload_n 1, 1) := by decide +kernel
theorem d_Bank_check_20 : decode b_Bank_check 20 = .ok (.iload_n 2, 1) := by decide +kernel
theorem d_Bank_check_21 : decode b_Bank_check 21 = .ok (.invokevirtual 37, 3) := by decide +kernel
theorem d_Bank_check_24 : decode b_Bank_check 24 = .ok (.goto 4, 3) := by decide +kernel
theorem d_Bank_check_27 : decode b_Bank_check 27 = .ok (.iconst (-1), 1) := by decide +kernel
theorem d_Bank_check_28 : decode b_Bank_check 28 = .ok (.ireturn, 1) := by decide +kernel
theorem d_Bank_rowCheck_0 : decode b_Bank_rowCheck 0 = .ok (.iload_n 1, 1) := by decide +kernel
theorem d_Bank_rowCheck_1 : decode b_Bank_rowCheck 1 = .ok (.ifCond .lt 11, 3) := by decide +kernel
theorem d_Bank_rowCheck_4 : decode b_Bank_rowCheck 4 = .ok (.iload_n 1, 1) := by decide +kernel
theorem d_Bank_rowCheck_5 : decode b_Bank_rowCheck 5 = .ok (.aload_n 0, 1) := by decide +kernel
theorem d_Bank_rowCheck_6 : decode b_Bank_rowCheck 6 = .ok (.getfield 23, 3) := by decide +kernel
theorem d_Bank_rowCheck_9 : decode b_Bank_rowCheck 9 = .ok (.if_icmp .le 7, 3) := by decide +kernel
theorem d_Bank_rowCheck_12 : decode b_Bank_rowCheck 12 = .ok (.iconst (-1), 1) := by decide +kernel
theorem d_Bank_rowCheck_13 : decode b_Bank_rowCheck 13 = .ok (.goto 16, 3) := by decide +kernel
theorem d_Bank_rowCheck_16 : decode b_Bank_rowCheck 16 = .ok (.aload_n 0, 1) := by decide +kernel
theorem d_Bank_rowCheck_17 : decode b_Bank_rowCheck 17 = .ok (.getfield 10, 3) := by decide +kernel
theorem d_Bank_rowCheck_20 : decode b_Bank_rowCheck 20 = .ok (.aload_n 0, 1) := by decide +kernel
theorem d_Bank_rowCheck_21 : decode b_Bank_rowCheck 21 = .ok (.getfield 20, 3) := by decide +kernel
theorem d_Bank_rowCheck_24 : decode b_Bank_rowCheck 24 = .ok (.iconst 0, 1) := by decide +kernel
theorem d_Bank_rowCheck_25 : decode b_Bank_rowCheck 25 = .ok (.iload_n 1, 1) := by decide +kernel
theorem d_Bank_rowCheck_26 : decode b_Bank_rowCheck 26 = .ok (.invokevirtual 37, 3) := by decide +kernel
theorem d_Bank_rowCheck_29 : decode b_Bank_rowCheck 29 = .ok (.ireturn, 1) := by decide +kernel
theorem d_Bank_seal_0 : decode b_Bank_seal 0 = .ok (.aload_n 0, 1) := by decide +kernel
theorem d_Bank_seal_1 : decode b_Bank_seal 1 = .ok (.getfield 23, 3) := by decide +kernel
theorem d_Bank_seal_4 : decode b_Bank_seal 4 = .ok (.sipush 510, 3) := by decide +kernel
theorem d_Bank_seal_7 : decode b_Bank_seal 7 = .ok (.if_icmp .le 5, 3) := by decide +kernel
theorem d_Bank_seal_10 : decode b_Bank_seal 10 = .ok (.iconst 0, 1) := by decide +kernel
theorem d_Bank_seal_11 : decode b_Bank_seal 11 = .ok (.ireturn, 1) := by decide +kernel
theorem d_Bank_seal_12 : decode b_Bank_seal 12 = .ok (.aload_n 0, 1) := by decide +kernel
theorem d_Bank_seal_13 : decode b_Bank_seal 13 = .ok (.getfield 10, 3) := by decide +kernel
theorem d_Bank_seal_16 : decode b_Bank_seal 16 = .ok (.aload_n 0, 1) := by decide +kernel
theorem d_Bank_seal_17 : decode b_Bank_seal 17 = .ok (.getfield 20, 3) := by decide +kernel
theorem d_Bank_seal_20 : decode b_Bank_seal 20 = .ok (.iconst 0, 1) := by decide +kernel
theorem d_Bank_seal_21 : decode b_Bank_seal 21 = .ok (.aload_n 0, 1) := by decide +kernel
theorem d_Bank_seal_22 : decode b_Bank_seal 22 = .ok (.getfield 23, 3) := by decide +kernel
theorem d_Bank_seal_25 : decode b_Bank_seal 25 = .ok (.invokevirtual 37, 3) := by decide +kernel
theorem d_Bank_seal_28 : decode b_Bank_seal 28 = .ok (.istore_n 1, 1) := by decide +kernel
theorem d_Bank_seal_29 : decode b_Bank_seal 29 = .ok (.aload_n 0, 1) := by decide +kernel
theorem d_Bank_seal_30 : decode b_Bank_seal 30 = .ok (.getfield 20, 3) := by decide +kernel
theorem d_Bank_seal_33 : decode b_Bank_seal 33 = .ok (.aload_n 0, 1) := by decide +kernel
theorem d_Bank_seal_34 : decode b_Bank_seal 34 = .ok (.getfield 23, 3) := by decide +kernel
theorem d_Bank_seal_37 : decode b_Bank_seal 37 = .ok (.iload_n 1, 1) := by decide +kernel
theorem d_Bank_seal_38 : decode b_Bank_seal 38 = .ok (.bipush 8, 2) := by decide +kernel
theorem d_Bank_seal_40 : decode b_Bank_seal 40 = .ok (.ishr, 1) := by decide +kernel
theorem d_Bank_seal_41 : decode b_Bank_seal 41 = .ok (.i2b, 1) := by decide +kernel
theorem d_Bank_seal_42 : decode b_Bank_seal 42 = .ok (.bastore, 1) := by decide +kernel
theorem d_Bank_seal_43 : decode b_Bank_seal 43 = .ok (.aload_n 0, 1) := by decide +kernel
theorem d_Bank_seal_44 : decode b_Bank_seal 44 = .ok (.getfield 20, 3) := by decide +kernel
theorem d_Bank_seal_47 : decode b_Bank_seal 47 = .ok (.aload_n 0, 1) := by decide +kernel
theorem d_Bank_seal_48 : decode b_Bank_seal 48 = .ok (.getfield 23, 3) := by decide +kernel
theorem d_Bank_seal_51 : decode b_Bank_seal 51 = .ok (.iconst 1, 1) := by decide +kernel
theorem d_Bank_seal_52 : decode b_Bank_seal 52 = .ok (.iadd, 1) := by decide +kernel
theorem d_Bank_seal_53 : decode b_Bank_seal 53 = .ok (.iload_n 1, 1) := by decide +kernel
theorem d_Bank_seal_54 : decode b_Bank_seal 54 = .ok (.i2b, 1) := by decide +kernel
theorem d_Bank_seal_55 : decode b_Bank_seal 55 = .ok (.bastore, 1) := by decide +kernel
theorem d_Bank_seal_56 : decode b_Bank_seal 56 = .ok (.aload_n 0, 1) := by decide +kernel
theorem d_Bank_seal_57 : decode b_Bank_seal 57 = .ok (.dup, 1) := by decide +kernel
theorem d_Bank_seal_58 : decode b_Bank_seal 58 = .ok (.getfield 23, 3) := by decide +kernel
theorem d_Bank_seal_61 : decode b_Bank_seal 61 = .ok (.iconst 2, 1) := by decide +kernel
theorem d_Bank_seal_62 : decode b_Bank_seal 62 = .ok (.iadd, 1) := by decide +kernel
theorem d_Bank_seal_63 : decode b_Bank_seal 63 = .ok (.putfield 23, 3) := by decide +kernel
theorem d_Bank_seal_66 : decode b_Bank_seal 66 = .ok (.iconst 1, 1) := by decide +kernel
theorem d_Bank_seal_67 : decode b_Bank_seal 67 = .ok (.ireturn, 1) := by decide +kernel
theorem d_Bank_at_0 : decode b_Bank_at 0 = .ok (.iload_n 1, 1) := by decide +kernel
theorem d_Bank_at_1 : decode b_Bank_at 1 = .ok (.ifCond .lt 10, 3) := by decide +kernel
theorem d_Bank_at_4 : decode b_Bank_at 4 = .ok (.iload_n 1, 1) := by decide +kernel
theorem d_Bank_at_5 : decode b_Bank_at 5 = .ok (.sipush 4096, 3) := by decide +kernel
theorem d_Bank_at_8 : decode b_Bank_at 8 = .ok (.if_icmp .lt 7, 3) := by decide +kernel
theorem d_Bank_at_11 : decode b_Bank_at 11 = .ok (.iconst (-1), 1) := by decide +kernel
theorem d_Bank_at_12 : decode b_Bank_at 12 = .ok (.goto 13, 3) := by decide +kernel
theorem d_Bank_at_15 : decode b_Bank_at 15 = .ok (.aload_n 0, 1) := by decide +kernel
theorem d_Bank_at_16 : decode b_Bank_at 16 = .ok (.getfield 16, 3) := by decide +kernel
theorem d_Bank_at_19 : decode b_Bank_at 19 = .ok (.iload_n 1, 1) := by decide +kernel
theorem d_Bank_at_20 : decode b_Bank_at 20 = .ok (.baload, 1) := by decide +kernel
theorem d_Bank_at_21 : decode b_Bank_at 21 = .ok (.sipush 255, 3) := by decide +kernel
theorem d_Bank_at_24 : decode b_Bank_at 24 = .ok (.iand, 1) := by decide +kernel
theorem d_Bank_at_25 : decode b_Bank_at 25 = .ok (.ireturn, 1) := by decide +kernel
end
section
-- the instructions, decoded
theorem d_Model_init_0 : decode b_Model_init 0 = .ok (.aload_n 0, 1) := by decide +kernel
theorem d_Model_init_1 : decode b_Model_init 1 = .ok (.invokespecial 1, 3) := by decide +kernel
theorem d_Model_init_4 : decode b_Model_init 4 = .ok (.aload_n 0, 1) := by decide +kernel
theorem d_Model_init_5 : decode b_Model_init 5 = .ok (.sipush 4096, 3) := by decide +kernel
theorem d_Model_init_8 : decode b_Model_init 8 = .ok (.newarray .byte, 2) := by decide +kernel
theorem d_Model_init_10 : decode b_Model_init 10 = .ok (.putfield 7, 3) := by decide +kernel
theorem d_Model_init_13 : decode b_Model_init 13 = .ok (.aload_n 0, 1) := by decide +kernel
theorem d_Model_init_14 : decode b_Model_init 14 = .ok (.sipush 512, 3) := by decide +kernel
theorem d_Model_init_17 : decode b_Model_init 17 = .ok (.newarray .byte, 2) := by decide +kernel
theorem d_Model_init_19 : decode b_Model_init 19 = .ok (.putfield 13, 3) := by decide +kernel
theorem d_Model_init_22 : decode b_Model_init 22 = .ok (.return_, 1) := by decide +kernel
theorem d_Model_checkOf_0 : decode b_Model_checkOf 0 = .ok (.ldc 20, 2) := by decide +kernel
theorem d_Model_checkOf_2 : decode b_Model_checkOf 2 = .ok (.istore_n 3, 1) := by decide +kernel
theorem d_Model_checkOf_3 : decode b_Model_checkOf 3 = .ok (.iconst 0, 1) := by decide +kernel
theorem d_Model_checkOf_4 : decode b_Model_checkOf 4 = .ok (.istore 4, 2) := by decide +kernel
theorem d_Model_checkOf_6 : decode b_Model_checkOf 6 = .ok (.iload 4, 2) := by decide +kernel
theorem d_Model_checkOf_8 : decode b_Model_checkOf 8 = .ok (.bipush 8, 2) := by decide +kernel
theorem d_Model_checkOf_10 : decode b_Model_checkOf 10 = .ok (.iload_n 2, 1) := by decide +kernel
theorem d_Model_checkOf_11 : decode b_Model_checkOf 11 = .ok (.imul, 1) := by decide +kernel
theorem d_Model_checkOf_12 : decode b_Model_checkOf 12 = .ok (.if_icmp .ge 63, 3) := by decide +kernel
theorem d_Model_checkOf_15 : decode b_Model_checkOf 15 = .ok (.aload_n 0, 1) := by decide +kernel
theorem d_Model_checkOf_16 : decode b_Model_checkOf 16 = .ok (.iload_n 1, 1) := by decide +kernel
theorem d_Model_checkOf_17 : decode b_Model_checkOf 17 = .ok (.iload 4, 2) := by decide +kernel
theorem d_Model_checkOf_19 : decode b_Model_checkOf 19 = .ok (.bipush 8, 2) := by decide +kernel
theorem d_Model_checkOf_21 : decode b_Model_checkOf 21 = .ok (.idiv, 1) := by decide +kernel
theorem d_Model_checkOf_22 : decode b_Model_checkOf 22 = .ok (.iadd, 1) := by decide +kernel
theorem d_Model_checkOf_23 : decode b_Model_checkOf 23 = .ok (.baload, 1) := by decide +kernel
theorem d_Model_checkOf_24 : decode b_Model_checkOf 24 = .ok (.bipush 7, 2) := by decide +kernel
theorem d_Model_checkOf_26 : decode b_Model_checkOf 26 = .ok (.iload 4, 2) := by decide +kernel
theorem d_Model_checkOf_28 : decode b_Model_checkOf 28 = .ok (.bipush 8, 2) := by decide +kernel
theorem d_Model_checkOf_30 : decode b_Model_checkOf 30 = .ok (.irem, 1) := by decide +kernel
theorem d_Model_checkOf_31 : decode b_Model_checkOf 31 = .ok (.isub, 1) := by decide +kernel
theorem d_Model_checkOf_32 : decode b_Model_checkOf 32 = .ok (.ishr, 1) := by decide +kernel
theorem d_Model_checkOf_33 : decode b_Model_checkOf 33 = .ok (.iconst 1, 1) := by decide +kernel
theorem d_Model_checkOf_34 : decode b_Model_checkOf 34 = .ok (.iand, 1) := by decide +kernel
theorem d_Model_checkOf_35 : decode b_Model_checkOf 35 = .ok (.istore 5, 2) := by decide +kernel
theorem d_Model_checkOf_37 : decode b_Model_checkOf 37 = .ok (.iload_n 3, 1) := by decide +kernel
theorem d_Model_checkOf_38 : decode b_Model_checkOf 38 = .ok (.bipush 15, 2) := by decide +kernel
theorem d_Model_checkOf_40 : decode b_Model_checkOf 40 = .ok (.ishr, 1) := by decide +kernel
theorem d_Model_checkOf_41 : decode b_Model_checkOf 41 = .ok (.istore 6, 2) := by decide +kernel
theorem d_Model_checkOf_43 : decode b_Model_checkOf 43 = .ok (.iload_n 3, 1) := by decide +kernel
theorem d_Model_checkOf_44 : decode b_Model_checkOf 44 = .ok (.iconst 1, 1) := by decide +kernel
theorem d_Model_checkOf_45 : decode b_Model_checkOf 45 = .ok (.ishl, 1) := by decide +kernel
theorem d_Model_checkOf_46 : decode b_Model_checkOf 46 = .ok (.ldc 20, 2) := by decide +kernel
theorem d_Model_checkOf_48 : decode b_Model_checkOf 48 = .ok (.iand, 1) := by decide +kernel
theorem d_Model_checkOf_49 : decode b_Model_checkOf 49 = .ok (.istore_n 3, 1) := by decide +kernel
theorem d_Model_checkOf_50 : decode b_Model_checkOf 50 = .ok (.iload 6, 2) := by decide +kernel
theorem d_Model_checkOf_52 : decode b_Model_checkOf 52 = .ok (.iload 5, 2) := by decide +kernel
theorem d_Model_checkOf_54 : decode b_Model_checkOf 54 = .ok (.ixor, 1) := by decide +kernel
theorem d_Model_checkOf_55 : decode b_Model_checkOf 55 = .ok (.iconst 1, 1) := by decide +kernel
theorem d_Model_checkOf_56 : decode b_Model_checkOf 56 = .ok (.if_icmp .ne 11, 3) := by decide +kernel
theorem d_Model_checkOf_59 : decode b_Model_checkOf 59 = .ok (.iload_n 3, 1) := by decide +kernel
theorem d_Model_checkOf_60 : decode b_Model_checkOf 60 = .ok (.sipush 4129, 3) := by decide +kernel
theorem d_Model_checkOf_63 : decode b_Model_checkOf 63 = .ok (.ixor, 1) := by decide +kernel
theorem d_Model_checkOf_64 : decode b_Model_checkOf 64 = .ok (.goto 4, 3) := by decide +kernel
theorem d_Model_checkOf_67 : decode b_Model_checkOf 67 = .ok (.iload_n 3, 1) := by decide +kernel
theorem d_Model_checkOf_68 : decode b_Model_checkOf 68 = .ok (.istore_n 3, 1) := by decide +kernel
theorem d_Model_checkOf_69 : decode b_Model_checkOf 69 = .ok (.iinc 4 1, 3) := by decide +kernel
theorem d_Model_checkOf_72 : decode b_Model_checkOf 72 = .ok (.goto (-66), 3) := by decide +kernel
theorem d_Model_checkOf_75 : decode b_Model_checkOf 75 = .ok (.iload_n 3, 1) := by decide +kernel
theorem d_Model_checkOf_76 : decode b_Model_checkOf 76 = .ok (.ireturn, 1) := by decide +kernel
theorem d_Model_in_0 : decode b_Model_in 0 = .ok (.iload_n 0, 1) := by decide +kernel
theorem d_Model_in_1 : decode b_Model_in 1 = .ok (.ifCond .lt 22, 3) := by decide +kernel
theorem d_Model_in_4 : decode b_Model_in 4 = .ok (.iload_n 1, 1) := by decide +kernel
theorem d_Model_in_5 : decode b_Model_in 5 = .ok (.ifCond .lt 18, 3) := by decide +kernel
theorem d_Model_in_8 : decode b_Model_in 8 = .ok (.iload_n 0, 1) := by decide +kernel
theorem d_Model_in_9 : decode b_Model_in 9 = .ok (.i2l, 1) := by decide +kernel
theorem d_Model_in_10 : decode b_Model_in 10 = .ok (.iload_n 1, 1) := by decide +kernel
theorem d_Model_in_11 : decode b_Model_in 11 = .ok (.i2l, 1) := by decide +kernel
theorem d_Model_in_12 : decode b_Model_in 12 = .ok (.ladd, 1) := by decide +kernel
theorem d_Model_in_13 : decode b_Model_in 13 = .ok (.iload_n 2, 1) := by decide +kernel
theorem d_Model_in_14 : decode b_Model_in 14 = .ok (.i2l, 1) := by decide +kernel
theorem d_Model_in_15 : decode b_Model_in 15 = .ok (.lcmp, 1) := by decide +kernel
theorem d_Model_in_16 : decode b_Model_in 16 = .ok (.ifCond .gt 7, 3) := by decide +kernel
theorem d_Model_in_19 : decode b_Model_in 19 = .ok (.iconst 1, 1) := by decide +kernel
theorem d_Model_in_20 : decode b_Model_in 20 = .ok (.goto 4, 3) := by decide +kernel
theorem d_Model_in_23 : decode b_Model_in 23 = .ok (.iconst 0, 1) := by decide +kernel
theorem d_Model_in_24 : decode b_Model_in 24 = .ok (.ireturn, 1) := by decide +kernel
theorem d_Model_put_0 : decode b_Model_put 0 = .ok (.aload_n 0, 1) := by decide +kernel
theorem d_Model_put_1 : decode b_Model_put 1 = .ok (.iconst 0, 1) := by decide +kernel
theorem d_Model_put_2 : decode b_Model_put 2 = .ok (.putfield 16, 3) := by decide +kernel
theorem d_Model_put_5 : decode b_Model_put 5 = .ok (.aload_n 0, 1) := by decide +kernel
theorem d_Model_put_6 : decode b_Model_put 6 = .ok (.getfield 21, 3) := by decide +kernel
theorem d_Model_put_9 : decode b_Model_put 9 = .ok (.sipush 512, 3) := by decide +kernel
theorem d_Model_put_12 : decode b_Model_put 12 = .ok (.if_icmp .ne 5, 3) := by decide +kernel
theorem d_Model_put_15 : decode b_Model_put 15 = .ok (.iconst (-1), 1) := by decide +kernel
theorem d_Model_put_16 : decode b_Model_put 16 = .ok (.ireturn, 1) := by decide +kernel
theorem d_Model_put_17 : decode b_Model_put 17 = .ok (.aload_n 0, 1) := by decide +kernel
theorem d_Model_put_18 : decode b_Model_put 18 = .ok (.getfield 13, 3) := by decide +kernel
theorem d_Model_put_21 : decode b_Model_put 21 = .ok (.aload_n 0, 1) := by decide +kernel
theorem d_Model_put_22 : decode b_Model_put 22 = .ok (.getfield 21, 3) := by decide +kernel
theorem d_Model_put_25 : decode b_Model_put 25 = .ok (.iload_n 1, 1) := by decide +kernel
theorem d_Model_put_26 : decode b_Model_put 26 = .ok (.i2b, 1) := by decide +kernel
theorem d_Model_put_27 : decode b_Model_put 27 = .ok (.bastore, 1) := by decide +kernel
theorem d_Model_put_28 : decode b_Model_put 28 = .ok (.aload_n 0, 1) := by decide +kernel
theorem d_Model_put_29 : decode b_Model_put 29 = .ok (.dup, 1) := by decide +kernel
theorem d_Model_put_30 : decode b_Model_put 30 = .ok (.getfield 21, 3) := by decide +kernel
theorem d_Model_put_33 : decode b_Model_put 33 = .ok (.iconst 1, 1) := by decide +kernel
theorem d_Model_put_34 : decode b_Model_put 34 = .ok (.iadd, 1) := by decide +kernel
theorem d_Model_put_35 : decode b_Model_put 35 = .ok (.putfield 21, 3) := by decide +kernel
theorem d_Model_put_38 : decode b_Model_put 38 = .ok (.aload_n 0, 1) := by decide +kernel
theorem d_Model_put_39 : decode b_Model_put 39 = .ok (.getfield 21, 3) := by decide +kernel
theorem d_Model_put_42 : decode b_Model_put 42 = .ok (.ireturn, 1) := by decide +kernel
theorem d_Model_cut_0 : decode b_Model_cut 0 = .ok (.aload_n 0, 1) := by decide +kernel
theorem d_Model_cut_1 : decode b_Model_cut 1 = .ok (.iconst 0, 1) := by decide +kernel
theorem d_Model_cut_2 : decode b_Model_cut 2 = .ok (.putfield 16, 3) := by decide +kernel
theorem d_Model_cut_5 : decode b_Model_cut 5 = .ok (.iload_n 1, 1) := by decide +kernel
theorem d_Model_cut_6 : decode b_Model_cut 6 = .ok (.ifCond .lt 11, 3) := by decide +kernel
theorem d_Model_cut_9 : decode b_Model_cut 9 = .ok (.iload_n 1, 1) := by decide +kernel
theorem d_Model_cut_10 : decode b_Model_cut 10 = .ok (.aload_n 0, 1) := by decide +kernel
theorem d_Model_cut_11 : decode b_Model_cut 11 = .ok (.getfield 21, 3) := by decide +kernel
theorem d_Model_cut_14 : decode b_Model_cut 14 = .ok (.if_icmp .le 5, 3) := by decide +kernel
theorem d_Model_cut_17 : decode b_Model_cut 17 = .ok (.iconst 0, 1) := by decide +kernel
theorem d_Model_cut_18 : decode b_Model_cut 18 = .ok (.ireturn, 1) := by decide +kernel
theorem d_Model_cut_19 : decode b_Model_cut 19 = .ok (.aload_n 0, 1) := by decide +kernel
theorem d_Model_cut_20 : decode b_Model_cut 20 = .ok (.iload_n 1, 1) := by decide +kernel
theorem d_Model_cut_21 : decode b_Model_cut 21 = .ok (.putfield 21, 3) := by decide +kernel
theorem d_Model_cut_24 : decode b_Model_cut 24 = .ok (.iconst 1, 1) := by decide +kernel
theorem d_Model_cut_25 : decode b_Model_cut 25 = .ok (.ireturn, 1) := by decide +kernel
theorem d_Model_size_0 : decode b_Model_size 0 = .ok (.aload_n 0, 1) := by decide +kernel
theorem d_Model_size_1 : decode b_Model_size 1 = .ok (.iconst 0, 1) := by decide +kernel
theorem d_Model_size_2 : decode b_Model_size 2 = .ok (.putfield 16, 3) := by decide +kernel
theorem d_Model_size_5 : decode b_Model_size 5 = .ok (.aload_n 0, 1) := by decide +kernel
theorem d_Model_size_6 : decode b_Model_size 6 = .ok (.getfield 21, 3) := by decide +kernel
theorem d_Model_size_9 : decode b_Model_size 9 = .ok (.ireturn, 1) := by decide +kernel
theorem d_Model_rowAt_0 : decode b_Model_rowAt 0 = .ok (.aload_n 0, 1) := by decide +kernel
theorem d_Model_rowAt_1 : decode b_Model_rowAt 1 = .ok (.iconst 0, 1) := by decide +kernel
theorem d_Model_rowAt_2 : decode b_Model_rowAt 2 = .ok (.putfield 16, 3) := by decide +kernel
theorem d_Model_rowAt_5 : decode b_Model_rowAt 5 = .ok (.iload_n 1, 1) := by decide +kernel
theorem d_Model_rowAt_6 : decode b_Model_rowAt 6 = .ok (.ifCond .lt 11, 3) := by decide +kernel
theorem d_Model_rowAt_9 : decode b_Model_rowAt 9 = .ok (.iload_n 1, 1) := by decide +kernel
theorem d_Model_rowAt_10 : decode b_Model_rowAt 10 = .ok (.aload_n 0, 1) := by decide +kernel
theorem d_Model_rowAt_11 : decode b_Model_rowAt 11 = .ok (.getfield 21, 3) := by decide +kernel
theorem d_Model_rowAt_14 : decode b_Model_rowAt 14 = .ok (.if_icmp .lt 7, 3) := by decide +kernel
theorem d_Model_rowAt_17 : decode b_Model_rowAt 17 = .ok (.iconst (-1), 1) := by decide +kernel
theorem d_Model_rowAt_18 : decode b_Model_rowAt 18 = .ok (.goto 13, 3) := by decide +kernel
theorem d_Model_rowAt_21 : decode b_Model_rowAt 21 = .ok (.aload_n 0, 1) := by decide +kernel
theorem d_Model_rowAt_22 : decode b_Model_rowAt 22 = .ok (.getfield 13, 3) := by decide +kernel
theorem d_Model_rowAt_25 : decode b_Model_rowAt 25 = .ok (.iload_n 1, 1) := by decide +kernel
theorem d_Model_rowAt_26 : decode b_Model_rowAt 26 = .ok (.baload, 1) := by decide +kernel
theorem d_Model_rowAt_27 : decode b_Model_rowAt 27 = .ok (.sipush 255, 3) := by decide +kernel
theorem d_Model_rowAt_30 : decode b_Model_rowAt 30 = .ok (.iand, 1) := by decide +kernel
theorem d_Model_rowAt_31 : decode b_Model_rowAt 31 = .ok (.ireturn, 1) := by decide +kernel
theorem d_Model_load_0 : decode b_Model_load 0 = .ok (.aload_n 0, 1) := by decide +kernel
theorem d_Model_load_1 : decode b_Model_load 1 = .ok (.iconst 0, 1) := by decide +kernel
theorem d_Model_load_2 : decode b_Model_load 2 = .ok (.putfield 16, 3) := by decide +kernel
theorem d_Model_load_5 : decode b_Model_load 5 = .ok (.iload_n 2, 1) := by decide +kernel
theorem d_Model_load_6 : decode b_Model_load 6 = .ok (.iconst 1, 1) := by decide +kernel
theorem d_Model_load_7 : decode b_Model_load 7 = .ok (.if_icmp .lt 26, 3) := by decide +kernel
theorem d_Model_load_10 : decode b_Model_load 10 = .ok (.iload_n 1, 1) := by decide +kernel
theorem d_Model_load_11 : decode b_Model_load 11 = .ok (.iload_n 2, 1) := by decide +kernel
theorem d_Model_load_12 : decode b_Model_load 12 = .ok (.aload_n 0, 1) := by decide +kernel
theorem d_Model_load_13 : decode b_Model_load 13 = .ok (.getfield 21, 3) := by decide +kernel
theorem d_Model_load_16 : decode b_Model_load 16 = .ok (.invokestatic 24, 3) := by decide +kernel
theorem d_Model_load_19 : decode b_Model_load 19 = .ok (.ifCond .eq 14, 3) := by decide +kernel
theorem d_Model_load_22 : decode b_Model_load 22 = .ok (.iload_n 3, 1) := by decide +kernel
theorem d_Model_load_23 : decode b_Model_load 23 = .ok (.iload_n 2, 1) := by decide +kernel
theorem d_Model_load_24 : decode b_Model_load 24 = .ok (.sipush 4096, 3) := by decide +kernel
theorem d_Model_load_27 : decode b_Model_load 27 = .ok (.invokestatic 24, 3) := by decide +kernel
theorem d_Model_load_30 : decode b_Model_load 30 = .ok (.ifCond .ne 5, 3) := by decide +kernel
theorem d_Model_load_33 : decode b_Model_load 33 = .ok (.iconst 0, 1) := by decide +kernel
theorem d_Model_load_34 : decode b_Model_load 34 = .ok (.ireturn, 1) := by decide +kernel
theorem d_Model_load_35 : decode b_Model_load 35 = .ok (.iconst 0, 1) := by decide +kernel
theorem d_Model_load_36 : decode b_Model_load 36 = .ok (.istore 4, 2) := by decide +kernel
theorem d_Model_load_38 : decode b_Model_load 38 = .ok (.iload 4, 2) := by decide +kernel
theorem d_Model_load_40 : decode b_Model_load 40 = .ok (.iload_n 2, 1) := by decide +kernel
theorem d_Model_load_41 : decode b_Model_load 41 = .ok (.if_icmp .ge 27, 3) := by decide +kernel
theorem d_Model_load_44 : decode b_Model_load 44 = .ok (.aload_n 0, 1) := by decide +kernel
theorem d_Model_load_45 : decode b_Model_load 45 = .ok (.getfield 7, 3) := by decide +kernel
theorem d_Model_load_48 : decode b_Model_load 48 = .ok (.iload_n 3, 1) := by decide +kernel
theorem d_Model_load_49 : decode b_Model_load 49 = .ok (.iload 4, 2) := by decide +kernel
theorem d_Model_load_51 : decode b_Model_load 51 = .ok (.iadd, 1) := by decide +kernel
theorem d_Model_load_52 : decode b_Model_load 52 = .ok (.aload_n 0, 1) := by decide +kernel
theorem d_Model_load_53 : decode b_Model_load 53 = .ok (.getfield 13, 3) := by decide +kernel
theorem d_Model_load_56 : decode b_Model_load 56 = .ok (.iload_n 1, 1) := by decide +kernel
theorem d_Model_load_57 : decode b_Model_load 57 = .ok (.iload 4, 2) := by decide +kernel
theorem d_Model_load_59 : decode b_Model_load 59 = .ok (.iadd, 1) := by decide +kernel
theorem d_Model_load_60 : decode b_Model_load 60 = .ok (.baload, 1) := by decide +kernel
theorem d_Model_load_61 : decode b_Model_load 61 = .ok (.bastore, 1) := by decide +kernel
theorem d_Model_load_62 : decode b_Model_load 62 = .ok (.iinc 4 1, 3) := by decide +kernel
theorem d_Model_load_65 : decode b_Model_load 65 = .ok (.goto (-27), 3) := by decide +kernel
theorem d_Model_load_68 : decode b_Model_load 68 = .ok (.iconst 1, 1) := by decide +kernel
theorem d_Model_load_69 : decode b_Model_load 69 = .ok (.ireturn, 1) := by decide +kernel
theorem d_Model_dump_0 : decode b_Model_dump 0 = .ok (.aload_n 0, 1) := by decide +kernel
theorem d_Model_dump_1 : decode b_Model_dump 1 = .ok (.iconst 0, 1) := by decide +kernel
theorem d_Model_dump_2 : decode b_Model_dump 2 = .ok (.putfield 16, 3) := by decide +kernel
theorem d_Model_dump_5 : decode b_Model_dump 5 = .ok (.iload_n 2, 1) := by decide +kernel
theorem d_Model_dump_6 : decode b_Model_dump 6 = .ok (.iconst 1, 1) := by decide +kernel
theorem d_Model_dump_7 : decode b_Model_dump 7 = .ok (.if_icmp .lt 28, 3) := by decide +kernel
theorem d_Model_dump_10 : decode b_Model_dump 10 = .ok (.iload_n 1, 1) := by decide +kernel
theorem d_Model_dump_11 : decode b_Model_dump 11 = .ok (.iload_n 2, 1) := by decide +kernel
theorem d_Model_dump_12 : decode b_Model_dump 12 = .ok (.sipush 4096, 3) := by decide +kernel
theorem d_Model_dump_15 : decode b_Model_dump 15 = .ok (.invokestatic 24, 3) := by decide +kernel
theorem d_Model_dump_18 : decode b_Model_dump 18 = .ok (.ifCond .eq 17, 3) := by decide +kernel
theorem d_Model_dump_21 : decode b_Model_dump 21 = .ok (.aload_n 0, 1) := by decide +kernel
theorem d_Model_dump_22 : decode b_Model_dump 22 = .ok (.getfield 21, 3) := by decide +kernel
theorem d_Model_dump_25 : decode b_Model_dump 25 = .ok (.iload_n 2, 1) := by decide +kernel
theorem d_Model_dump_26 : decode b_Model_dump 26 = .ok (.sipush 512, 3) := by decide +kernel
theorem d_Model_dump_29 : decode b_Model_dump 29 = .ok (.invokestatic 24, 3) := by decide +kernel
theorem d_Model_dump_32 : decode b_Model_dump 32 = .ok (.ifCond .ne 5, 3) := by decide +kernel
theorem d_Model_dump_35 : decode b_Model_dump 35 = .ok (.iconst 0, 1) := by decide +kernel
theorem d_Model_dump_36 : decode b_Model_dump 36 = .ok (.ireturn, 1) := by decide +kernel
theorem d_Model_dump_37 : decode b_Model_dump 37 = .ok (.iconst 0, 1) := by decide +kernel
theorem d_Model_dump_38 : decode b_Model_dump 38 = .ok (.istore_n 3, 1) := by decide +kernel
theorem d_Model_dump_39 : decode b_Model_dump 39 = .ok (.iload_n 3, 1) := by decide +kernel
theorem d_Model_dump_40 : decode b_Model_dump 40 = .ok (.iload_n 2, 1) := by decide +kernel
theorem d_Model_dump_41 : decode b_Model_dump 41 = .ok (.if_icmp .ge 36, 3) := by decide +kernel
theorem d_Model_dump_44 : decode b_Model_dump 44 = .ok (.aload_n 0, 1) := by decide +kernel
theorem d_Model_dump_45 : decode b_Model_dump 45 = .ok (.getfield 13, 3) := by decide +kernel
theorem d_Model_dump_48 : decode b_Model_dump 48 = .ok (.aload_n 0, 1) := by decide +kernel
theorem d_Model_dump_49 : decode b_Model_dump 49 = .ok (.getfield 21, 3) := by decide +kernel
theorem d_Model_dump_52 : decode b_Model_dump 52 = .ok (.aload_n 0, 1) := by decide +kernel
theorem d_Model_dump_53 : decode b_Model_dump 53 = .ok (.getfield 7, 3) := by decide +kernel
theorem d_Model_dump_56 : decode b_Model_dump 56 = .ok (.iload_n 1, 1) := by decide +kernel
theorem d_Model_dump_57 : decode b_Model_dump 57 = .ok (.iload_n 3, 1) := by decide +kernel
theorem d_Model_dump_58 : decode b_Model_dump 58 = .ok (.iadd, 1) := by decide +kernel
theorem d_Model_dump_59 : decode b_Model_dump 59 = .ok (.baload, 1) := by decide +kernel
theorem d_Model_dump_60 : decode b_Model_dump 60 = .ok (.bastore, 1) := by decide +kernel
theorem d_Model_dump_61 : decode b_Model_dump 61 = .ok (.aload_n 0, 1) := by decide +kernel
theorem d_Model_dump_62 : decode b_Model_dump 62 = .ok (.dup, 1) := by decide +kernel
theorem d_Model_dump_63 : decode b_Model_dump 63 = .ok (.getfield 21, 3) := by decide +kernel
theorem d_Model_dump_66 : decode b_Model_dump 66 = .ok (.iconst 1, 1) := by decide +kernel
theorem d_Model_dump_67 : decode b_Model_dump 67 = .ok (.iadd, 1) := by decide +kernel
theorem d_Model_dump_68 : decode b_Model_dump 68 = .ok (.putfield 21, 3) := by decide +kernel
theorem d_Model_dump_71 : decode b_Model_dump 71 = .ok (.iinc 3 1, 3) := by decide +kernel
theorem d_Model_dump_74 : decode b_Model_dump 74 = .ok (.goto (-35), 3) := by decide +kernel
theorem d_Model_dump_77 : decode b_Model_dump 77 = .ok (.iconst 1, 1) := by decide +kernel
theorem d_Model_dump_78 : decode b_Model_dump 78 = .ok (.ireturn, 1) := by decide +kernel
theorem d_Model_check_0 : decode b_Model_check 0 = .ok (.aload_n 0, 1) := by decide +kernel
theorem d_Model_check_1 : decode b_Model_check 1 = .ok (.iconst 0, 1) := by decide +kernel
theorem d_Model_check_2 : decode b_Model_check 2 = .ok (.putfield 16, 3) := by decide +kernel
theorem d_Model_check_5 : decode b_Model_check 5 = .ok (.iload_n 1, 1) := by decide +kernel
theorem d_Model_check_6 : decode b_Model_check 6 = .ok (.iload_n 2, 1) := by decide +kernel
theorem d_Model_check_7 : decode b_Model_check 7 = .ok (.sipush 4096, 3) := by decide +kernel
theorem d_Model_check_10 : decode b_Model_check 10 = .ok (.invokestatic 24, 3) := by decide +kernel
theorem d_Model_check_13 : decode b_Model_check 13 = .ok (.ifCond .eq 15, 3) := by decide +kernel
theorem d_Model_check_16 : decode b_Model_check 16 = .ok (.aload_n 0, 1) := by decide +kernel
theorem d_Model_check_17 : decode b_Model_check 17 = .ok (.getfield 7, 3) := by decide +kernel
theorem d_Model_check_20 : decode b_Model_check 20 = .ok (.iload_n 1, 1) := by decide +kernel
theorem d_Model_check_21 : decode b_Model_check 21 = .ok (.iload_n 2, 1) := by decide +kernel
theorem d_Model_check_22 : decode b_Model_check 22 = .ok (.invokestatic 28, 3) := by decide +kernel
theorem d_Model_check_25 : decode b_Model_check 25 = .ok (.goto 4, 3) := by decide +kernel
theorem d_Model_check_28 : decode b_Model_check 28 = .ok (.iconst (-1), 1) := by decide +kernel
theorem d_Model_check_29 : decode b_Model_check 29 = .ok (.ireturn, 1) := by decide +kernel
theorem d_Model_rowCheck_0 : decode b_Model_rowCheck 0 = .ok (.aload_n 0, 1) := by decide +kernel
theorem d_Model_rowCheck_1 : decode b_Model_rowCheck 1 = .ok (.iconst 0, 1) := by decide +kernel
theorem d_Model_rowCheck_2 : decode b_Model_rowCheck 2 = .ok (.putfield 16, 3) := by decide +kernel
theorem d_Model_rowCheck_5 : decode b_Model_rowCheck 5 = .ok (.iconst 0, 1) := by decide +kernel
theorem d_Model_rowCheck_6 : decode b_Model_rowCheck 6 = .ok (.iload_n 1, 1) := by decide +kernel
theorem d_Model_rowCheck_7 : decode b_Model_rowCheck 7 = .ok (.aload_n 0, 1) := by decide +kernel
theorem d_Model_rowCheck_8 : decode b_Model_rowCheck 8 = .ok (.getfield 21, 3) := by decide +kernel
theorem d_Model_rowCheck_11 : decode b_Model_rowCheck 11 = .ok (.invokestatic 24, 3) := by decide +kernel
theorem d_Model_rowCheck_14 : decode b_Model_rowCheck 14 = .ok (.ifCond .eq 15, 3) := by decide +kernel
theorem d_Model_rowCheck_17 : decode b_Model_rowCheck 17 = .ok (.aload_n 0, 1) := by decide +kernel
theorem d_Model_rowCheck_18 : decode b_Model_rowCheck 18 = .ok (.getfield 13, 3) := by decide +kernel
theorem d_Model_rowCheck_21 : decode b_Model_rowCheck 21 = .ok (.iconst 0, 1) := by decide +kernel
theorem d_Model_rowCheck_22 : decode b_Model_rowCheck 22 = .ok (.iload_n 1, 1) := by decide +kernel
theorem d_Model_rowCheck_23 : decode b_Model_rowCheck 23 = .ok (.invokestatic 28, 3) := by decide +kernel
theorem d_Model_rowCheck_26 : decode b_Model_rowCheck 26 = .ok (.goto 4, 3) := by decide +kernel
theorem d_Model_rowCheck_29 : decode b_Model_rowCheck 29 = .ok (.iconst (-1), 1) := by decide +kernel
theorem d_Model_rowCheck_30 : decode b_Model_rowCheck 30 = .ok (.ireturn, 1) := by decide +kernel
theorem d_Model_seal_0 : decode b_Model_seal 0 = .ok (.aload_n 0, 1) := by decide +kernel
theorem d_Model_seal_1 : decode b_Model_seal 1 = .ok (.iconst 0, 1) := by decide +kernel
theorem d_Model_seal_2 : decode b_Model_seal 2 = .ok (.putfield 16, 3) := by decide +kernel
theorem d_Model_seal_5 : decode b_Model_seal 5 = .ok (.aload_n 0, 1) := by decide +kernel
theorem d_Model_seal_6 : decode b_Model_seal 6 = .ok (.getfield 21, 3) := by decide +kernel
theorem d_Model_seal_9 : decode b_Model_seal 9 = .ok (.sipush 510, 3) := by decide +kernel
theorem d_Model_seal_12 : decode b_Model_seal 12 = .ok (.if_icmp .le 5, 3) := by decide +kernel
theorem d_Model_seal_15 : decode b_Model_seal 15 = .ok (.iconst 0, 1) := by decide +kernel
theorem d_Model_seal_16 : decode b_Model_seal 16 = .ok (.ireturn, 1) := by decide +kernel
theorem d_Model_seal_17 : decode b_Model_seal 17 = .ok (.aload_n 0, 1) := by decide +kernel
theorem d_Model_seal_18 : decode b_Model_seal 18 = .ok (.getfield 13, 3) := by decide +kernel
theorem d_Model_seal_21 : decode b_Model_seal 21 = .ok (.iconst 0, 1) := by decide +kernel
theorem d_Model_seal_22 : decode b_Model_seal 22 = .ok (.aload_n 0, 1) := by decide +kernel
theorem d_Model_seal_23 : decode b_Model_seal 23 = .ok (.getfield 21, 3) := by decide +kernel
theorem d_Model_seal_26 : decode b_Model_seal 26 = .ok (.invokestatic 28, 3) := by decide +kernel
theorem d_Model_seal_29 : decode b_Model_seal 29 = .ok (.istore_n 1, 1) := by decide +kernel
theorem d_Model_seal_30 : decode b_Model_seal 30 = .ok (.aload_n 0, 1) := by decide +kernel
theorem d_Model_seal_31 : decode b_Model_seal 31 = .ok (.getfield 13, 3) := by decide +kernel
theorem d_Model_seal_34 : decode b_Model_seal 34 = .ok (.aload_n 0, 1) := by decide +kernel
theorem d_Model_seal_35 : decode b_Model_seal 35 = .ok (.getfield 21, 3) := by decide +kernel
theorem d_Model_seal_38 : decode b_Model_seal 38 = .ok (.iload_n 1, 1) := by decide +kernel
theorem d_Model_seal_39 : decode b_Model_seal 39 = .ok (.bipush 8, 2) := by decide +kernel
theorem d_Model_seal_41 : decode b_Model_seal 41 = .ok (.ishr, 1) := by decide +kernel
theorem d_Model_seal_42 : decode b_Model_seal 42 = .ok (.i2b, 1) := by decide +kernel
theorem d_Model_seal_43 : decode b_Model_seal 43 = .ok (.bastore, 1) := by decide +kernel
theorem d_Model_seal_44 : decode b_Model_seal 44 = .ok (.aload_n 0, 1) := by decide +kernel
theorem d_Model_seal_45 : decode b_Model_seal 45 = .ok (.getfield 13, 3) := by decide +kernel
theorem d_Model_seal_48 : decode b_Model_seal 48 = .ok (.aload_n 0, 1) := by decide +kernel
theorem d_Model_seal_49 : decode b_Model_seal 49 = .ok (.getfield 21, 3) := by decide +kernel
theorem d_Model_seal_52 : decode b_Model_seal 52 = .ok (.iconst 1, 1) := by decide +kernel
theorem d_Model_seal_53 : decode b_Model_seal 53 = .ok (.iadd, 1) := by decide +kernel
theorem d_Model_seal_54 : decode b_Model_seal 54 = .ok (.iload_n 1, 1) := by decide +kernel
theorem d_Model_seal_55 : decode b_Model_seal 55 = .ok (.i2b, 1) := by decide +kernel
theorem d_Model_seal_56 : decode b_Model_seal 56 = .ok (.bastore, 1) := by decide +kernel
theorem d_Model_seal_57 : decode b_Model_seal 57 = .ok (.aload_n 0, 1) := by decide +kernel
theorem d_Model_seal_58 : decode b_Model_seal 58 = .ok (.dup, 1) := by decide +kernel
theorem d_Model_seal_59 : decode b_Model_seal 59 = .ok (.getfield 21, 3) := by decide +kernel
theorem d_Model_seal_62 : decode b_Model_seal 62 = .ok (.iconst 2, 1) := by decide +kernel
theorem d_Model_seal_63 : decode b_Model_seal 63 = .ok (.iadd, 1) := by decide +kernel
theorem d_Model_seal_64 : decode b_Model_seal 64 = .ok (.putfield 21, 3) := by decide +kernel
theorem d_Model_seal_67 : decode b_Model_seal 67 = .ok (.iconst 1, 1) := by decide +kernel
theorem d_Model_seal_68 : decode b_Model_seal 68 = .ok (.ireturn, 1) := by decide +kernel
theorem d_Model_at_0 : decode b_Model_at 0 = .ok (.aload_n 0, 1) := by decide +kernel
theorem d_Model_at_1 : decode b_Model_at 1 = .ok (.iconst 0, 1) := by decide +kernel
theorem d_Model_at_2 : decode b_Model_at 2 = .ok (.putfield 16, 3) := by decide +kernel
theorem d_Model_at_5 : decode b_Model_at 5 = .ok (.iload_n 1, 1) := by decide +kernel
theorem d_Model_at_6 : decode b_Model_at 6 = .ok (.ifCond .lt 10, 3) := by decide +kernel
theorem d_Model_at_9 : decode b_Model_at 9 = .ok (.iload_n 1, 1) := by decide +kernel
theorem d_Model_at_10 : decode b_Model_at 10 = .ok (.sipush 4096, 3) := by decide +kernel
theorem d_Model_at_13 : decode b_Model_at 13 = .ok (.if_icmp .lt 7, 3) := by decide +kernel
theorem d_Model_at_16 : decode b_Model_at 16 = .ok (.iconst (-1), 1) := by decide +kernel
theorem d_Model_at_17 : decode b_Model_at 17 = .ok (.goto 13, 3) := by decide +kernel
theorem d_Model_at_20 : decode b_Model_at 20 = .ok (.aload_n 0, 1) := by decide +kernel
theorem d_Model_at_21 : decode b_Model_at 21 = .ok (.getfield 7, 3) := by decide +kernel
theorem d_Model_at_24 : decode b_Model_at 24 = .ok (.iload_n 1, 1) := by decide +kernel
theorem d_Model_at_25 : decode b_Model_at 25 = .ok (.baload, 1) := by decide +kernel
theorem d_Model_at_26 : decode b_Model_at 26 = .ok (.sipush 255, 3) := by decide +kernel
theorem d_Model_at_29 : decode b_Model_at 29 = .ok (.iand, 1) := by decide +kernel
theorem d_Model_at_30 : decode b_Model_at 30 = .ok (.ireturn, 1) := by decide +kernel
end
section
-- the instructions, decoded
theorem d_law_0 : decode code 0 = .ok (.new 7, 3) := by decide +kernel
theorem d_law_3 : decode code 3 = .ok (.dup, 1) := by decide +kernel
theorem d_law_4 : decode code 4 = .ok (.invokespecial 9, 3) := by decide +kernel
theorem d_law_7 : decode code 7 = .ok (.astore_n 1, 1) := by decide +kernel
theorem d_law_8 : decode code 8 = .ok (.new 10, 3) := by decide +kernel
theorem d_law_11 : decode code 11 = .ok (.dup, 1) := by decide +kernel
theorem d_law_12 : decode code 12 = .ok (.invokespecial 12, 3) := by decide +kernel
theorem d_law_15 : decode code 15 = .ok (.astore_n 2, 1) := by decide +kernel
theorem d_law_16 : decode code 16 = .ok (.iconst 0, 1) := by decide +kernel
theorem d_law_17 : decode code 17 = .ok (.istore_n 3, 1) := by decide +kernel
theorem d_law_18 : decode code 18 = .ok (.iload_n 3, 1) := by decide +kernel
theorem d_law_19 : decode code 19 = .ok (.aload_n 0, 1) := by decide +kernel
theorem d_law_20 : decode code 20 = .ok (.arraylength, 1) := by decide +kernel
theorem d_law_21 : decode code 21 = .ok (.iconst 4, 1) := by decide +kernel
theorem d_law_22 : decode code 22 = .ok (.isub, 1) := by decide +kernel
theorem d_law_23 : decode code 23 = .ok (.if_icmp .gt 321, 3) := by decide +kernel
theorem d_law_26 : decode code 26 = .ok (.aload_n 0, 1) := by decide +kernel
theorem d_law_27 : decode code 27 = .ok (.iload_n 3, 1) := by decide +kernel
theorem d_law_28 : decode code 28 = .ok (.iaload, 1) := by decide +kernel
theorem d_law_29 : decode code 29 = .ok (.bipush 15, 2) := by decide +kernel
theorem d_law_31 : decode code 31 = .ok (.iand, 1) := by decide +kernel
theorem d_law_32 : decode code 32 = .ok (.tableswitch 306 0 9 #[56, 79, 102, 115, 138, 181, 214, 247, 270, 283], 56) := by decide +kernel
theorem d_law_88 : decode code 88 = .ok (.aload_n 1, 1) := by decide +kernel
theorem d_law_89 : decode code 89 = .ok (.aload_n 0, 1) := by decide +kernel
theorem d_law_90 : decode code 90 = .ok (.iload_n 3, 1) := by decide +kernel
theorem d_law_91 : decode code 91 = .ok (.iconst 1, 1) := by decide +kernel
theorem d_law_92 : decode code 92 = .ok (.iadd, 1) := by decide +kernel
theorem d_law_93 : decode code 93 = .ok (.iaload, 1) := by decide +kernel
theorem d_law_94 : decode code 94 = .ok (.invokevirtual 13, 3) := by decide +kernel
theorem d_law_97 : decode code 97 = .ok (.aload_n 2, 1) := by decide +kernel
theorem d_law_98 : decode code 98 = .ok (.aload_n 0, 1) := by decide +kernel
theorem d_law_99 : decode code 99 = .ok (.iload_n 3, 1) := by decide +kernel
theorem d_law_100 : decode code 100 = .ok (.iconst 1, 1) := by decide +kernel
theorem d_law_101 : decode code 101 = .ok (.iadd, 1) := by decide +kernel
theorem d_law_102 : decode code 102 = .ok (.iaload, 1) := by decide +kernel
theorem d_law_103 : decode code 103 = .ok (.invokevirtual 17, 3) := by decide +kernel
theorem d_law_106 : decode code 106 = .ok (.if_icmp .eq 232, 3) := by decide +kernel
theorem d_law_109 : decode code 109 = .ok (.iconst 0, 1) := by decide +kernel
theorem d_law_110 : decode code 110 = .ok (.ireturn, 1) := by decide +kernel
theorem d_law_111 : decode code 111 = .ok (.aload_n 1, 1) := by decide +kernel
theorem d_law_112 : decode code 112 = .ok (.aload_n 0, 1) := by decide +kernel
theorem d_law_113 : decode code 113 = .ok (.iload_n 3, 1) := by decide +kernel
theorem d_law_114 : decode code 114 = .ok (.iconst 1, 1) := by decide +kernel
theorem d_law_115 : decode code 115 = .ok (.iadd, 1) := by decide +kernel
theorem d_law_116 : decode code 116 = .ok (.iaload, 1) := by decide +kernel
theorem d_law_117 : decode code 117 = .ok (.invokevirtual 18, 3) := by decide +kernel
theorem d_law_120 : decode code 120 = .ok (.aload_n 2, 1) := by decide +kernel
theorem d_law_121 : decode code 121 = .ok (.aload_n 0, 1) := by decide +kernel
theorem d_law_122 : decode code 122 = .ok (.iload_n 3, 1) := by decide +kernel
theorem d_law_123 : decode code 123 = .ok (.iconst 1, 1) := by decide +kernel
theorem d_law_124 : decode code 124 = .ok (.iadd, 1) := by decide +kernel
theorem d_law_125 : decode code 125 = .ok (.iaload, 1) := by decide +kernel
theorem d_law_126 : decode code 126 = .ok (.invokevirtual 22, 3) := by decide +kernel
theorem d_law_129 : decode code 129 = .ok (.if_icmp .eq 209, 3) := by decide +kernel
theorem d_law_132 : decode code 132 = .ok (.iconst 0, 1) := by decide +kernel
theorem d_law_133 : decode code 133 = .ok (.ireturn, 1) := by decide +kernel
theorem d_law_134 : decode code 134 = .ok (.aload_n 1, 1) := by decide +kernel
theorem d_law_135 : decode code 135 = .ok (.invokevirtual 23, 3) := by decide +kernel
theorem d_law_138 : decode code 138 = .ok (.aload_n 2, 1) := by decide +kernel
theorem d_law_139 : decode code 139 = .ok (.invokevirtual 27, 3) := by decide +kernel
theorem d_law_142 : decode code 142 = .ok (.if_icmp .eq 196, 3) := by decide +kernel
theorem d_law_145 : decode code 145 = .ok (.iconst 0, 1) := by decide +kernel
theorem d_law_146 : decode code 146 = .ok (.ireturn, 1) := by decide +kernel
theorem d_law_147 : decode code 147 = .ok (.aload_n 1, 1) := by decide +kernel
theorem d_law_148 : decode code 148 = .ok (.aload_n 0, 1) := by decide +kernel
theorem d_law_149 : decode code 149 = .ok (.iload_n 3, 1) := by decide +kernel
theorem d_law_150 : decode code 150 = .ok (.iconst 1, 1) := by decide +kernel
theorem d_law_151 : decode code 151 = .ok (.iadd, 1) := by decide +kernel
theorem d_law_152 : decode code 152 = .ok (.iaload, 1) := by decide +kernel
theorem d_law_153 : decode code 153 = .ok (.invokevirtual 28, 3) := by decide +kernel
theorem d_law_156 : decode code 156 = .ok (.aload_n 2, 1) := by decide +kernel
theorem d_law_157 : decode code 157 = .ok (.aload_n 0, 1) := by decide +kernel
theorem d_law_158 : decode code 158 = .ok (.iload_n 3, 1) := by decide +kernel
theorem d_law_159 : decode code 159 = .ok (.iconst 1, 1) := by decide +kernel
theorem d_law_160 : decode code 160 = .ok (.iadd, 1) := by decide +kernel
theorem d_law_161 : decode code 161 = .ok (.iaload, 1) := by decide +kernel
theorem d_law_162 : decode code 162 = .ok (.invokevirtual 31, 3) := by decide +kernel
theorem d_law_165 : decode code 165 = .ok (.if_icmp .eq 173, 3) := by decide +kernel
theorem d_law_168 : decode code 168 = .ok (.iconst 0, 1) := by decide +kernel
theorem d_law_169 : decode code 169 = .ok (.ireturn, 1) := by decide +kernel
theorem d_law_170 : decode code 170 = .ok (.aload_n 1, 1) := by decide +kernel
theorem d_law_171 : decode code 171 = .ok (.aload_n 0, 1) := by decide +kernel
theorem d_law_172 : decode code 172 = .ok (.iload_n 3, 1) := by decide +kernel
theorem d_law_173 : decode code 173 = .ok (.iconst 1, 1) := by decide +kernel
theorem d_law_174 : decode code 174 = .ok (.iadd, 1) := by decide +kernel
theorem d_law_175 : decode code 175 = .ok (.iaload, 1) := by decide +kernel
theorem d_law_176 : decode code 176 = .ok (.aload_n 0, 1) := by decide +kernel
theorem d_law_177 : decode code 177 = .ok (.iload_n 3, 1) := by decide +kernel
theorem d_law_178 : decode code 178 = .ok (.iconst 2, 1) := by decide +kernel
theorem d_law_179 : decode code 179 = .ok (.iadd, 1) := by decide +kernel
theorem d_law_180 : decode code 180 = .ok (.iaload, 1) := by decide +kernel
theorem d_law_181 : decode code 181 = .ok (.aload_n 0, 1) := by decide +kernel
theorem d_law_182 : decode code 182 = .ok (.iload_n 3, 1) := by decide +kernel
theorem d_law_183 : decode code 183 = .ok (.iconst 3, 1) := by decide +kernel
theorem d_law_184 : decode code 184 = .ok (.iadd, 1) := by decide +kernel
theorem d_law_185 : decode code 185 = .ok (.iaload, 1) := by decide +kernel
theorem d_law_186 : decode code 186 = .ok (.invokevirtual 32, 3) := by decide +kernel
theorem d_law_189 : decode code 189 = .ok (.aload_n 2, 1) := by decide +kernel
theorem d_law_190 : decode code 190 = .ok (.aload_n 0, 1) := by decide +kernel
theorem d_law_191 : decode code 191 = .ok (.iload_n 3, 1) := by decide +kernel
theorem d_law_192 : decode code 192 = .ok (.iconst 1, 1) := by decide +kernel
theorem d_law_193 : decode code 193 = .ok (.iadd, 1) := by decide +kernel
theorem d_law_194 : decode code 194 = .ok (.iaload, 1) := by decide +kernel
theorem d_law_195 : decode code 195 = .ok (.aload_n 0, 1) := by decide +kernel
theorem d_law_196 : decode code 196 = .ok (.iload_n 3, 1) := by decide +kernel
theorem d_law_197 : decode code 197 = .ok (.iconst 2, 1) := by decide +kernel
theorem d_law_198 : decode code 198 = .ok (.iadd, 1) := by decide +kernel
theorem d_law_199 : decode code 199 = .ok (.iaload, 1) := by decide +kernel
theorem d_law_200 : decode code 200 = .ok (.aload_n 0, 1) := by decide +kernel
theorem d_law_201 : decode code 201 = .ok (.iload_n 3, 1) := by decide +kernel
theorem d_law_202 : decode code 202 = .ok (.iconst 3, 1) := by decide +kernel
theorem d_law_203 : decode code 203 = .ok (.iadd, 1) := by decide +kernel
theorem d_law_204 : decode code 204 = .ok (.iaload, 1) := by decide +kernel
theorem d_law_205 : decode code 205 = .ok (.invokevirtual 36, 3) := by decide +kernel
theorem d_law_208 : decode code 208 = .ok (.if_icmp .eq 130, 3) := by decide +kernel
theorem d_law_211 : decode code 211 = .ok (.iconst 0, 1) := by decide +kernel
theorem d_law_212 : decode code 212 = .ok (.ireturn, 1) := by decide +kernel
theorem d_law_213 : decode code 213 = .ok (.aload_n 1, 1) := by decide +kernel
theorem d_law_214 : decode code 214 = .ok (.aload_n 0, 1) := by decide +kernel
theorem d_law_215 : decode code 215 = .ok (.iload_n 3, 1) := by decide +kernel
theorem d_law_216 : decode code 216 = .ok (.iconst 1, 1) := by decide +kernel
theorem d_law_217 : decode code 217 = .ok (.iadd, 1) := by decide +kernel
theorem d_law_218 : decode code 218 = .ok (.iaload, 1) := by decide +kernel
theorem d_law_219 : decode code 219 = .ok (.aload_n 0, 1) := by decide +kernel
theorem d_law_220 : decode code 220 = .ok (.iload_n 3, 1) := by decide +kernel
theorem d_law_221 : decode code 221 = .ok (.iconst 2, 1) := by decide +kernel
theorem d_law_222 : decode code 222 = .ok (.iadd, 1) := by decide +kernel
theorem d_law_223 : decode code 223 = .ok (.iaload, 1) := by decide +kernel
theorem d_law_224 : decode code 224 = .ok (.invokevirtual 37, 3) := by decide +kernel
theorem d_law_227 : decode code 227 = .ok (.aload_n 2, 1) := by decide +kernel
theorem d_law_228 : decode code 228 = .ok (.aload_n 0, 1) := by decide +kernel
theorem d_law_229 : decode code 229 = .ok (.iload_n 3, 1) := by decide +kernel
theorem d_law_230 : decode code 230 = .ok (.iconst 1, 1) := by decide +kernel
theorem d_law_231 : decode code 231 = .ok (.iadd, 1) := by decide +kernel
theorem d_law_232 : decode code 232 = .ok (.iaload, 1) := by decide +kernel
theorem d_law_233 : decode code 233 = .ok (.aload_n 0, 1) := by decide +kernel
theorem d_law_234 : decode code 234 = .ok (.iload_n 3, 1) := by decide +kernel
theorem d_law_235 : decode code 235 = .ok (.iconst 2, 1) := by decide +kernel
theorem d_law_236 : decode code 236 = .ok (.iadd, 1) := by decide +kernel
theorem d_law_237 : decode code 237 = .ok (.iaload, 1) := by decide +kernel
theorem d_law_238 : decode code 238 = .ok (.invokevirtual 41, 3) := by decide +kernel
theorem d_law_241 : decode code 241 = .ok (.if_icmp .eq 97, 3) := by decide +kernel
theorem d_law_244 : decode code 244 = .ok (.iconst 0, 1) := by decide +kernel
theorem d_law_245 : decode code 245 = .ok (.ireturn, 1) := by decide +kernel
theorem d_law_246 : decode code 246 = .ok (.aload_n 1, 1) := by decide +kernel
theorem d_law_247 : decode code 247 = .ok (.aload_n 0, 1) := by decide +kernel
theorem d_law_248 : decode code 248 = .ok (.iload_n 3, 1) := by decide +kernel
theorem d_law_249 : decode code 249 = .ok (.iconst 1, 1) := by decide +kernel
theorem d_law_250 : decode code 250 = .ok (.iadd, 1) := by decide +kernel
theorem d_law_251 : decode code 251 = .ok (.iaload, 1) := by decide +kernel
theorem d_law_252 : decode code 252 = .ok (.aload_n 0, 1) := by decide +kernel
theorem d_law_253 : decode code 253 = .ok (.iload_n 3, 1) := by decide +kernel
theorem d_law_254 : decode code 254 = .ok (.iconst 2, 1) := by decide +kernel
theorem d_law_255 : decode code 255 = .ok (.iadd, 1) := by decide +kernel
theorem d_law_256 : decode code 256 = .ok (.iaload, 1) := by decide +kernel
theorem d_law_257 : decode code 257 = .ok (.invokevirtual 42, 3) := by decide +kernel
theorem d_law_260 : decode code 260 = .ok (.aload_n 2, 1) := by decide +kernel
theorem d_law_261 : decode code 261 = .ok (.aload_n 0, 1) := by decide +kernel
theorem d_law_262 : decode code 262 = .ok (.iload_n 3, 1) := by decide +kernel
theorem d_law_263 : decode code 263 = .ok (.iconst 1, 1) := by decide +kernel
theorem d_law_264 : decode code 264 = .ok (.iadd, 1) := by decide +kernel
theorem d_law_265 : decode code 265 = .ok (.iaload, 1) := by decide +kernel
theorem d_law_266 : decode code 266 = .ok (.aload_n 0, 1) := by decide +kernel
theorem d_law_267 : decode code 267 = .ok (.iload_n 3, 1) := by decide +kernel
theorem d_law_268 : decode code 268 = .ok (.iconst 2, 1) := by decide +kernel
theorem d_law_269 : decode code 269 = .ok (.iadd, 1) := by decide +kernel
theorem d_law_270 : decode code 270 = .ok (.iaload, 1) := by decide +kernel
theorem d_law_271 : decode code 271 = .ok (.invokevirtual 46, 3) := by decide +kernel
theorem d_law_274 : decode code 274 = .ok (.if_icmp .eq 64, 3) := by decide +kernel
theorem d_law_277 : decode code 277 = .ok (.iconst 0, 1) := by decide +kernel
theorem d_law_278 : decode code 278 = .ok (.ireturn, 1) := by decide +kernel
theorem d_law_279 : decode code 279 = .ok (.aload_n 1, 1) := by decide +kernel
theorem d_law_280 : decode code 280 = .ok (.aload_n 0, 1) := by decide +kernel
theorem d_law_281 : decode code 281 = .ok (.iload_n 3, 1) := by decide +kernel
theorem d_law_282 : decode code 282 = .ok (.iconst 1, 1) := by decide +kernel
theorem d_law_283 : decode code 283 = .ok (.iadd, 1) := by decide +kernel
theorem d_law_284 : decode code 284 = .ok (.iaload, 1) := by decide +kernel
theorem d_law_285 : decode code 285 = .ok (.invokevirtual 47, 3) := by decide +kernel
theorem d_law_288 : decode code 288 = .ok (.aload_n 2, 1) := by decide +kernel
theorem d_law_289 : decode code 289 = .ok (.aload_n 0, 1) := by decide +kernel
theorem d_law_290 : decode code 290 = .ok (.iload_n 3, 1) := by decide +kernel
theorem d_law_291 : decode code 291 = .ok (.iconst 1, 1) := by decide +kernel
theorem d_law_292 : decode code 292 = .ok (.iadd, 1) := by decide +kernel
theorem d_law_293 : decode code 293 = .ok (.iaload, 1) := by decide +kernel
theorem d_law_294 : decode code 294 = .ok (.invokevirtual 50, 3) := by decide +kernel
theorem d_law_297 : decode code 297 = .ok (.if_icmp .eq 41, 3) := by decide +kernel
theorem d_law_300 : decode code 300 = .ok (.iconst 0, 1) := by decide +kernel
theorem d_law_301 : decode code 301 = .ok (.ireturn, 1) := by decide +kernel
theorem d_law_302 : decode code 302 = .ok (.aload_n 1, 1) := by decide +kernel
theorem d_law_303 : decode code 303 = .ok (.invokevirtual 51, 3) := by decide +kernel
theorem d_law_306 : decode code 306 = .ok (.aload_n 2, 1) := by decide +kernel
theorem d_law_307 : decode code 307 = .ok (.invokevirtual 55, 3) := by decide +kernel
theorem d_law_310 : decode code 310 = .ok (.if_icmp .eq 28, 3) := by decide +kernel
theorem d_law_313 : decode code 313 = .ok (.iconst 0, 1) := by decide +kernel
theorem d_law_314 : decode code 314 = .ok (.ireturn, 1) := by decide +kernel
theorem d_law_315 : decode code 315 = .ok (.aload_n 1, 1) := by decide +kernel
theorem d_law_316 : decode code 316 = .ok (.aload_n 0, 1) := by decide +kernel
theorem d_law_317 : decode code 317 = .ok (.iload_n 3, 1) := by decide +kernel
theorem d_law_318 : decode code 318 = .ok (.iconst 1, 1) := by decide +kernel
theorem d_law_319 : decode code 319 = .ok (.iadd, 1) := by decide +kernel
theorem d_law_320 : decode code 320 = .ok (.iaload, 1) := by decide +kernel
theorem d_law_321 : decode code 321 = .ok (.invokevirtual 56, 3) := by decide +kernel
theorem d_law_324 : decode code 324 = .ok (.aload_n 2, 1) := by decide +kernel
theorem d_law_325 : decode code 325 = .ok (.aload_n 0, 1) := by decide +kernel
theorem d_law_326 : decode code 326 = .ok (.iload_n 3, 1) := by decide +kernel
theorem d_law_327 : decode code 327 = .ok (.iconst 1, 1) := by decide +kernel
theorem d_law_328 : decode code 328 = .ok (.iadd, 1) := by decide +kernel
theorem d_law_329 : decode code 329 = .ok (.iaload, 1) := by decide +kernel
theorem d_law_330 : decode code 330 = .ok (.invokevirtual 59, 3) := by decide +kernel
theorem d_law_333 : decode code 333 = .ok (.if_icmp .eq 5, 3) := by decide +kernel
theorem d_law_336 : decode code 336 = .ok (.iconst 0, 1) := by decide +kernel
theorem d_law_337 : decode code 337 = .ok (.ireturn, 1) := by decide +kernel
theorem d_law_338 : decode code 338 = .ok (.iinc 3 4, 3) := by decide +kernel
theorem d_law_341 : decode code 341 = .ok (.goto (-323), 3) := by decide +kernel
theorem d_law_344 : decode code 344 = .ok (.iconst 1, 1) := by decide +kernel
theorem d_law_345 : decode code 345 = .ok (.ireturn, 1) := by decide +kernel
end
section
/-! ===== rows of our own over the kit's: a number's name, bytes and chars at a place that is a natural, calls that change nothing ===== -/
section MBR
variable {p : Program} {l : Launch} {e : Env} {R : Room} {s : State} {m : MethodId} {args : Array Value} {below : List Frame} {meth : Method} {c : Code} {H : Heap} {locs : List Loc} {cells slots : Nat} {Q : State → Prop}
variable {cc : ByteArray} {pc : Nat} {ls : Array Slot} {rest : List Value} {D : va_G} {cl : List vw_C} {A : Nat → Prop} {a : Nat} {tys : List (ClassId × FieldType)} {ws : va_W} {H0 : Heap}
theorem mb_top {x y : Int32} (h : x = y) (k : W p l e R s m args below meth c H locs cells slots Q (F0 m pc ls (.int y :: rest))) : W p l e R s m args below meth c H locs cells slots Q (F0 m pc ls (.int x :: rest)) := by
  rw [h]
  exact k
theorem mb_bald (hexec : p.tables.exec = Jvm.exec) (hb : c.code = cc) (hK : va_K D cl tys s) (hP : va_P D cl ws H) (q0 t0 : Nat) {cA : ClassId} {n k : Nat} {f : Nat → Int32} (ha : ws[q0]? = some (a, .inl (cA, n, .inl f))) (ht : tys[t0]? = some (cA, .byte)) (hk : k < n) (hn : n < 2 ^ 31) (hdg : decode cc pc = .ok (.baload, 1))
    (kk : W p l e R s m args below meth c H locs cells slots Q (F0 m (pc + 1) ls (.int (f k) :: rest))) : W p l e R s m args below meth c H locs cells slots Q (F0 m pc ls (.int (nI k) :: .ref a :: rest)) := by
  refine va_bald hexec hb hK hP q0 t0 ha ht (vp_in_nI hk hn) hdg ?_
  rw [nI_clamp (by omega)]
  exact kk
theorem mb_cald (hexec : p.tables.exec = Jvm.exec) (hb : c.code = cc) (hK : va_K D cl tys s) (hP : va_P D cl ws H) (q0 t0 : Nat) {cA : ClassId} {n k : Nat} {f : Nat → Int32} (ha : ws[q0]? = some (a, .inl (cA, n, .inl f))) (ht : tys[t0]? = some (cA, .char)) (hk : k < n) (hn : n < 2 ^ 31) (hdg : decode cc pc = .ok (.caload, 1))
    (kk : W p l e R s m args below meth c H locs cells slots Q (F0 m (pc + 1) ls (.int (f k) :: rest))) : W p l e R s m args below meth c H locs cells slots Q (F0 m pc ls (.int (nI k) :: .ref a :: rest)) := by
  refine va_cald hexec hb hK hP q0 t0 ha ht (vp_in_nI hk hn) hdg ?_
  rw [nI_clamp (by omega)]
  exact kk
theorem mb_bast (hexec : p.tables.exec = Jvm.exec) (hb : c.code = cc) (hK : va_K D cl tys s) (hP : va_P D cl ws H) (hD : va_D A ws) (hS : va_S A H0 H locs) (q0 t0 : Nat) {cA : ClassId} {n k : Nat} {f f2 : Nat → Int32} {x y : Int32} (ha : ws[q0]? = some (a, .inl (cA, n, .inl f))) (ht : tys[t0]? = some (cA, .byte)) (hk : k < n) (hn : n < 2 ^ 31) (hy : vp_nar .byte x = y) (hf : upd f k y = f2) (hdg : decode cc pc = .ok (.bastore, 1))
    (kk : ∀ (H1 : Heap) (locs1 : List Loc), va_P D cl (ws.set q0 (a, .inl (cA, n, .inl f2))) H1 → va_D A (ws.set q0 (a, .inl (cA, n, .inl f2))) → va_S A H0 H1 locs1 → W p l e R s m args below meth c H1 locs1 cells slots Q (F0 m (pc + 1) ls rest)) : W p l e R s m args below meth c H locs cells slots Q (F0 m pc ls (.int x :: .int (nI k) :: .ref a :: rest)) := by
  refine va_bast hexec hb hK hP hD hS q0 t0 ha ht (vp_in_nI hk hn) hdg fun H1 locs1 h1 h2 h3 => ?_
  rw [nI_clamp (by omega), hy, hf] at h1 h2
  exact kk H1 locs1 h1 h2 h3
theorem mb_cast (hexec : p.tables.exec = Jvm.exec) (hb : c.code = cc) (hK : va_K D cl tys s) (hP : va_P D cl ws H) (hD : va_D A ws) (hS : va_S A H0 H locs) (q0 t0 : Nat) {cA : ClassId} {n k : Nat} {f f2 : Nat → Int32} {x y : Int32} (ha : ws[q0]? = some (a, .inl (cA, n, .inl f))) (ht : tys[t0]? = some (cA, .char)) (hk : k < n) (hn : n < 2 ^ 31) (hy : vp_nar .char x = y) (hf : upd f k y = f2) (hdg : decode cc pc = .ok (.castore, 1))
    (kk : ∀ (H1 : Heap) (locs1 : List Loc), va_P D cl (ws.set q0 (a, .inl (cA, n, .inl f2))) H1 → va_D A (ws.set q0 (a, .inl (cA, n, .inl f2))) → va_S A H0 H1 locs1 → W p l e R s m args below meth c H1 locs1 cells slots Q (F0 m (pc + 1) ls rest)) : W p l e R s m args below meth c H locs cells slots Q (F0 m pc ls (.int x :: .int (nI k) :: .ref a :: rest)) := by
  refine va_cast hexec hb hK hP hD hS q0 t0 ha ht (vp_in_nI hk hn) hdg fun H1 locs1 h1 h2 h3 => ?_
  rw [nI_clamp (by omega), hy, hf] at h1 h2
  exact kk H1 locs1 h1 h2 h3
theorem mb_newb (hexec : p.tables.exec = Jvm.exec) (hb : c.code = cc) (harr : (Cond.arrayClass .byte).before args s = true) (hK : va_K D cl tys s) (hP : va_P D cl ws H) (hD : va_D A ws) (hS : va_S A H0 H locs) (hA : ∀ q, H0.size ≤ q → A q) {N : Nat} (hN : N < 2 ^ 28) (hcells : cells + 1 ≤ R.cells) (hslots : slots + N ≤ R.slots) (hdg : decode cc pc = .ok (.newarray .byte, 2))
    (kk : ∀ (q : Nat) (cA : ClassId) (H1 : Heap), va_K D cl (tys ++ [(cA, .byte)]) s → va_P D cl (ws ++ [(q, .inl (cA, N, .inl (fun _ => 0)))]) H1 → va_D A (ws ++ [(q, .inl (cA, N, .inl (fun _ => 0)))]) → va_S A H0 H1 locs →
      W p l e R s m args below meth c H1 locs (cells + 1) (slots + N) Q (F0 m (pc + 2) ls (.ref q :: rest))) : W p l e R s m args below meth c H locs cells slots Q (F0 m pc ls (.int (nI N) :: rest)) :=
  va_newa (atype := .byte) (ty := .byte) (N' := N) (a0 := (N, .inl (fun _ => 0))) hexec hb harr rfl hK hP hD hS hA (fun _ => rfl) (nI_pos (by omega)) (nI_clamp (by omega)) (by show N * 1 ≤ 536870912; omega) hcells hslots hdg kk
theorem mb_newc (hexec : p.tables.exec = Jvm.exec) (hb : c.code = cc) (harr : (Cond.arrayClass .char).before args s = true) (hK : va_K D cl tys s) (hP : va_P D cl ws H) (hD : va_D A ws) (hS : va_S A H0 H locs) (hA : ∀ q, H0.size ≤ q → A q) {N : Nat} (hN : N < 2 ^ 28) (hcells : cells + 1 ≤ R.cells) (hslots : slots + N ≤ R.slots) (hdg : decode cc pc = .ok (.newarray .char, 2))
    (kk : ∀ (q : Nat) (cA : ClassId) (H1 : Heap), va_K D cl (tys ++ [(cA, .char)]) s → va_P D cl (ws ++ [(q, .inl (cA, N, .inl (fun _ => 0)))]) H1 → va_D A (ws ++ [(q, .inl (cA, N, .inl (fun _ => 0)))]) → va_S A H0 H1 locs →
      W p l e R s m args below meth c H1 locs (cells + 1) (slots + N) Q (F0 m (pc + 2) ls (.ref q :: rest))) : W p l e R s m args below meth c H locs cells slots Q (F0 m pc ls (.int (nI N) :: rest)) :=
  va_newa (atype := .char) (ty := .char) (N' := N) (a0 := (N, .inl (fun _ => 0))) hexec hb harr rfl hK hP hD hS hA (fun _ => rfl) (nI_pos (by omega)) (nI_clamp (by omega)) (by show N * 2 ≤ 536870912; omega) hcells hslots hdg kk
theorem mb_free (hS : va_S A H0 H locs) (hA : ∀ q, H0.size ≤ q → A q) : ∀ q, va_A [] H.size q → A q := by
  intro q h
  rcases h with ⟨k, e, h⟩ | h
  · simp at h
  · exact hA q (Nat.le_trans hS.1 h)
theorem mb_keep {H1 : Heap} (hP : va_P D cl ws H) (hk : ∀ q : Nat, q < H.size → ¬ va_A [] H.size q → H1[q]? = H[q]?) : va_P D cl ws H1 := by
  refine hP.kept fun k q hq => ?_
  have hl := (hP k q hq).lt
  refine hk q.1 hl fun h => ?_
  rcases h with ⟨k, e, h⟩ | h
  · simp at h
  · omega
end MBR
/-! numbers -/
theorem mb_nat {x : Int32} (h : ¬ x < 0) : x = nI x.toNatClampNeg := by
  obtain ⟨j, hj, rfl⟩ := nI_of h
  rw [nI_clamp hj]
theorem mb_nlt {x : Int32} (h : ¬ x < 0) : x.toNatClampNeg < 2 ^ 31 := by
  obtain ⟨j, hj, rfl⟩ := nI_of h
  rw [nI_clamp hj]
  exact hj
theorem mb_yes {P : Prop} [Decidable P] {r : Int32} (h : r = if P then 1 else 0) (e : ¬ r = 0) : P := by
  by_cases hp : P
  · exact hp
  · rw [if_neg hp] at h
    exact absurd h e
theorem mb_no {P : Prop} [Decidable P] {r : Int32} (h : r = if P then 1 else 0) (e : r = 0) : ¬ P := by
  intro hp
  rw [if_pos hp] at h
  rw [h] at e
  exact absurd e (by decide)
theorem mb_in_t {i n : Int32} {a : Nat} (ha : a < 2 ^ 31) (c1 : ¬ n < 0) (c2 : ¬ nI a < n) (c3 : ¬ i < 0) (c4 : ¬ nI a - n < i) : mb_in i n a := by
  obtain ⟨N, hN, rfl⟩ := nI_of c1
  obtain ⟨I, hI, rfl⟩ := nI_of c3
  rw [nI_ltI ha hN] at c2
  rw [pk_sub (by omega), nI_ltI (by omega) hI] at c4
  refine ⟨c3, c1, ?_⟩
  rw [nI_clamp hN, nI_clamp hI]
  omega
theorem mb_in_2 {i n : Int32} {a : Nat} (ha : a < 2 ^ 31) (h : mb_in i n a) : ¬ nI a < n := by
  obtain ⟨c3, c1, h⟩ := h
  obtain ⟨N, hN, rfl⟩ := nI_of c1
  rw [nI_clamp hN] at h
  rw [nI_ltI ha hN]
  omega
theorem mb_in_4 {i n : Int32} {a : Nat} (ha : a < 2 ^ 31) (h : mb_in i n a) : ¬ nI a - n < i := by
  obtain ⟨c3, c1, h⟩ := h
  obtain ⟨N, hN, rfl⟩ := nI_of c1
  obtain ⟨I, hI, rfl⟩ := nI_of c3
  rw [nI_clamp hN, nI_clamp hI] at h
  rw [pk_sub (by omega), nI_ltI (by omega) hI]
  omega
theorem mb_in_l {i n : Int32} {a : Nat} (ha : a < 2 ^ 31) (c1 : ¬ i < 0) (c2 : ¬ n < 0) : 0 < lg_cmp (i.toInt64 + n.toInt64) (nI a).toInt64 ↔ ¬ mb_in i n a := by
  have e : mb_in i n a ↔ i.toNatClampNeg + n.toNatClampNeg ≤ a := ⟨fun h => h.2.2, fun h => ⟨c1, c2, h⟩⟩
  rw [e]
  obtain ⟨N, hN, rfl⟩ := nI_of c2
  obtain ⟨I, hI, rfl⟩ := nI_of c1
  rw [nI_clamp hN, nI_clamp hI, nI_l hN, nI_l hI, nI_l ha, lN_add, lg_cmp_gt, pk_lLT (by omega) (by omega)]
  omega
theorem mb_lt1 {n : Int32} (h : ¬ n < nI 1) : ¬ n < 0 := by
  rw [Int32.lt_iff_toInt_lt] at h ⊢
  rw [nI_toInt (by decide)] at h
  rw [Int32.toInt_zero]
  omega
theorem mb_10 {n : Int32} (h : ¬ n < 0) {a : Nat} (ha : a < 2 ^ 31) (h2 : n ≤ nI a) : n.toNatClampNeg ≤ a := by
  obtain ⟨N, hN, rfl⟩ := nI_of h
  rw [nI_clamp hN]
  exact (nI_leI hN ha).mp h2
theorem mb_11 {n : Int32} (h : ¬ n < 0) {a : Nat} (ha : a < 2 ^ 31) (h2 : ¬ n ≤ nI a) : ¬ n.toNatClampNeg ≤ a := by
  obtain ⟨N, hN, rfl⟩ := nI_of h
  rw [nI_clamp hN]
  rw [nI_leI hN ha] at h2
  exact h2
theorem mb_12 {n : Int32} (h : ¬ n < 0) {a : Nat} (ha : a < 2 ^ 31) (h2 : n < nI a) : n.toNatClampNeg < a := by
  obtain ⟨N, hN, rfl⟩ := nI_of h
  rw [nI_clamp hN]
  exact (nI_ltI hN ha).mp h2
theorem mb_13 {n : Int32} (h : ¬ n < 0) {a : Nat} (ha : a < 2 ^ 31) (h2 : ¬ n < nI a) : ¬ n.toNatClampNeg < a := by
  obtain ⟨N, hN, rfl⟩ := nI_of h
  rw [nI_clamp hN]
  rw [nI_ltI hN ha] at h2
  exact h2
theorem mb_in0 {n : Int32} {a : Nat} (h : ¬ n < 0) (h2 : n.toNatClampNeg ≤ a) : mb_in (nI 0) n a := by
  refine ⟨nI_pos (by decide), h, ?_⟩
  rw [nI_clamp (by decide)]
  omega
/-! ===== pictures of the cells ===== -/
abbrev ws_Sums (h1 h2 : Nat) (kC : ClassId) (tab : Nat → Int32) : va_W := [(h1, .inr (0, [.ref h2])), (h2, .inl (kC, 256, .inl tab))]
abbrev ws_Bank (h0 h1 h2 h3 h4 : Nat) (kC kM kR : ClassId) (tab : Nat → Int32) (u : mb_S) : va_W := [(h0, .inr (1, [.ref h1, .ref h3, .ref h4, .int (nI u.2.2)])), (h1, .inr (0, [.ref h2])), (h2, .inl (kC, 256, .inl tab)), (h3, .inl (kM, 4096, .inl u.1)), (h4, .inl (kR, 512, .inl u.2.1))]
abbrev ws_Model (h0 h1 h2 : Nat) (kM kR : ClassId) (u : mb_S) : va_W := [(h0, .inr (2, [.int (nI 0), .ref h1, .ref h2, .int (nI u.2.2)])), (h1, .inl (kM, 4096, .inl u.1)), (h2, .inl (kR, 512, .inl u.2.1))]
abbrev ty_Bank (kC kM kR : ClassId) : List (ClassId × FieldType) := [(kC, .char), (kM, .byte), (kR, .byte)]
abbrev ty_Model (kM kR : ClassId) : List (ClassId × FieldType) := [(kM, .byte), (kR, .byte)]
abbrev at_Bank (dC : Nat → ClassId) (dI : Nat → Nat → Nat) (A : Nat → Prop) (h0 h1 h2 h3 h4 : Nat) (kC kM kR : ClassId) (tab : Nat → Int32) (u : mb_S) (t : State) : Prop := va_P (dC, dI) classes (ws_Bank h0 h1 h2 h3 h4 kC kM kR tab u) t.heap ∧ va_K (dC, dI) classes (ty_Bank kC kM kR) t ∧ va_D A (ws_Bank h0 h1 h2 h3 h4 kC kM kR tab u)
abbrev at_Model (dC : Nat → ClassId) (dI : Nat → Nat → Nat) (A : Nat → Prop) (h0 h1 h2 : Nat) (kM kR : ClassId) (u : mb_S) (t : State) : Prop := va_P (dC, dI) classes (ws_Model h0 h1 h2 kM kR u) t.heap ∧ va_K (dC, dI) classes (ty_Model kM kR) t ∧ va_D A (ws_Model h0 h1 h2 kM kR u)
/-! ===== the operations, case by case ===== -/
theorem mb_put_f {b : Int32} {u : mb_S} (h : u.2.2 = 512) : mb_put b u = (-1, u) := if_pos h
theorem mb_put_t {b : Int32} {u : mb_S} (h : ¬ u.2.2 = 512) : mb_put b u = (nI (u.2.2 + 1), (u.1, upd u.2.1 u.2.2 b.toInt8.toInt32, u.2.2 + 1)) := if_neg h
theorem mb_cut_t {k : Int32} {u : mb_S} (h : ¬ k < 0 ∧ k.toNatClampNeg ≤ u.2.2) : mb_cut k u = (1, (u.1, u.2.1, k.toNatClampNeg)) := if_pos h
theorem mb_cut_f {k : Int32} {u : mb_S} (h : ¬ (¬ k < 0 ∧ k.toNatClampNeg ≤ u.2.2)) : mb_cut k u = (0, u) := if_neg h
theorem mb_rowAt_t {k : Int32} {u : mb_S} (h : ¬ k < 0 ∧ k.toNatClampNeg < u.2.2) : nI (mb_by (u.2.1 k.toNatClampNeg)) = mb_rowAt k u := (if_pos h).symm
theorem mb_rowAt_f {k : Int32} {u : mb_S} (h : ¬ (¬ k < 0 ∧ k.toNatClampNeg < u.2.2)) : -1 = mb_rowAt k u := (if_neg h).symm
theorem mb_at_t {k : Int32} {u : mb_S} (h : ¬ k < 0 ∧ k.toNatClampNeg < 4096) : nI (mb_by (u.1 k.toNatClampNeg)) = mb_at k u := (if_pos h).symm
theorem mb_at_f {k : Int32} {u : mb_S} (h : ¬ (¬ k < 0 ∧ k.toNatClampNeg < 4096)) : -1 = mb_at k u := (if_neg h).symm
theorem mb_load_t {k n q : Int32} {u : mb_S} (h : ¬ n < 1 ∧ mb_in k n u.2.2 ∧ mb_in q n 4096) : mb_load k n q u = (1, (va_cpy u.2.1 u.1 k.toNatClampNeg q.toNatClampNeg n.toNatClampNeg, u.2.1, u.2.2)) := if_pos h
theorem mb_load_f {k n q : Int32} {u : mb_S} (h : ¬ (¬ n < 1 ∧ mb_in k n u.2.2 ∧ mb_in q n 4096)) : mb_load k n q u = (0, u) := if_neg h
theorem mb_dump_t {q n : Int32} {u : mb_S} (h : ¬ n < 1 ∧ mb_in q n 4096 ∧ u.2.2 + n.toNatClampNeg ≤ 512) : mb_dump q n u = (1, (u.1, va_cpy u.1 u.2.1 q.toNatClampNeg u.2.2 n.toNatClampNeg, u.2.2 + n.toNatClampNeg)) := if_pos h
theorem mb_dump_f {q n : Int32} {u : mb_S} (h : ¬ (¬ n < 1 ∧ mb_in q n 4096 ∧ u.2.2 + n.toNatClampNeg ≤ 512)) : mb_dump q n u = (0, u) := if_neg h
theorem mb_check_t {q n : Int32} {u : mb_S} (h : mb_in q n 4096) : nI (mb_crc u.1 q.toNatClampNeg n.toNatClampNeg) = mb_check q n u := (if_pos h).symm
theorem mb_check_f {q n : Int32} {u : mb_S} (h : ¬ mb_in q n 4096) : -1 = mb_check q n u := (if_neg h).symm
theorem mb_rowCheck_t {n : Int32} {u : mb_S} (h : ¬ n < 0 ∧ n.toNatClampNeg ≤ u.2.2) : nI (mb_crc u.2.1 (nI 0).toNatClampNeg n.toNatClampNeg) = mb_rowCheck n u := by
  rw [nI_clamp (by decide)]
  exact (if_pos h).symm
theorem mb_rowCheck_f {n : Int32} {u : mb_S} (h : ¬ (¬ n < 0 ∧ n.toNatClampNeg ≤ u.2.2)) : -1 = mb_rowCheck n u := (if_neg h).symm
theorem mb_seal_f {u : mb_S} (h : 510 < u.2.2) : mb_seal u = (0, u) := if_pos h
theorem mb_seal_t {u : mb_S} (h : ¬ 510 < u.2.2) : mb_seal u = (1, (u.1, upd (upd u.2.1 u.2.2 (nI (mb_crc u.2.1 0 u.2.2 / 256)).toInt8.toInt32) (u.2.2 + 1) (nI (mb_crc u.2.1 0 u.2.2)).toInt8.toInt32, u.2.2 + 2)) := if_neg h
end
section
theorem mb_vc {q : Nat} (h : q < 65536) : vp_nar .char (nI q) = nI q := Value.int.inj (pk_charN h).1
set_option maxHeartbeats 4000000 in
set_option maxRecDepth 100000 in
/-- the inner loop: eight turns of one entry -/
theorem lp_Sums_in {p : Program} {l : Launch} {e : Env} {R : Room} {s : State} {m : MethodId} {args : Array Value} {below : List Frame} {meth : Method} {c : Code} {cells slots : Nat} {Q : State → Prop} {A : Nat → Prop} {H0 : Heap} {dC : Nat → ClassId} {dI : Nat → Nat → Nat} {H : Heap} {locs : List Loc} (hx : p.tables.exec = Jvm.exec) (hb : c.code = b_Sums_init) (hts : ∀ w ∈ w_Sums_init, w.before args s = true) (hown : s.vm.findClass R_Sums = some m.cls) {h1 i : Nat} (hi : i < 256) (kk : ∀ ls : Array Slot, lv_has ls 4 [(0, .ref h1), (1, .int (nI i)), (2, .int (nI (mb_ti 8 (i * 256))))] → W p l e R s m args below meth c H locs cells slots Q (F0 m 64 ls [])) :
    ∀ (d k : Nat), k ≤ 8 → 8 < k + d → ∀ ls : Array Slot, lv_has ls 4 [(0, .ref h1), (1, .int (nI i)), (2, .int (nI (mb_ti k (i * 256)))), (3, .int (nI k))] → W p l e R s m args below meth c H locs cells slots Q (F0 m 31 ls []) := by
  intro d
  induction d with
  | zero => intro k h1 h2; exact absurd h2 (by omega)
  | succ d ih =>
    intro k hk hd ls hl
    have hb24 := mb_ti_lt8 hi hk
    refine lv_iload_n hx hb d_Sums_init_31 rfl (lv_at hl 3 rfl) ?_
    refine lv_bipush (v := nI 8) hx hb d_Sums_init_32 (by decide +kernel) ?_
    refine lv_icmp_ge (tgt := 64) hx hb d_Sums_init_34 (by decide) (fun c1 => ?_) (fun c1 => ?_)
    · have hk8 : k = 8 := by have := (nI_leI (by omega) (by omega)).mp c1; omega
      subst hk8
      exact kk ls (lv_sub hl [0, 1, 2] rfl)
    · have hk8 : k < 8 := by have := mt (nI_leI (a := 8) (b := k) (by omega) (by omega)).mpr c1; omega
      refine lv_iload_n hx hb d_Sums_init_37 rfl (lv_at hl 2 rfl) ?_
      refine lv_ldc (v := nI 32768) hx hb hown (hts (.constant R_Sums 13 32768) (by decide +kernel)) d_Sums_init_38 ?_
      refine lv_iand hx hb d_Sums_init_40 ?_
      refine mb_top (x := (nI (mb_ti k (i * 256))) &&& (nI 32768)) (y := nI (mb_ti k (i * 256) &&& 32768)) (mb_and _ _) ?_
      refine lv_if_ne (tgt := 50) hx hb d_Sums_init_41 (by decide) (fun c2 => ?_) (fun c2 => ?_)
      · have c3 : ¬ mb_ti k (i * 256) &&& 32768 = 0 := fun h => c2 (by rw [h]; rfl)
        have e1 : mb_ti (k + 1) (i * 256) = (mb_ti k (i * 256) * 2) ^^^ 4129 := if_neg c3
        refine lv_iload_n hx hb d_Sums_init_50 rfl (lv_at hl 2 rfl) ?_
        refine lv_iconst (v := nI 1) hx hb d_Sums_init_51 (by decide) ?_
        refine lv_ishl hx hb d_Sums_init_52 ?_
        refine mb_top (x := (nI (mb_ti k (i * 256))) <<< ((nI 1) &&& 31)) (y := nI (mb_ti k (i * 256) * 2)) (mb_shl1 hb24) ?_
        refine lv_sipush (v := nI 4129) hx hb d_Sums_init_53 (by decide +kernel) ?_
        refine lv_ixor hx hb d_Sums_init_56 ?_
        refine mb_top (x := (nI (mb_ti k (i * 256) * 2)) ^^^ (nI 4129)) (y := nI (mb_ti (k + 1) (i * 256))) (by rw [e1]; exact mb_xor _ _) ?_
        refine lv_istore_n (lv' := [(2, .int (nI (mb_ti (k + 1) (i * 256)))), (0, .ref h1), (1, .int (nI i)), (3, .int (nI k))]) hx hb d_Sums_init_57 rfl hl (by decide) rfl (fun ls hl => ?_)
        refine lv_iinc (v := nI (k + 1)) (lv' := [(3, .int (nI (k + 1))), (2, .int (nI (mb_ti (k + 1) (i * 256)))), (0, .ref h1), (1, .int (nI i))]) hx hb d_Sums_init_58 hl (k := 3) rfl (nI_1 k) (by decide) rfl (fun ls hl => ?_)
        refine lv_goto (tgt := 31) hx hb d_Sums_init_61 (by decide) ?_
        exact ih (k + 1) (by omega) (by omega) ls (lv_sub hl [2, 3, 1, 0] rfl)
      · have c3 : mb_ti k (i * 256) &&& 32768 = 0 := (nI_eq (Nat.lt_of_le_of_lt Nat.and_le_left (by omega)) (by omega)).mp c2
        have e1 : mb_ti (k + 1) (i * 256) = mb_ti k (i * 256) * 2 := if_pos c3
        refine lv_iload_n hx hb d_Sums_init_44 rfl (lv_at hl 2 rfl) ?_
        refine lv_iconst (v := nI 1) hx hb d_Sums_init_45 (by decide) ?_
        refine lv_ishl hx hb d_Sums_init_46 ?_
        refine mb_top (x := (nI (mb_ti k (i * 256))) <<< ((nI 1) &&& 31)) (y := nI (mb_ti (k + 1) (i * 256))) (by rw [e1]; exact mb_shl1 hb24) ?_
        refine lv_goto (tgt := 57) hx hb d_Sums_init_47 (by decide) ?_
        refine lv_istore_n (lv' := [(2, .int (nI (mb_ti (k + 1) (i * 256)))), (0, .ref h1), (1, .int (nI i)), (3, .int (nI k))]) hx hb d_Sums_init_57 rfl hl (by decide) rfl (fun ls hl => ?_)
        refine lv_iinc (v := nI (k + 1)) (lv' := [(3, .int (nI (k + 1))), (2, .int (nI (mb_ti (k + 1) (i * 256)))), (0, .ref h1), (1, .int (nI i))]) hx hb d_Sums_init_58 hl (k := 3) rfl (nI_1 k) (by decide) rfl (fun ls hl => ?_)
        refine lv_goto (tgt := 31) hx hb d_Sums_init_61 (by decide) ?_
        exact ih (k + 1) (by omega) (by omega) ls (lv_sub hl [2, 3, 1, 0] rfl)
set_option maxHeartbeats 4000000 in
set_option maxRecDepth 100000 in
/-- the outer loop: entry by entry -/
theorem lp_Sums_out {p : Program} {l : Launch} {e : Env} {R : Room} {s : State} {m : MethodId} {args : Array Value} {below : List Frame} {meth : Method} {c : Code} {cells slots : Nat} {Q : State → Prop} {A : Nat → Prop} {H0 : Heap} {dC : Nat → ClassId} {dI : Nat → Nat → Nat} {kC : ClassId} (hx : p.tables.exec = Jvm.exec) (hb : c.code = b_Sums_init) (hts : ∀ w ∈ w_Sums_init, w.before args s = true) (hown : s.vm.findClass R_Sums = some m.cls) (hK : va_K (dC, dI) classes [(kC, .char)] s) {h1 h2 : Nat} (kk : ∀ (tab : Nat → Int32) (H : Heap) (locs : List Loc) (ls : Array Slot), mb_okT tab → va_P (dC, dI) classes [(h1, .inr (0, [.ref h2])), (h2, .inl (kC, 256, .inl tab))] H → va_D A [(h1, .inr (0, [.ref h2])), (h2, .inl (kC, 256, .inl tab))] → va_S A H0 H locs → W p l e R s m args below meth c H locs cells slots Q (F0 m 78 ls [])) :
    ∀ (d i : Nat), i ≤ 256 → 256 < i + d → ∀ (tab : Nat → Int32), (∀ j, j < i → tab j = nI (mb_tab j)) → ∀ (H : Heap) (locs : List Loc) (ls : Array Slot), va_P (dC, dI) classes [(h1, .inr (0, [.ref h2])), (h2, .inl (kC, 256, .inl tab))] H → va_D A [(h1, .inr (0, [.ref h2])), (h2, .inl (kC, 256, .inl tab))] → va_S A H0 H locs → lv_has ls 4 [(0, .ref h1), (1, .int (nI i))] → W p l e R s m args below meth c H locs cells slots Q (F0 m 15 ls []) := by
  intro d
  induction d with
  | zero => intro i h1 h2; exact absurd h2 (by omega)
  | succ d ih =>
    intro i hi hd tab hT H locs ls hP hD hS hl
    refine lv_iload_n hx hb d_Sums_init_15 rfl (lv_at hl 1 rfl) ?_
    refine lv_aload_n hx hb d_Sums_init_16 rfl (lv_at hl 0 rfl) ?_
    refine va_get (D := (dC, dI)) (ci := 0) (v := .ref h2) (C := R_Sums) (T := F_Sums) (N := 1) hx hb hts i_Sums_init_Sums hown hK hP 0 rfl rfl 0 (by decide) (hts (.fieldLink R_Sums 7 "MemoryBank$Sums" "table" "[C") (by decide +kernel)) (fun _ h9 => h9) rfl d_Sums_init_17 ?_
    refine va_alen (v := nI 256) hx hb hK hP 1 0 rfl rfl rfl d_Sums_init_20 ?_
    refine lv_icmp_ge (tgt := 78) hx hb d_Sums_init_21 (by decide) (fun c1 => ?_) (fun c1 => ?_)
    · have hi8 : i = 256 := by have := (nI_leI (by omega) (by omega)).mp c1; omega
      subst hi8
      exact kk tab H locs ls hT hP hD hS
    · have hi8 : i < 256 := by have := mt (nI_leI (a := 256) (b := i) (by omega) (by omega)).mpr c1; omega
      refine lv_iload_n hx hb d_Sums_init_24 rfl (lv_at hl 1 rfl) ?_
      refine lv_bipush (v := nI 8) hx hb d_Sums_init_25 (by decide +kernel) ?_
      refine lv_ishl hx hb d_Sums_init_27 ?_
      refine mb_top (x := (nI i) <<< ((nI 8) &&& 31)) (y := nI (i * 256)) (mb_shl8 (by omega)) ?_
      refine lv_istore_n (lv' := [(2, .int (nI (i * 256))), (0, .ref h1), (1, .int (nI i))]) hx hb d_Sums_init_28 rfl hl (by decide) rfl (fun ls hl => ?_)
      refine lv_iconst (v := nI 0) hx hb d_Sums_init_29 (by decide) ?_
      refine lv_istore_n (lv' := [(3, .int (nI 0)), (2, .int (nI (i * 256))), (0, .ref h1), (1, .int (nI i))]) hx hb d_Sums_init_30 rfl hl (by decide) rfl (fun ls hl => ?_)
      refine lp_Sums_in (A := A) (H0 := H0) (dC := dC) (dI := dI) hx hb hts hown hi8 (fun ls hl => ?_) 9 0 (by omega) (by omega) ls (lv_sub hl [2, 3, 1, 0] rfl)
      refine lv_aload_n hx hb d_Sums_init_64 rfl (lv_at hl 0 rfl) ?_
      refine va_get (D := (dC, dI)) (ci := 0) (v := .ref h2) (C := R_Sums) (T := F_Sums) (N := 1) hx hb hts i_Sums_init_Sums hown hK hP 0 rfl rfl 0 (by decide) (hts (.fieldLink R_Sums 7 "MemoryBank$Sums" "table" "[C") (by decide +kernel)) (fun _ h9 => h9) rfl d_Sums_init_65 ?_
      refine lv_iload_n hx hb d_Sums_init_68 rfl (lv_at hl 1 rfl) ?_
      refine lv_iload_n hx hb d_Sums_init_69 rfl (lv_at hl 2 rfl) ?_
      refine lv_i2c (v := nI (mb_tab i)) hx hb d_Sums_init_70 (by rw [pk_char, pk_tn (by have := mb_ti_lt8 hi8 (Nat.le_refl 8); omega)]; rfl) ?_
      refine mb_cast (k := i) (n := 256) (f := tab) (y := nI (mb_tab i)) (f2 := upd tab i (nI (mb_tab i))) hx hb hK hP hD hS 1 0 rfl rfl (hi8) (by decide) (mb_vc (mb_tab_lt i)) (rfl) d_Sums_init_71 (fun H locs hP hD hS => ?_)
      have hP : va_P (dC, dI) classes [(h1, .inr (0, [.ref h2])), (h2, .inl (kC, 256, .inl (upd tab i (nI (mb_tab i)))))] H := hP
      have hD : va_D A [(h1, .inr (0, [.ref h2])), (h2, .inl (kC, 256, .inl (upd tab i (nI (mb_tab i)))))] := hD
      refine lv_iinc (v := nI (i + 1)) (lv' := [(1, .int (nI (i + 1))), (0, .ref h1), (2, .int (nI (mb_ti 8 (i * 256))))]) hx hb d_Sums_init_72 hl (k := 1) rfl (nI_1 i) (by decide) rfl (fun ls hl => ?_)
      refine lv_goto (tgt := 15) hx hb d_Sums_init_75 (by decide) ?_
      exact ih (i + 1) hi8 (by omega) _ (fun j hj => by
        by_cases e9 : j = i
        · subst e9; exact pk_us
        · rw [pk_un e9]; exact hT j (by omega)) H locs ls hP hD hS (lv_sub hl [1, 0] rfl)
set_option maxHeartbeats 4000000 in
set_option maxRecDepth 100000 in
/-- Sums(): one new table, filled -/
theorem c_Sums_init (l : Launch) (dC : Nat → ClassId) (dI : Nat → Nat → Nat) (sz : Nat) (h1 : Nat) : Met l y_Sums_init w_Sums_init ({ frames := 1, cells := 1, slots := 256, locals := 12 }) (va_Pc [.ref h1] (fun U => U.heap.size = sz ∧ va_P (dC, dI) classes [(h1, .inr (0, [.null]))] U.heap ∧ va_K (dC, dI) classes [] U ∧ va_D (fun _ => True) [(h1, .inr (0, [.null]))])) (va_Qv (fun tab : Nat → Int32 => mb_okT tab) (fun tab t => ∃ (h2 : Nat) (kC : ClassId), va_P (dC, dI) classes (ws_Sums h1 h2 kC tab) t.heap ∧ va_K (dC, dI) classes [(kC, .char)] t ∧ va_D (va_A [(h1, .inr (0, [.null]))] sz) (ws_Sums h1 h2 kC tab)) (va_A [(h1, .inr (0, [.null]))] sz)) 1 256 (va_A [(h1, .inr (0, [.null]))] sz) := by
  refine Met.ofW (cc := b_Sums_init) (maxL := 4) (ret := none) (by decide) rfl ?_
  intro p e s m args below meth c s₁ B hml hv
  obtain ⟨rfl, hsz, hP, hK, hD0⟩ := hv
  have hx := B.exec
  have hb := B.bytes
  have hr := B.returns
  have hts := atoms_spec (ws := w_Sums_init) B.pre
  have hown : s.vm.findClass R_Sums = some m.cls := findClass_of_methodNamed B.named
  have hlocks := B.notSynchronized
  have hin : meth.name = "<init>" := (name_of_methodNamed B.named B.method).1
  subst hsz
  have hD := hD0.self (sz := s.heap.size)
  generalize hAe : va_A [(h1, .inr (0, [.null]))] s.heap.size = A at hD ⊢
  have hA : ∀ q : Nat, s.heap.size ≤ q → A q := fun q h => by rw [← hAe]; exact Or.inr h
  have hS : va_S A s.heap s.heap [] := va_S.rf
  have hP : va_P (dC, dI) classes [(h1, .inr (0, [.null]))] s.heap := hP
  have hD : va_D A [(h1, .inr (0, [.null]))] := hD
  have hK : va_K (dC, dI) classes [] s := hK
  have hl := lv_entry ([.ref h1]) (n := 4) (Nat.le_of_ble_eq_true rfl)
  rw [lg_entry_eq]
  generalize (lg_sl ([.ref h1]) ++ List.replicate (4 - (lg_sl ([.ref h1])).length) Slot.unset).toArray = ls at hl ⊢
  have hl : lv_has ls 4 [(0, .ref h1)] := hl
  refine lv_aload_n hx hb d_Sums_init_0 rfl (lv_at hl 0 rfl) ?_
  refine W.objInit hx hb hown (hts (.methodLink R_Sums 1 objectInit) (by decide +kernel)) (hts (.instanceMethod objectInit) (by decide +kernel)) (hts _ (List.mem_of_getElem? (i := 3) rfl)) rfl (by rw [hml]; exact hl.1) rfl d_Sums_init_1 (Nat.le_of_ble_eq_true rfl) (Nat.le_of_ble_eq_true rfl) ?_
  refine W.eq (g2 := F0 m 4 ls []) rfl ?_
  refine lv_aload_n hx hb d_Sums_init_4 rfl (lv_at hl 0 rfl) ?_
  refine lv_sipush (v := nI 256) hx hb d_Sums_init_5 (by decide +kernel) ?_
  have hc9 : 0 + 1 ≤ 1 := by decide
  have hs9 : 0 + 256 ≤ 256 := by decide
  refine mb_newc (N := 256) hx hb (hts (.arrayClass .char) (by decide +kernel)) hK hP hD hS hA (by decide) hc9 hs9 d_Sums_init_8 (fun h2 kC H hK hP hD hS => ?_)
  have hK : va_K (dC, dI) classes [(kC, .char)] s := hK
  have hP : va_P (dC, dI) classes [(h1, .inr (0, [.null])), (h2, .inl (kC, 256, .inl (fun _ => 0)))] H := hP
  have hD : va_D A [(h1, .inr (0, [.null])), (h2, .inl (kC, 256, .inl (fun _ => 0)))] := hD
  refine va_putF (D := (dC, dI)) (ci := 0) (v := .ref h2) (ty := .array .char) (C := R_Sums) (T := F_Sums) (N := 1) hx hb hts i_Sums_init_Sums t_Sums t_Sums_ok n_Sums hown hK hP hD hS 0 rfl rfl 0 (by decide) (hts (.fieldLink R_Sums 7 "MemoryBank$Sums" "table" "[C") (by decide +kernel)) (fun _ h9 => h9) rfl hin rfl (by decide +kernel) rfl rfl (Nat.le_of_ble_eq_true rfl) d_Sums_init_10 (fun H locs hP hD hS => ?_)
  have hP : va_P (dC, dI) classes [(h1, .inr (0, [.ref h2])), (h2, .inl (kC, 256, .inl (fun _ => 0)))] H := hP
  have hD : va_D A [(h1, .inr (0, [.ref h2])), (h2, .inl (kC, 256, .inl (fun _ => 0)))] := hD
  refine lv_iconst (v := nI 0) hx hb d_Sums_init_13 (by decide) ?_
  refine lv_istore_n (lv' := [(1, .int (nI 0)), (0, .ref h1)]) hx hb d_Sums_init_14 rfl hl (by decide) rfl (fun ls hl => ?_)
  refine lp_Sums_out hx hb hts hown hK (fun tab H locs ls hT hP hD hS => ?_) 257 0 (by omega) (by omega) (fun _ => 0) (fun j hj => absurd hj (Nat.not_lt_zero j)) H locs ls hP hD hS (lv_sub hl [1, 0] rfl)
  exact W.vret hx hb hr (fun t ht hW => ⟨⟨tab, rfl, hT, h2, kC, by rw [ht]; exact hP, va_K.moved hW.alike hK, hD⟩, hS.F ht⟩) hS.2.2 d_Sums_init_78
set_option maxHeartbeats 4000000 in
set_option maxRecDepth 100000 in
/-- the loop of of: k bytes are in the check -/
theorem lp_Sums_of {p : Program} {l : Launch} {e : Env} {R : Room} {s : State} {m : MethodId} {args : Array Value} {below : List Frame} {meth : Method} {c : Code} {cells slots : Nat} {Q : State → Prop} {A : Nat → Prop} {H0 : Heap} {dC : Nat → ClassId} {dI : Nat → Nat → Nat} {H : Heap} {locs : List Loc} {kC kB : ClassId} {tab f : Nat → Int32} {N h1 h2 hB : Nat} (hx : p.tables.exec = Jvm.exec) (hb : c.code = b_Sums_of) (hts : ∀ w ∈ w_Sums_of, w.before args s = true) (hown : s.vm.findClass R_Sums = some m.cls) (hK : va_K (dC, dI) classes [(kC, .char), (kB, .byte)] s) (hP : va_P (dC, dI) classes [(h1, .inr (0, [.ref h2])), (h2, .inl (kC, 256, .inl tab)), (hB, .inl (kB, N, .inl f))] H) (hT : mb_okT tab) {i q : Nat} (hN : N ≤ 4096) (hiq : i + q ≤ N) (kk : ∀ ls : Array Slot, lv_has ls 6 [(4, .int (nI (mb_crc f i q)))] → W p l e R s m args below meth c H locs cells slots Q (F0 m 51 ls [])) :
    ∀ (d k : Nat), k ≤ q → q < k + d → ∀ ls : Array Slot, lv_has ls 6 [(0, .ref h1), (1, .ref hB), (2, .int (nI i)), (3, .int (nI q)), (4, .int (nI (mb_crc f i k))), (5, .int (nI (i + k)))] → W p l e R s m args below meth c H locs cells slots Q (F0 m 7 ls []) := by
  intro d
  induction d with
  | zero => intro k h1 h2; exact absurd h2 (by omega)
  | succ d ih =>
    intro k hk hd ls hl
    have hc := mb_crc_lt f i k
    have hby := mb_by_lt (f (i + k))
    have hix : (mb_crc f i k / 256) ^^^ mb_by (f (i + k)) < 256 := Nat.xor_lt_two_pow (n := 8) (by omega) hby
    refine lv_iload hx hb d_Sums_of_7 (lv_at hl 5 rfl) ?_
    refine lv_iload_n hx hb d_Sums_of_9 rfl (lv_at hl 2 rfl) ?_
    refine lv_iload_n hx hb d_Sums_of_10 rfl (lv_at hl 3 rfl) ?_
    refine lv_iadd hx hb d_Sums_of_11 ?_
    refine mb_top (x := (nI i) + (nI q)) (y := nI (i + q)) (nI_add i q) ?_
    refine lv_icmp_ge (tgt := 51) hx hb d_Sums_of_12 (by decide) (fun c1 => ?_) (fun c1 => ?_)
    · have hkq : k = q := by have := (nI_leI (by omega) (by omega)).mp c1; omega
      subst hkq
      exact kk ls (lv_sub hl [4] rfl)
    · have hkq : k < q := by have := mt (nI_leI (a := i + q) (b := i + k) (by omega) (by omega)).mpr c1; omega
      refine lv_iload hx hb d_Sums_of_15 (lv_at hl 4 rfl) ?_
      refine lv_bipush (v := nI 8) hx hb d_Sums_of_17 (by decide +kernel) ?_
      refine lv_ishl hx hb d_Sums_of_19 ?_
      refine mb_top (x := (nI (mb_crc f i k)) <<< ((nI 8) &&& 31)) (y := nI (mb_crc f i k * 256)) (mb_shl8 hc) ?_
      refine lv_ldc (v := nI 65535) hx hb hown (hts (.constant R_Sums 14 65535) (by decide +kernel)) d_Sums_of_20 ?_
      refine lv_iand hx hb d_Sums_of_22 ?_
      refine mb_top (x := (nI (mb_crc f i k * 256)) &&& (nI 65535)) (y := nI (mb_crc f i k * 256 % 65536)) (mb_m16 (by omega)) ?_
      refine lv_aload_n hx hb d_Sums_of_23 rfl (lv_at hl 0 rfl) ?_
      refine va_get (D := (dC, dI)) (ci := 0) (v := .ref h2) (C := R_Sums) (T := F_Sums) (N := 1) hx hb hts i_Sums_of_Sums hown hK hP 0 rfl rfl 0 (by decide) (hts (.fieldLink R_Sums 7 "MemoryBank$Sums" "table" "[C") (by decide +kernel)) (fun _ h9 => h9) rfl d_Sums_of_24 ?_
      refine lv_iload hx hb d_Sums_of_27 (lv_at hl 4 rfl) ?_
      refine lv_bipush (v := nI 8) hx hb d_Sums_of_29 (by decide +kernel) ?_
      refine lv_ishr hx hb d_Sums_of_31 ?_
      refine mb_top (x := (nI (mb_crc f i k)) >>> ((nI 8) &&& 31)) (y := nI (mb_crc f i k / 256)) (mb_shr8 hc) ?_
      refine lv_aload_n hx hb d_Sums_of_32 rfl (lv_at hl 1 rfl) ?_
      refine lv_iload hx hb d_Sums_of_33 (lv_at hl 5 rfl) ?_
      refine mb_bald (k := i + k) (n := N) (f := f) hx hb hK hP 2 1 rfl rfl (by omega) (by omega) d_Sums_of_35 ?_
      refine lv_sipush (v := nI 255) hx hb d_Sums_of_36 (by decide +kernel) ?_
      refine lv_iand hx hb d_Sums_of_39 ?_
      refine mb_top (x := (f (i + k)) &&& (nI 255)) (y := nI (mb_by (f (i + k)))) (mb_255 _) ?_
      refine lv_ixor hx hb d_Sums_of_40 ?_
      refine mb_top (x := (nI (mb_crc f i k / 256)) ^^^ (nI (mb_by (f (i + k))))) (y := nI ((mb_crc f i k / 256) ^^^ mb_by (f (i + k)))) (mb_xor _ _) ?_
      refine mb_cald (k := (mb_crc f i k / 256) ^^^ mb_by (f (i + k))) (n := 256) (f := tab) hx hb hK hP 1 0 rfl rfl (hix) (by decide) d_Sums_of_41 ?_
      refine mb_top (x := tab ((mb_crc f i k / 256) ^^^ mb_by (f (i + k)))) (y := nI (mb_tab ((mb_crc f i k / 256) ^^^ mb_by (f (i + k))))) (hT _ hix) ?_
      refine lv_ixor hx hb d_Sums_of_42 ?_
      refine mb_top (x := (nI (mb_crc f i k * 256 % 65536)) ^^^ (nI (mb_tab ((mb_crc f i k / 256) ^^^ mb_by (f (i + k)))))) (y := nI (mb_crc f i (k + 1))) (mb_xor _ _) ?_
      refine lv_istore (lv' := [(4, .int (nI (mb_crc f i (k + 1)))), (0, .ref h1), (1, .ref hB), (2, .int (nI i)), (3, .int (nI q)), (5, .int (nI (i + k)))]) hx hb d_Sums_of_43 hl (by decide) rfl (fun ls hl => ?_)
      refine lv_iinc (v := nI (i + (k + 1))) (lv' := [(5, .int (nI (i + (k + 1)))), (4, .int (nI (mb_crc f i (k + 1)))), (0, .ref h1), (1, .ref hB), (2, .int (nI i)), (3, .int (nI q))]) hx hb d_Sums_of_45 hl (k := 5) rfl (nI_1 (i + k)) (by decide) rfl (fun ls hl => ?_)
      refine lv_goto (tgt := 7) hx hb d_Sums_of_48 (by decide) ?_
      exact ih (k + 1) (by omega) (by omega) ls (lv_sub hl [2, 3, 4, 5, 1, 0] rfl)
set_option maxHeartbeats 4000000 in
set_option maxRecDepth 100000 in
/-- Sums.of: the check of n bytes from one on -/
theorem c_Sums_of (l : Launch) (dC : Nat → ClassId) (dI : Nat → Nat → Nat) (sz : Nat) (h1 h2 hB : Nat) (kC kB : ClassId) (tab f : Nat → Int32) (N : Nat) (hT : mb_okT tab) (hN : N ≤ 4096) (p0 p1 : Int32) (hin : mb_in p0 p1 N) : Met l y_Sums_of w_Sums_of ({ frames := 0, cells := 0, slots := 0, locals := 0 }) (va_Pc [.ref h1, .ref hB, .int p0, .int p1] (fun U => U.heap.size = sz ∧ va_P (dC, dI) classes [(h1, .inr (0, [.ref h2])), (h2, .inl (kC, 256, .inl tab)), (hB, .inl (kB, N, .inl f))] U.heap ∧ va_K (dC, dI) classes [(kC, .char), (kB, .byte)] U)) (va_Qi (fun (r : Int32) (_ : Unit) => r = nI (mb_crc f p0.toNatClampNeg p1.toNatClampNeg)) (fun _ _ => True) (va_A [] sz)) 0 0 (va_A [] sz) := by
  obtain ⟨hi1, hi2, hi3⟩ := hin
  obtain ⟨q, hq, rfl⟩ := nI_of hi2
  obtain ⟨i, hi, rfl⟩ := nI_of hi1
  rw [nI_clamp hi, nI_clamp hq] at hi3
  rw [nI_clamp hi, nI_clamp hq]
  refine Met.ofW (cc := b_Sums_of) (maxL := 6) (ret := (some .int)) (by decide) rfl ?_
  intro p e s m args below meth c s₁ B hml hv
  obtain ⟨rfl, hsz, hP, hK⟩ := hv
  have hx := B.exec
  have hb := B.bytes
  have hr := B.returns
  have hts := atoms_spec (ws := w_Sums_of) B.pre
  have hown : s.vm.findClass R_Sums = some m.cls := findClass_of_methodNamed B.named
  have hlocks := B.notSynchronized
  subst hsz
  generalize hAe : va_A [] s.heap.size = A
  have hA : ∀ q : Nat, s.heap.size ≤ q → A q := fun q h => by rw [← hAe]; exact Or.inr h
  have hS : va_S A s.heap s.heap [] := va_S.rf
  have hP : va_P (dC, dI) classes [(h1, .inr (0, [.ref h2])), (h2, .inl (kC, 256, .inl tab)), (hB, .inl (kB, N, .inl f))] s.heap := hP
  have hK : va_K (dC, dI) classes [(kC, .char), (kB, .byte)] s := hK
  have hl := lv_entry ([.ref h1, .ref hB, .int (nI i), .int (nI q)]) (n := 6) (Nat.le_of_ble_eq_true rfl)
  rw [lg_entry_eq]
  generalize (lg_sl ([.ref h1, .ref hB, .int (nI i), .int (nI q)]) ++ List.replicate (6 - (lg_sl ([.ref h1, .ref hB, .int (nI i), .int (nI q)])).length) Slot.unset).toArray = ls at hl ⊢
  have hl : lv_has ls 6 [(0, .ref h1), (1, .ref hB), (2, .int (nI i)), (3, .int (nI q))] := hl
  refine lv_ldc (v := nI 65535) hx hb hown (hts (.constant R_Sums 14 65535) (by decide +kernel)) d_Sums_of_0 ?_
  refine lv_istore (lv' := [(4, .int (nI 65535)), (0, .ref h1), (1, .ref hB), (2, .int (nI i)), (3, .int (nI q))]) hx hb d_Sums_of_2 hl (by decide) rfl (fun ls hl => ?_)
  refine lv_iload_n hx hb d_Sums_of_4 rfl (lv_at hl 3 rfl) ?_
  refine lv_istore (lv' := [(5, .int (nI i)), (4, .int (nI 65535)), (0, .ref h1), (1, .ref hB), (2, .int (nI i)), (3, .int (nI q))]) hx hb d_Sums_of_5 hl (by decide) rfl (fun ls hl => ?_)
  refine lp_Sums_of (A := A) (H0 := s.heap) hx hb hts hown hK hP hT hN hi3 (fun ls hl => ?_) (q + 1) 0 (Nat.zero_le q) (by omega) ls (lv_sub hl [2, 3, 4, 5, 1, 0] rfl)
  refine lv_iload hx hb d_Sums_of_51 (lv_at hl 0 rfl) ?_
  exact W.iret (v := nI (mb_crc f i q)) hx hb hr (fun t ht hW => ⟨⟨nI (mb_crc f i q), (), rfl, rfl, trivial⟩, hS.F ht⟩) hS.2.2 d_Sums_of_53
end
section
set_option maxHeartbeats 4000000 in
set_option maxRecDepth 100000 in
/-- isIn(i, n, a): whether n bytes from i on are within a -/
theorem c_Bank_isIn (l : Launch) (sz : Nat) (p0 p1 : Int32) (a : Nat) (ha : a < 2 ^ 31) : Met l y_Bank_isIn w_Bank_isIn ({ frames := 0, cells := 0, slots := 0, locals := 0 }) (va_Pc [.int p0, .int p1, .int (nI a)] (fun U => U.heap.size = sz)) (va_Qi (fun (r : Int32) (_ : Unit) => r = if mb_in p0 p1 a then 1 else 0) (fun _ _ => True) (va_A [] sz)) 0 0 (va_A [] sz) := by
  refine Met.ofW (cc := b_Bank_isIn) (maxL := 3) (ret := (some .boolean)) (by decide) rfl ?_
  intro p e s m args below meth c s₁ B hml hv
  obtain ⟨rfl, hsz⟩ := hv
  have hx := B.exec
  have hb := B.bytes
  have hr := B.returns
  have hts := atoms_spec (ws := w_Bank_isIn) B.pre
  have hown : s.vm.findClass R_Bank = some m.cls := findClass_of_methodNamed B.named
  have hlocks := B.notSynchronized
  subst hsz
  generalize hAe : va_A [] s.heap.size = A
  have hA : ∀ q : Nat, s.heap.size ≤ q → A q := fun q h => by rw [← hAe]; exact Or.inr h
  have hS : va_S A s.heap s.heap [] := va_S.rf
  have hl := lv_entry ([.int p0, .int p1, .int (nI a)]) (n := 3) (Nat.le_of_ble_eq_true rfl)
  rw [lg_entry_eq]
  generalize (lg_sl ([.int p0, .int p1, .int (nI a)]) ++ List.replicate (3 - (lg_sl ([.int p0, .int p1, .int (nI a)])).length) Slot.unset).toArray = ls at hl ⊢
  have hl : lv_has ls 3 [(0, .int p0), (1, .int p1), (2, .int (nI a))] := hl
  refine lv_iload_n hx hb d_Bank_isIn_0 rfl (lv_at hl 1 rfl) ?_
  refine lv_if_lt (tgt := 24) hx hb d_Bank_isIn_1 (by decide) (fun c1 => ?_) (fun c1 => ?_)
  · refine lv_iconst (v := nI 0) hx hb d_Bank_isIn_24 (by decide) ?_
    exact W.zret (v := nI 0) (ty := .boolean) hx hb hr (by decide) (fun t ht hW => ⟨⟨nI 0, (), rfl, (if_neg (fun h => h.2.1 c1)).symm, trivial⟩, hS.F ht⟩) hS.2.2 d_Bank_isIn_25
  · refine lv_iload_n hx hb d_Bank_isIn_4 rfl (lv_at hl 1 rfl) ?_
    refine lv_iload_n hx hb d_Bank_isIn_5 rfl (lv_at hl 2 rfl) ?_
    refine lv_icmp_gt (tgt := 24) hx hb d_Bank_isIn_6 (by decide) (fun c2 => ?_) (fun c2 => ?_)
    · refine lv_iconst (v := nI 0) hx hb d_Bank_isIn_24 (by decide) ?_
      exact W.zret (v := nI 0) (ty := .boolean) hx hb hr (by decide) (fun t ht hW => ⟨⟨nI 0, (), rfl, (if_neg (fun h => mb_in_2 ha h c2)).symm, trivial⟩, hS.F ht⟩) hS.2.2 d_Bank_isIn_25
    · refine lv_iload_n hx hb d_Bank_isIn_9 rfl (lv_at hl 0 rfl) ?_
      refine lv_if_lt (tgt := 24) hx hb d_Bank_isIn_10 (by decide) (fun c3 => ?_) (fun c3 => ?_)
      · refine lv_iconst (v := nI 0) hx hb d_Bank_isIn_24 (by decide) ?_
        exact W.zret (v := nI 0) (ty := .boolean) hx hb hr (by decide) (fun t ht hW => ⟨⟨nI 0, (), rfl, (if_neg (fun h => h.1 c3)).symm, trivial⟩, hS.F ht⟩) hS.2.2 d_Bank_isIn_25
      · refine lv_iload_n hx hb d_Bank_isIn_13 rfl (lv_at hl 0 rfl) ?_
        refine lv_iload_n hx hb d_Bank_isIn_14 rfl (lv_at hl 2 rfl) ?_
        refine lv_iload_n hx hb d_Bank_isIn_15 rfl (lv_at hl 1 rfl) ?_
        refine lv_isub hx hb d_Bank_isIn_16 ?_
        refine lv_icmp_gt (tgt := 24) hx hb d_Bank_isIn_17 (by decide) (fun c4 => ?_) (fun c4 => ?_)
        · refine lv_iconst (v := nI 0) hx hb d_Bank_isIn_24 (by decide) ?_
          exact W.zret (v := nI 0) (ty := .boolean) hx hb hr (by decide) (fun t ht hW => ⟨⟨nI 0, (), rfl, (if_neg (fun h => mb_in_4 ha h c4)).symm, trivial⟩, hS.F ht⟩) hS.2.2 d_Bank_isIn_25
        · refine lv_iconst (v := nI 1) hx hb d_Bank_isIn_20 (by decide) ?_
          refine lv_goto (tgt := 25) hx hb d_Bank_isIn_21 (by decide) ?_
          exact W.zret (v := nI 1) (ty := .boolean) hx hb hr (by decide) (fun t ht hW => ⟨⟨nI 1, (), rfl, (if_pos (mb_in_t ha c1 c2 c3 c4)).symm, trivial⟩, hS.F ht⟩) hS.2.2 d_Bank_isIn_25
set_option maxHeartbeats 4000000 in
set_option maxRecDepth 100000 in
/-- put(b): one byte more, or -1 where the row is full -/
theorem c_Bank_put (l : Launch) (dC : Nat → ClassId) (dI : Nat → Nat → Nat) (sz : Nat) (h0 h1 h2 h3 h4 : Nat) (kC kM kR : ClassId) (tab : Nat → Int32) (u : mb_S) (hu : mb_ok u) (p0 : Int32) : Met l y_Bank_put w_Bank_put ({ frames := 0, cells := 0, slots := 0, locals := 0 }) (va_Pc [.ref h0, .int p0] (fun U => U.heap.size = sz ∧ va_P (dC, dI) classes (ws_Bank h0 h1 h2 h3 h4 kC kM kR tab u) U.heap ∧ va_K (dC, dI) classes (ty_Bank kC kM kR) U ∧ va_D (fun _ => True) (ws_Bank h0 h1 h2 h3 h4 kC kM kR tab u))) (va_Qi (fun (r : Int32) (v : mb_S) => r = (mb_put p0 u).1 ∧ v = (mb_put p0 u).2) (at_Bank dC dI (va_A (ws_Bank h0 h1 h2 h3 h4 kC kM kR tab u) sz) h0 h1 h2 h3 h4 kC kM kR tab) (va_A (ws_Bank h0 h1 h2 h3 h4 kC kM kR tab u) sz)) 0 0 (va_A (ws_Bank h0 h1 h2 h3 h4 kC kM kR tab u) sz) := by
  obtain ⟨mem, row, n⟩ := u
  obtain ⟨hu1, hu2, hu3⟩ := hu
  have hu1 : sb_Fit mem := hu1
  have hu2 : sb_Fit row := hu2
  have hu3 : n ≤ 512 := hu3
  refine Met.ofW (cc := b_Bank_put) (maxL := 2) (ret := (some .int)) (by decide) rfl ?_
  intro p e s m args below meth c s₁ B hml hv
  obtain ⟨rfl, hsz, hP, hK, hD0⟩ := hv
  have hx := B.exec
  have hb := B.bytes
  have hr := B.returns
  have hts := atoms_spec (ws := w_Bank_put) B.pre
  have hown : s.vm.findClass R_Bank = some m.cls := findClass_of_methodNamed B.named
  have hlocks := B.notSynchronized
  subst hsz
  have hD := hD0.self (sz := s.heap.size)
  generalize hAe : va_A (ws_Bank h0 h1 h2 h3 h4 kC kM kR tab (mem, row, n)) s.heap.size = A at hD ⊢
  have hA : ∀ q : Nat, s.heap.size ≤ q → A q := fun q h => by rw [← hAe]; exact Or.inr h
  have hS : va_S A s.heap s.heap [] := va_S.rf
  have hP : va_P (dC, dI) classes [(h0, .inr (1, [.ref h1, .ref h3, .ref h4, .int (nI n)])), (h1, .inr (0, [.ref h2])), (h2, .inl (kC, 256, .inl tab)), (h3, .inl (kM, 4096, .inl mem)), (h4, .inl (kR, 512, .inl row))] s.heap := hP
  have hD : va_D A [(h0, .inr (1, [.ref h1, .ref h3, .ref h4, .int (nI n)])), (h1, .inr (0, [.ref h2])), (h2, .inl (kC, 256, .inl tab)), (h3, .inl (kM, 4096, .inl mem)), (h4, .inl (kR, 512, .inl row))] := hD
  have hK : va_K (dC, dI) classes [(kC, .char), (kM, .byte), (kR, .byte)] s := hK
  have hl := lv_entry ([.ref h0, .int p0]) (n := 2) (Nat.le_of_ble_eq_true rfl)
  rw [lg_entry_eq]
  generalize (lg_sl ([.ref h0, .int p0]) ++ List.replicate (2 - (lg_sl ([.ref h0, .int p0])).length) Slot.unset).toArray = ls at hl ⊢
  have hl : lv_has ls 2 [(0, .ref h0), (1, .int p0)] := hl
  refine lv_aload_n hx hb d_Bank_put_0 rfl (lv_at hl 0 rfl) ?_
  refine va_get (D := (dC, dI)) (ci := 1) (v := .int (nI n)) (C := R_Bank) (T := F_Bank) (N := 4) hx hb hts i_Bank_put_Bank hown hK hP 0 rfl rfl 3 (by decide) (hts (.fieldLink R_Bank 23 "MemoryBank" "size" "I") (by decide +kernel)) (fun _ h9 => h9) rfl d_Bank_put_1 ?_
  refine lv_sipush (v := nI 512) hx hb d_Bank_put_4 (by decide +kernel) ?_
  refine lv_icmp_ne (tgt := 12) hx hb d_Bank_put_7 (by decide) (fun c1 => ?_) (fun c1 => ?_)
  · have hn : ¬ n = 512 := fun h => c1 (by rw [h])
    have hn2 : n < 512 := by omega
    refine lv_aload_n hx hb d_Bank_put_12 rfl (lv_at hl 0 rfl) ?_
    refine va_get (D := (dC, dI)) (ci := 1) (v := .ref h4) (C := R_Bank) (T := F_Bank) (N := 4) hx hb hts i_Bank_put_Bank hown hK hP 0 rfl rfl 2 (by decide) (hts (.fieldLink R_Bank 20 "MemoryBank" "row" "[B") (by decide +kernel)) (fun _ h9 => h9) rfl d_Bank_put_13 ?_
    refine lv_aload_n hx hb d_Bank_put_16 rfl (lv_at hl 0 rfl) ?_
    refine va_get (D := (dC, dI)) (ci := 1) (v := .int (nI n)) (C := R_Bank) (T := F_Bank) (N := 4) hx hb hts i_Bank_put_Bank hown hK hP 0 rfl rfl 3 (by decide) (hts (.fieldLink R_Bank 23 "MemoryBank" "size" "I") (by decide +kernel)) (fun _ h9 => h9) rfl d_Bank_put_17 ?_
    refine lv_iload_n hx hb d_Bank_put_20 rfl (lv_at hl 1 rfl) ?_
    refine lv_i2b (v := p0.toInt8.toInt32) hx hb d_Bank_put_21 rfl ?_
    refine mb_bast (k := n) (n := 512) (f := row) (y := p0.toInt8.toInt32) (f2 := upd row n (p0.toInt8.toInt32)) hx hb hK hP hD hS 4 2 rfl rfl (hn2) (by decide) (pk_vb p0) (rfl) d_Bank_put_22 (fun H locs hP hD hS => ?_)
    have hP : va_P (dC, dI) classes [(h0, .inr (1, [.ref h1, .ref h3, .ref h4, .int (nI n)])), (h1, .inr (0, [.ref h2])), (h2, .inl (kC, 256, .inl tab)), (h3, .inl (kM, 4096, .inl mem)), (h4, .inl (kR, 512, .inl (upd row n (p0.toInt8.toInt32))))] H := hP
    have hD : va_D A [(h0, .inr (1, [.ref h1, .ref h3, .ref h4, .int (nI n)])), (h1, .inr (0, [.ref h2])), (h2, .inl (kC, 256, .inl tab)), (h3, .inl (kM, 4096, .inl mem)), (h4, .inl (kR, 512, .inl (upd row n (p0.toInt8.toInt32))))] := hD
    refine lv_aload_n hx hb d_Bank_put_23 rfl (lv_at hl 0 rfl) ?_
    refine lv_dup hx hb d_Bank_put_24 rfl ?_
    refine va_get (D := (dC, dI)) (ci := 1) (v := .int (nI n)) (C := R_Bank) (T := F_Bank) (N := 4) hx hb hts i_Bank_put_Bank hown hK hP 0 rfl rfl 3 (by decide) (hts (.fieldLink R_Bank 23 "MemoryBank" "size" "I") (by decide +kernel)) (fun _ h9 => h9) rfl d_Bank_put_25 ?_
    refine lv_iconst (v := nI 1) hx hb d_Bank_put_28 (by decide) ?_
    refine lv_iadd hx hb d_Bank_put_29 ?_
    refine mb_top (x := (nI n) + (nI 1)) (y := nI (n + 1)) (nI_1 n) ?_
    refine va_put (D := (dC, dI)) (ci := 1) (v := .int (nI (n + 1))) (ty := .int) (C := R_Bank) (T := F_Bank) (N := 4) hx hb hts i_Bank_put_Bank t_Bank t_Bank_ok n_Bank hown hK hP hD hS 0 rfl rfl 3 (by decide) (hts (.fieldLink R_Bank 23 "MemoryBank" "size" "I") (by decide +kernel)) (fun _ h9 => h9) rfl (by decide +kernel) rfl rfl (Nat.le_of_ble_eq_true rfl) d_Bank_put_30 (fun H locs hP hD hS => ?_)
    have hP : va_P (dC, dI) classes [(h0, .inr (1, [.ref h1, .ref h3, .ref h4, .int (nI (n + 1))])), (h1, .inr (0, [.ref h2])), (h2, .inl (kC, 256, .inl tab)), (h3, .inl (kM, 4096, .inl mem)), (h4, .inl (kR, 512, .inl (upd row n (p0.toInt8.toInt32))))] H := hP
    have hD : va_D A [(h0, .inr (1, [.ref h1, .ref h3, .ref h4, .int (nI (n + 1))])), (h1, .inr (0, [.ref h2])), (h2, .inl (kC, 256, .inl tab)), (h3, .inl (kM, 4096, .inl mem)), (h4, .inl (kR, 512, .inl (upd row n (p0.toInt8.toInt32))))] := hD
    refine lv_aload_n hx hb d_Bank_put_33 rfl (lv_at hl 0 rfl) ?_
    refine va_get (D := (dC, dI)) (ci := 1) (v := .int (nI (n + 1))) (C := R_Bank) (T := F_Bank) (N := 4) hx hb hts i_Bank_put_Bank hown hK hP 0 rfl rfl 3 (by decide) (hts (.fieldLink R_Bank 23 "MemoryBank" "size" "I") (by decide +kernel)) (fun _ h9 => h9) rfl d_Bank_put_34 ?_
    exact W.iret (v := nI (n + 1)) hx hb hr (fun t ht hW => ⟨⟨nI (n + 1), (mem, upd row n p0.toInt8.toInt32, n + 1), rfl, (by rw [mb_put_t (u := (mem, row, n)) hn]; exact ⟨rfl, rfl⟩), by rw [ht]; exact hP, va_K.moved hW.alike hK, hD⟩, hS.F ht⟩) hS.2.2 d_Bank_put_37
  · have hn : n = 512 := (nI_eq (by omega) (by omega)).mp c1
    refine lv_iconst (v := -1) hx hb d_Bank_put_10 (by decide) ?_
    exact W.iret (v := (-1)) hx hb hr (fun t ht hW => ⟨⟨(-1), (mem, row, n), rfl, (by rw [mb_put_f (u := (mem, row, n)) hn]; exact ⟨rfl, rfl⟩), by rw [ht]; exact hP, va_K.moved hW.alike hK, hD⟩, hS.F ht⟩) hS.2.2 d_Bank_put_11
set_option maxHeartbeats 4000000 in
set_option maxRecDepth 100000 in
/-- cut(n): the row is cut to n bytes, or 0 -/
theorem c_Bank_cut (l : Launch) (dC : Nat → ClassId) (dI : Nat → Nat → Nat) (sz : Nat) (h0 h1 h2 h3 h4 : Nat) (kC kM kR : ClassId) (tab : Nat → Int32) (u : mb_S) (hu : mb_ok u) (p0 : Int32) : Met l y_Bank_cut w_Bank_cut ({ frames := 0, cells := 0, slots := 0, locals := 0 }) (va_Pc [.ref h0, .int p0] (fun U => U.heap.size = sz ∧ va_P (dC, dI) classes (ws_Bank h0 h1 h2 h3 h4 kC kM kR tab u) U.heap ∧ va_K (dC, dI) classes (ty_Bank kC kM kR) U ∧ va_D (fun _ => True) (ws_Bank h0 h1 h2 h3 h4 kC kM kR tab u))) (va_Qi (fun (r : Int32) (v : mb_S) => r = (mb_cut p0 u).1 ∧ v = (mb_cut p0 u).2) (at_Bank dC dI (va_A (ws_Bank h0 h1 h2 h3 h4 kC kM kR tab u) sz) h0 h1 h2 h3 h4 kC kM kR tab) (va_A (ws_Bank h0 h1 h2 h3 h4 kC kM kR tab u) sz)) 0 0 (va_A (ws_Bank h0 h1 h2 h3 h4 kC kM kR tab u) sz) := by
  obtain ⟨mem, row, n⟩ := u
  obtain ⟨hu1, hu2, hu3⟩ := hu
  have hu1 : sb_Fit mem := hu1
  have hu2 : sb_Fit row := hu2
  have hu3 : n ≤ 512 := hu3
  refine Met.ofW (cc := b_Bank_cut) (maxL := 2) (ret := (some .boolean)) (by decide) rfl ?_
  intro p e s m args below meth c s₁ B hml hv
  obtain ⟨rfl, hsz, hP, hK, hD0⟩ := hv
  have hx := B.exec
  have hb := B.bytes
  have hr := B.returns
  have hts := atoms_spec (ws := w_Bank_cut) B.pre
  have hown : s.vm.findClass R_Bank = some m.cls := findClass_of_methodNamed B.named
  have hlocks := B.notSynchronized
  subst hsz
  have hD := hD0.self (sz := s.heap.size)
  generalize hAe : va_A (ws_Bank h0 h1 h2 h3 h4 kC kM kR tab (mem, row, n)) s.heap.size = A at hD ⊢
  have hA : ∀ q : Nat, s.heap.size ≤ q → A q := fun q h => by rw [← hAe]; exact Or.inr h
  have hS : va_S A s.heap s.heap [] := va_S.rf
  have hP : va_P (dC, dI) classes [(h0, .inr (1, [.ref h1, .ref h3, .ref h4, .int (nI n)])), (h1, .inr (0, [.ref h2])), (h2, .inl (kC, 256, .inl tab)), (h3, .inl (kM, 4096, .inl mem)), (h4, .inl (kR, 512, .inl row))] s.heap := hP
  have hD : va_D A [(h0, .inr (1, [.ref h1, .ref h3, .ref h4, .int (nI n)])), (h1, .inr (0, [.ref h2])), (h2, .inl (kC, 256, .inl tab)), (h3, .inl (kM, 4096, .inl mem)), (h4, .inl (kR, 512, .inl row))] := hD
  have hK : va_K (dC, dI) classes [(kC, .char), (kM, .byte), (kR, .byte)] s := hK
  have hl := lv_entry ([.ref h0, .int p0]) (n := 2) (Nat.le_of_ble_eq_true rfl)
  rw [lg_entry_eq]
  generalize (lg_sl ([.ref h0, .int p0]) ++ List.replicate (2 - (lg_sl ([.ref h0, .int p0])).length) Slot.unset).toArray = ls at hl ⊢
  have hl : lv_has ls 2 [(0, .ref h0), (1, .int p0)] := hl
  refine lv_iload_n hx hb d_Bank_cut_0 rfl (lv_at hl 1 rfl) ?_
  refine lv_if_lt (tgt := 12) hx hb d_Bank_cut_1 (by decide) (fun c1 => ?_) (fun c1 => ?_)
  · refine lv_iconst (v := nI 0) hx hb d_Bank_cut_12 (by decide) ?_
    exact W.zret (v := nI 0) (ty := .boolean) hx hb hr (by decide) (fun t ht hW => ⟨⟨nI 0, (mem, row, n), rfl, (by rw [mb_cut_f (u := (mem, row, n)) (fun h => h.1 c1)]; exact ⟨rfl, rfl⟩), by rw [ht]; exact hP, va_K.moved hW.alike hK, hD⟩, hS.F ht⟩) hS.2.2 d_Bank_cut_13
  · refine lv_iload_n hx hb d_Bank_cut_4 rfl (lv_at hl 1 rfl) ?_
    refine lv_aload_n hx hb d_Bank_cut_5 rfl (lv_at hl 0 rfl) ?_
    refine va_get (D := (dC, dI)) (ci := 1) (v := .int (nI n)) (C := R_Bank) (T := F_Bank) (N := 4) hx hb hts i_Bank_cut_Bank hown hK hP 0 rfl rfl 3 (by decide) (hts (.fieldLink R_Bank 23 "MemoryBank" "size" "I") (by decide +kernel)) (fun _ h9 => h9) rfl d_Bank_cut_6 ?_
    refine lv_icmp_le (tgt := 14) hx hb d_Bank_cut_9 (by decide) (fun c2 => ?_) (fun c2 => ?_)
    · have z2 : p0.toNatClampNeg ≤ n := mb_10 c1 (by omega) c2
      refine lv_aload_n hx hb d_Bank_cut_14 rfl (lv_at hl 0 rfl) ?_
      refine lv_iload_n hx hb d_Bank_cut_15 rfl (lv_at hl 1 rfl) ?_
      refine mb_top (x := p0) (y := nI p0.toNatClampNeg) (mb_nat c1) ?_
      refine va_put (D := (dC, dI)) (ci := 1) (v := .int (nI p0.toNatClampNeg)) (ty := .int) (C := R_Bank) (T := F_Bank) (N := 4) hx hb hts i_Bank_cut_Bank t_Bank t_Bank_ok n_Bank hown hK hP hD hS 0 rfl rfl 3 (by decide) (hts (.fieldLink R_Bank 23 "MemoryBank" "size" "I") (by decide +kernel)) (fun _ h9 => h9) rfl (by decide +kernel) rfl rfl (Nat.le_of_ble_eq_true rfl) d_Bank_cut_16 (fun H locs hP hD hS => ?_)
      have hP : va_P (dC, dI) classes [(h0, .inr (1, [.ref h1, .ref h3, .ref h4, .int (nI p0.toNatClampNeg)])), (h1, .inr (0, [.ref h2])), (h2, .inl (kC, 256, .inl tab)), (h3, .inl (kM, 4096, .inl mem)), (h4, .inl (kR, 512, .inl row))] H := hP
      have hD : va_D A [(h0, .inr (1, [.ref h1, .ref h3, .ref h4, .int (nI p0.toNatClampNeg)])), (h1, .inr (0, [.ref h2])), (h2, .inl (kC, 256, .inl tab)), (h3, .inl (kM, 4096, .inl mem)), (h4, .inl (kR, 512, .inl row))] := hD
      refine lv_iconst (v := nI 1) hx hb d_Bank_cut_19 (by decide) ?_
      exact W.zret (v := nI 1) (ty := .boolean) hx hb hr (by decide) (fun t ht hW => ⟨⟨nI 1, (mem, row, p0.toNatClampNeg), rfl, (by rw [mb_cut_t (u := (mem, row, n)) ⟨c1, z2⟩]; exact ⟨rfl, rfl⟩), by rw [ht]; exact hP, va_K.moved hW.alike hK, hD⟩, hS.F ht⟩) hS.2.2 d_Bank_cut_20
    · refine lv_iconst (v := nI 0) hx hb d_Bank_cut_12 (by decide) ?_
      exact W.zret (v := nI 0) (ty := .boolean) hx hb hr (by decide) (fun t ht hW => ⟨⟨nI 0, (mem, row, n), rfl, (by rw [mb_cut_f (u := (mem, row, n)) (fun h => mb_11 c1 (by omega) c2 h.2)]; exact ⟨rfl, rfl⟩), by rw [ht]; exact hP, va_K.moved hW.alike hK, hD⟩, hS.F ht⟩) hS.2.2 d_Bank_cut_13
set_option maxHeartbeats 4000000 in
set_option maxRecDepth 100000 in
/-- size() -/
theorem c_Bank_size (l : Launch) (dC : Nat → ClassId) (dI : Nat → Nat → Nat) (sz : Nat) (h0 h1 h2 h3 h4 : Nat) (kC kM kR : ClassId) (tab : Nat → Int32) (u : mb_S)  : Met l y_Bank_size w_Bank_size ({ frames := 0, cells := 0, slots := 0, locals := 0 }) (va_Pc [.ref h0] (fun U => U.heap.size = sz ∧ va_P (dC, dI) classes (ws_Bank h0 h1 h2 h3 h4 kC kM kR tab u) U.heap ∧ va_K (dC, dI) classes (ty_Bank kC kM kR) U)) (va_Qi (fun (r : Int32) (_ : Unit) => r = nI u.2.2) (fun _ _ => True) (va_A [] sz)) 0 0 (va_A [] sz) := by
  obtain ⟨mem, row, n⟩ := u
  refine Met.ofW (cc := b_Bank_size) (maxL := 1) (ret := (some .int)) (by decide) rfl ?_
  intro p e s m args below meth c s₁ B hml hv
  obtain ⟨rfl, hsz, hP, hK⟩ := hv
  have hx := B.exec
  have hb := B.bytes
  have hr := B.returns
  have hts := atoms_spec (ws := w_Bank_size) B.pre
  have hown : s.vm.findClass R_Bank = some m.cls := findClass_of_methodNamed B.named
  have hlocks := B.notSynchronized
  subst hsz
  generalize hAe : va_A [] s.heap.size = A
  have hA : ∀ q : Nat, s.heap.size ≤ q → A q := fun q h => by rw [← hAe]; exact Or.inr h
  have hS : va_S A s.heap s.heap [] := va_S.rf
  have hP : va_P (dC, dI) classes [(h0, .inr (1, [.ref h1, .ref h3, .ref h4, .int (nI n)])), (h1, .inr (0, [.ref h2])), (h2, .inl (kC, 256, .inl tab)), (h3, .inl (kM, 4096, .inl mem)), (h4, .inl (kR, 512, .inl row))] s.heap := hP
  have hK : va_K (dC, dI) classes [(kC, .char), (kM, .byte), (kR, .byte)] s := hK
  have hl := lv_entry ([.ref h0]) (n := 1) (Nat.le_of_ble_eq_true rfl)
  rw [lg_entry_eq]
  generalize (lg_sl ([.ref h0]) ++ List.replicate (1 - (lg_sl ([.ref h0])).length) Slot.unset).toArray = ls at hl ⊢
  have hl : lv_has ls 1 [(0, .ref h0)] := hl
  refine lv_aload_n hx hb d_Bank_size_0 rfl (lv_at hl 0 rfl) ?_
  refine va_get (D := (dC, dI)) (ci := 1) (v := .int (nI n)) (C := R_Bank) (T := F_Bank) (N := 4) hx hb hts i_Bank_size_Bank hown hK hP 0 rfl rfl 3 (by decide) (hts (.fieldLink R_Bank 23 "MemoryBank" "size" "I") (by decide +kernel)) (fun _ h9 => h9) rfl d_Bank_size_1 ?_
  exact W.iret (v := nI n) hx hb hr (fun t ht hW => ⟨⟨nI n, (), rfl, rfl, trivial⟩, hS.F ht⟩) hS.2.2 d_Bank_size_4
set_option maxHeartbeats 4000000 in
set_option maxRecDepth 100000 in
/-- rowAt(k) -/
theorem c_Bank_rowAt (l : Launch) (dC : Nat → ClassId) (dI : Nat → Nat → Nat) (sz : Nat) (h0 h1 h2 h3 h4 : Nat) (kC kM kR : ClassId) (tab : Nat → Int32) (u : mb_S) (hu : mb_ok u) (p0 : Int32) : Met l y_Bank_rowAt w_Bank_rowAt ({ frames := 0, cells := 0, slots := 0, locals := 0 }) (va_Pc [.ref h0, .int p0] (fun U => U.heap.size = sz ∧ va_P (dC, dI) classes (ws_Bank h0 h1 h2 h3 h4 kC kM kR tab u) U.heap ∧ va_K (dC, dI) classes (ty_Bank kC kM kR) U)) (va_Qi (fun (r : Int32) (_ : Unit) => r = mb_rowAt p0 u) (fun _ _ => True) (va_A [] sz)) 0 0 (va_A [] sz) := by
  obtain ⟨mem, row, n⟩ := u
  obtain ⟨hu1, hu2, hu3⟩ := hu
  have hu1 : sb_Fit mem := hu1
  have hu2 : sb_Fit row := hu2
  have hu3 : n ≤ 512 := hu3
  refine Met.ofW (cc := b_Bank_rowAt) (maxL := 2) (ret := (some .int)) (by decide) rfl ?_
  intro p e s m args below meth c s₁ B hml hv
  obtain ⟨rfl, hsz, hP, hK⟩ := hv
  have hx := B.exec
  have hb := B.bytes
  have hr := B.returns
  have hts := atoms_spec (ws := w_Bank_rowAt) B.pre
  have hown : s.vm.findClass R_Bank = some m.cls := findClass_of_methodNamed B.named
  have hlocks := B.notSynchronized
  subst hsz
  generalize hAe : va_A [] s.heap.size = A
  have hA : ∀ q : Nat, s.heap.size ≤ q → A q := fun q h => by rw [← hAe]; exact Or.inr h
  have hS : va_S A s.heap s.heap [] := va_S.rf
  have hP : va_P (dC, dI) classes [(h0, .inr (1, [.ref h1, .ref h3, .ref h4, .int (nI n)])), (h1, .inr (0, [.ref h2])), (h2, .inl (kC, 256, .inl tab)), (h3, .inl (kM, 4096, .inl mem)), (h4, .inl (kR, 512, .inl row))] s.heap := hP
  have hK : va_K (dC, dI) classes [(kC, .char), (kM, .byte), (kR, .byte)] s := hK
  have hl := lv_entry ([.ref h0, .int p0]) (n := 2) (Nat.le_of_ble_eq_true rfl)
  rw [lg_entry_eq]
  generalize (lg_sl ([.ref h0, .int p0]) ++ List.replicate (2 - (lg_sl ([.ref h0, .int p0])).length) Slot.unset).toArray = ls at hl ⊢
  have hl : lv_has ls 2 [(0, .ref h0), (1, .int p0)] := hl
  refine lv_iload_n hx hb d_Bank_rowAt_0 rfl (lv_at hl 1 rfl) ?_
  refine lv_if_lt (tgt := 12) hx hb d_Bank_rowAt_1 (by decide) (fun c1 => ?_) (fun c1 => ?_)
  · refine lv_iconst (v := -1) hx hb d_Bank_rowAt_12 (by decide) ?_
    refine lv_goto (tgt := 26) hx hb d_Bank_rowAt_13 (by decide) ?_
    exact W.iret (v := (-1)) hx hb hr (fun t ht hW => ⟨⟨(-1), (), rfl, mb_rowAt_f (u := (mem, row, n)) (fun h => h.1 c1), trivial⟩, hS.F ht⟩) hS.2.2 d_Bank_rowAt_26
  · refine lv_iload_n hx hb d_Bank_rowAt_4 rfl (lv_at hl 1 rfl) ?_
    refine lv_aload_n hx hb d_Bank_rowAt_5 rfl (lv_at hl 0 rfl) ?_
    refine va_get (D := (dC, dI)) (ci := 1) (v := .int (nI n)) (C := R_Bank) (T := F_Bank) (N := 4) hx hb hts i_Bank_rowAt_Bank hown hK hP 0 rfl rfl 3 (by decide) (hts (.fieldLink R_Bank 23 "MemoryBank" "size" "I") (by decide +kernel)) (fun _ h9 => h9) rfl d_Bank_rowAt_6 ?_
    refine lv_icmp_lt (tgt := 16) hx hb d_Bank_rowAt_9 (by decide) (fun c2 => ?_) (fun c2 => ?_)
    · have z2 : p0.toNatClampNeg < n := mb_12 c1 (by omega) c2
      refine lv_aload_n hx hb d_Bank_rowAt_16 rfl (lv_at hl 0 rfl) ?_
      refine va_get (D := (dC, dI)) (ci := 1) (v := .ref h4) (C := R_Bank) (T := F_Bank) (N := 4) hx hb hts i_Bank_rowAt_Bank hown hK hP 0 rfl rfl 2 (by decide) (hts (.fieldLink R_Bank 20 "MemoryBank" "row" "[B") (by decide +kernel)) (fun _ h9 => h9) rfl d_Bank_rowAt_17 ?_
      refine lv_iload_n hx hb d_Bank_rowAt_20 rfl (lv_at hl 1 rfl) ?_
      refine mb_top (x := p0) (y := nI p0.toNatClampNeg) (mb_nat c1) ?_
      refine mb_bald (k := p0.toNatClampNeg) (n := 512) (f := row) hx hb hK hP 4 2 rfl rfl (by omega) (by decide) d_Bank_rowAt_21 ?_
      refine lv_sipush (v := nI 255) hx hb d_Bank_rowAt_22 (by decide +kernel) ?_
      refine lv_iand hx hb d_Bank_rowAt_25 ?_
      refine mb_top (x := (row (p0.toNatClampNeg)) &&& (nI 255)) (y := nI (mb_by (row p0.toNatClampNeg))) (mb_255 _) ?_
      exact W.iret (v := nI (mb_by (row p0.toNatClampNeg))) hx hb hr (fun t ht hW => ⟨⟨nI (mb_by (row p0.toNatClampNeg)), (), rfl, mb_rowAt_t (u := (mem, row, n)) ⟨c1, z2⟩, trivial⟩, hS.F ht⟩) hS.2.2 d_Bank_rowAt_26
    · refine lv_iconst (v := -1) hx hb d_Bank_rowAt_12 (by decide) ?_
      refine lv_goto (tgt := 26) hx hb d_Bank_rowAt_13 (by decide) ?_
      exact W.iret (v := (-1)) hx hb hr (fun t ht hW => ⟨⟨(-1), (), rfl, mb_rowAt_f (u := (mem, row, n)) (fun h => mb_13 c1 (by omega) c2 h.2), trivial⟩, hS.F ht⟩) hS.2.2 d_Bank_rowAt_26
set_option maxHeartbeats 4000000 in
set_option maxRecDepth 100000 in
/-- at(k) -/
theorem c_Bank_at (l : Launch) (dC : Nat → ClassId) (dI : Nat → Nat → Nat) (sz : Nat) (h0 h1 h2 h3 h4 : Nat) (kC kM kR : ClassId) (tab : Nat → Int32) (u : mb_S) (p0 : Int32) : Met l y_Bank_at w_Bank_at ({ frames := 0, cells := 0, slots := 0, locals := 0 }) (va_Pc [.ref h0, .int p0] (fun U => U.heap.size = sz ∧ va_P (dC, dI) classes (ws_Bank h0 h1 h2 h3 h4 kC kM kR tab u) U.heap ∧ va_K (dC, dI) classes (ty_Bank kC kM kR) U)) (va_Qi (fun (r : Int32) (_ : Unit) => r = mb_at p0 u) (fun _ _ => True) (va_A [] sz)) 0 0 (va_A [] sz) := by
  obtain ⟨mem, row, n⟩ := u
  refine Met.ofW (cc := b_Bank_at) (maxL := 2) (ret := (some .int)) (by decide) rfl ?_
  intro p e s m args below meth c s₁ B hml hv
  obtain ⟨rfl, hsz, hP, hK⟩ := hv
  have hx := B.exec
  have hb := B.bytes
  have hr := B.returns
  have hts := atoms_spec (ws := w_Bank_at) B.pre
  have hown : s.vm.findClass R_Bank = some m.cls := findClass_of_methodNamed B.named
  have hlocks := B.notSynchronized
  subst hsz
  generalize hAe : va_A [] s.heap.size = A
  have hA : ∀ q : Nat, s.heap.size ≤ q → A q := fun q h => by rw [← hAe]; exact Or.inr h
  have hS : va_S A s.heap s.heap [] := va_S.rf
  have hP : va_P (dC, dI) classes [(h0, .inr (1, [.ref h1, .ref h3, .ref h4, .int (nI n)])), (h1, .inr (0, [.ref h2])), (h2, .inl (kC, 256, .inl tab)), (h3, .inl (kM, 4096, .inl mem)), (h4, .inl (kR, 512, .inl row))] s.heap := hP
  have hK : va_K (dC, dI) classes [(kC, .char), (kM, .byte), (kR, .byte)] s := hK
  have hl := lv_entry ([.ref h0, .int p0]) (n := 2) (Nat.le_of_ble_eq_true rfl)
  rw [lg_entry_eq]
  generalize (lg_sl ([.ref h0, .int p0]) ++ List.replicate (2 - (lg_sl ([.ref h0, .int p0])).length) Slot.unset).toArray = ls at hl ⊢
  have hl : lv_has ls 2 [(0, .ref h0), (1, .int p0)] := hl
  refine lv_iload_n hx hb d_Bank_at_0 rfl (lv_at hl 1 rfl) ?_
  refine lv_if_lt (tgt := 11) hx hb d_Bank_at_1 (by decide) (fun c1 => ?_) (fun c1 => ?_)
  · refine lv_iconst (v := -1) hx hb d_Bank_at_11 (by decide) ?_
    refine lv_goto (tgt := 25) hx hb d_Bank_at_12 (by decide) ?_
    exact W.iret (v := (-1)) hx hb hr (fun t ht hW => ⟨⟨(-1), (), rfl, mb_at_f (u := (mem, row, n)) (fun h => h.1 c1), trivial⟩, hS.F ht⟩) hS.2.2 d_Bank_at_25
  · refine lv_iload_n hx hb d_Bank_at_4 rfl (lv_at hl 1 rfl) ?_
    refine lv_sipush (v := nI 4096) hx hb d_Bank_at_5 (by decide +kernel) ?_
    refine lv_icmp_lt (tgt := 15) hx hb d_Bank_at_8 (by decide) (fun c2 => ?_) (fun c2 => ?_)
    · have z2 : p0.toNatClampNeg < 4096 := mb_12 c1 (by omega) c2
      refine lv_aload_n hx hb d_Bank_at_15 rfl (lv_at hl 0 rfl) ?_
      refine va_get (D := (dC, dI)) (ci := 1) (v := .ref h3) (C := R_Bank) (T := F_Bank) (N := 4) hx hb hts i_Bank_at_Bank hown hK hP 0 rfl rfl 1 (by decide) (hts (.fieldLink R_Bank 16 "MemoryBank" "memory" "[B") (by decide +kernel)) (fun _ h9 => h9) rfl d_Bank_at_16 ?_
      refine lv_iload_n hx hb d_Bank_at_19 rfl (lv_at hl 1 rfl) ?_
      refine mb_top (x := p0) (y := nI p0.toNatClampNeg) (mb_nat c1) ?_
      refine mb_bald (k := p0.toNatClampNeg) (n := 4096) (f := mem) hx hb hK hP 3 1 rfl rfl (by omega) (by decide) d_Bank_at_20 ?_
      refine lv_sipush (v := nI 255) hx hb d_Bank_at_21 (by decide +kernel) ?_
      refine lv_iand hx hb d_Bank_at_24 ?_
      refine mb_top (x := (mem (p0.toNatClampNeg)) &&& (nI 255)) (y := nI (mb_by (mem p0.toNatClampNeg))) (mb_255 _) ?_
      exact W.iret (v := nI (mb_by (mem p0.toNatClampNeg))) hx hb hr (fun t ht hW => ⟨⟨nI (mb_by (mem p0.toNatClampNeg)), (), rfl, mb_at_t (u := (mem, row, n)) ⟨c1, z2⟩, trivial⟩, hS.F ht⟩) hS.2.2 d_Bank_at_25
    · refine lv_iconst (v := -1) hx hb d_Bank_at_11 (by decide) ?_
      refine lv_goto (tgt := 25) hx hb d_Bank_at_12 (by decide) ?_
      exact W.iret (v := (-1)) hx hb hr (fun t ht hW => ⟨⟨(-1), (), rfl, mb_at_f (u := (mem, row, n)) (fun h => mb_13 c1 (by omega) c2 h.2), trivial⟩, hS.F ht⟩) hS.2.2 d_Bank_at_25
set_option maxHeartbeats 4000000 in
set_option maxRecDepth 100000 in
/-- load(k, n, q): n bytes of the row from k on go to the memory from q on, or 0 -/
theorem c_Bank_load (l : Launch) (dC : Nat → ClassId) (dI : Nat → Nat → Nat) (sz : Nat) (h0 h1 h2 h3 h4 : Nat) (kC kM kR : ClassId) (tab : Nat → Int32) (u : mb_S) (hu : mb_ok u) (p0 p1 p2 : Int32) : Met l y_Bank_load w_Bank_load ({ frames := 1, cells := 0, slots := 0, locals := 22 }) (va_Pc [.ref h0, .int p0, .int p1, .int p2] (fun U => U.heap.size = sz ∧ va_P (dC, dI) classes (ws_Bank h0 h1 h2 h3 h4 kC kM kR tab u) U.heap ∧ va_K (dC, dI) classes (ty_Bank kC kM kR) U ∧ va_D (fun _ => True) (ws_Bank h0 h1 h2 h3 h4 kC kM kR tab u))) (va_Qi (fun (r : Int32) (v : mb_S) => r = (mb_load p0 p1 p2 u).1 ∧ v = (mb_load p0 p1 p2 u).2) (at_Bank dC dI (va_A (ws_Bank h0 h1 h2 h3 h4 kC kM kR tab u) sz) h0 h1 h2 h3 h4 kC kM kR tab) (va_A (ws_Bank h0 h1 h2 h3 h4 kC kM kR tab u) sz)) 0 0 (va_A (ws_Bank h0 h1 h2 h3 h4 kC kM kR tab u) sz) := by
  obtain ⟨mem, row, n⟩ := u
  obtain ⟨hu1, hu2, hu3⟩ := hu
  have hu1 : sb_Fit mem := hu1
  have hu2 : sb_Fit row := hu2
  have hu3 : n ≤ 512 := hu3
  refine Met.ofW (cc := b_Bank_load) (maxL := 4) (ret := (some .boolean)) (by decide) rfl ?_
  intro p e s m args below meth c s₁ B hml hv
  obtain ⟨rfl, hsz, hP, hK, hD0⟩ := hv
  have hx := B.exec
  have hb := B.bytes
  have hr := B.returns
  have hts := atoms_spec (ws := w_Bank_load) B.pre
  have hown : s.vm.findClass R_Bank = some m.cls := findClass_of_methodNamed B.named
  have hlocks := B.notSynchronized
  subst hsz
  have hD := hD0.self (sz := s.heap.size)
  generalize hAe : va_A (ws_Bank h0 h1 h2 h3 h4 kC kM kR tab (mem, row, n)) s.heap.size = A at hD ⊢
  have hA : ∀ q : Nat, s.heap.size ≤ q → A q := fun q h => by rw [← hAe]; exact Or.inr h
  have hS : va_S A s.heap s.heap [] := va_S.rf
  have hP : va_P (dC, dI) classes [(h0, .inr (1, [.ref h1, .ref h3, .ref h4, .int (nI n)])), (h1, .inr (0, [.ref h2])), (h2, .inl (kC, 256, .inl tab)), (h3, .inl (kM, 4096, .inl mem)), (h4, .inl (kR, 512, .inl row))] s.heap := hP
  have hD : va_D A [(h0, .inr (1, [.ref h1, .ref h3, .ref h4, .int (nI n)])), (h1, .inr (0, [.ref h2])), (h2, .inl (kC, 256, .inl tab)), (h3, .inl (kM, 4096, .inl mem)), (h4, .inl (kR, 512, .inl row))] := hD
  have hK : va_K (dC, dI) classes [(kC, .char), (kM, .byte), (kR, .byte)] s := hK
  have hl := lv_entry ([.ref h0, .int p0, .int p1, .int p2]) (n := 4) (Nat.le_of_ble_eq_true rfl)
  rw [lg_entry_eq]
  generalize (lg_sl ([.ref h0, .int p0, .int p1, .int p2]) ++ List.replicate (4 - (lg_sl ([.ref h0, .int p0, .int p1, .int p2])).length) Slot.unset).toArray = ls at hl ⊢
  have hl : lv_has ls 4 [(0, .ref h0), (1, .int p0), (2, .int p1), (3, .int p2)] := hl
  refine lv_iload_n hx hb d_Bank_load_0 rfl (lv_at hl 2 rfl) ?_
  refine lv_iconst (v := nI 1) hx hb d_Bank_load_1 (by decide) ?_
  refine lv_icmp_lt (tgt := 28) hx hb d_Bank_load_2 (by decide) (fun c1 => ?_) (fun c1 => ?_)
  · refine lv_iconst (v := nI 0) hx hb d_Bank_load_28 (by decide) ?_
    exact W.zret (v := nI 0) (ty := .boolean) hx hb hr (by decide) (fun t ht hW => ⟨⟨nI 0, (mem, row, n), rfl, (by rw [mb_load_f (u := (mem, row, n)) (fun h => h.1 c1)]; exact ⟨rfl, rfl⟩), by rw [ht]; exact hP, va_K.moved hW.alike hK, hD⟩, hS.F ht⟩) hS.2.2 d_Bank_load_29
  · refine lv_iload_n hx hb d_Bank_load_5 rfl (lv_at hl 1 rfl) ?_
    refine lv_iload_n hx hb d_Bank_load_6 rfl (lv_at hl 2 rfl) ?_
    refine lv_aload_n hx hb d_Bank_load_7 rfl (lv_at hl 0 rfl) ?_
    refine va_get (D := (dC, dI)) (ci := 1) (v := .int (nI n)) (C := R_Bank) (T := F_Bank) (N := 4) hx hb hts i_Bank_load_Bank hown hK hP 0 rfl rfl 3 (by decide) (hts (.fieldLink R_Bank 23 "MemoryBank" "size" "I") (by decide +kernel)) (fun _ h9 => h9) rfl d_Bank_load_8 ?_
    have hFc := mb_free hS hA
    refine va_calli (va_runS (As := [.int p0, .int p1, .int (nI n)]) (rest := []) ⟨hx, hb, hml, hown, hts⟩ (c_Bank_isIn l s.heap.size p0 p1 n (by omega)) (cwS 3 hts g_Bank_load_Bank_isIn rfl rfl rfl (by decide +kernel) ⟨Nat.le_of_ble_eq_true rfl, Nat.le_of_ble_eq_true rfl⟩) ⟨fun a U g mk q => q, fun U hU hW => ⟨rfl, congrArg Array.size hU⟩⟩ rfl rfl hl.1 rfl (lv_room (Nat.le_of_ble_eq_true rfl)) d_Bank_load_11 ⟨Nat.zero_le _, Nat.zero_le _⟩) hS (fun q _ h => hFc q h) hFc (fun r1 u9 t9 H locs ht9 hvm9 hw hB9 hz9 hk9 hS => ?_)
    have hP := mb_keep hP hk9
    refine lv_if_eq (tgt := 28) hx hb d_Bank_load_14 (by decide) (fun c2 => ?_) (fun c2 => ?_)
    · have z1 := mb_no hw c2
      refine lv_iconst (v := nI 0) hx hb d_Bank_load_28 (by decide) ?_
      exact W.zret (v := nI 0) (ty := .boolean) hx hb hr (by decide) (fun t ht hW => ⟨⟨nI 0, (mem, row, n), rfl, (by rw [mb_load_f (u := (mem, row, n)) (fun h => z1 h.2.1)]; exact ⟨rfl, rfl⟩), by rw [ht]; exact hP, va_K.moved hW.alike hK, hD⟩, hS.F ht⟩) hS.2.2 d_Bank_load_29
    · have z1 := mb_yes hw c2
      refine lv_iload_n hx hb d_Bank_load_17 rfl (lv_at hl 3 rfl) ?_
      refine lv_iload_n hx hb d_Bank_load_18 rfl (lv_at hl 2 rfl) ?_
      refine lv_sipush (v := nI 4096) hx hb d_Bank_load_19 (by decide +kernel) ?_
      have hFc := mb_free hS hA
      refine va_calli (va_runS (As := [.int p2, .int p1, .int (nI 4096)]) (rest := []) ⟨hx, hb, hml, hown, hts⟩ (c_Bank_isIn l H.size p2 p1 4096 (by decide)) (cwS 3 hts g_Bank_load_Bank_isIn rfl rfl rfl (by decide +kernel) ⟨Nat.le_of_ble_eq_true rfl, Nat.le_of_ble_eq_true rfl⟩) ⟨fun a U g mk q => q, fun U hU hW => ⟨rfl, congrArg Array.size hU⟩⟩ rfl rfl hl.1 rfl (lv_room (Nat.le_of_ble_eq_true rfl)) d_Bank_load_22 ⟨Nat.zero_le _, Nat.zero_le _⟩) hS (fun q _ h => hFc q h) hFc (fun r2 u9 t9 H locs ht9 hvm9 hw hB9 hz9 hk9 hS => ?_)
      have hP := mb_keep hP hk9
      refine lv_if_ne (tgt := 30) hx hb d_Bank_load_25 (by decide) (fun c3 => ?_) (fun c3 => ?_)
      · have z2 := mb_yes hw c3
        refine lv_aload_n hx hb d_Bank_load_30 rfl (lv_at hl 0 rfl) ?_
        refine va_get (D := (dC, dI)) (ci := 1) (v := .ref h4) (C := R_Bank) (T := F_Bank) (N := 4) hx hb hts i_Bank_load_Bank hown hK hP 0 rfl rfl 2 (by decide) (hts (.fieldLink R_Bank 20 "MemoryBank" "row" "[B") (by decide +kernel)) (fun _ h9 => h9) rfl d_Bank_load_31 ?_
        refine lv_iload_n hx hb d_Bank_load_34 rfl (lv_at hl 1 rfl) ?_
        refine lv_aload_n hx hb d_Bank_load_35 rfl (lv_at hl 0 rfl) ?_
        refine va_get (D := (dC, dI)) (ci := 1) (v := .ref h3) (C := R_Bank) (T := F_Bank) (N := 4) hx hb hts i_Bank_load_Bank hown hK hP 0 rfl rfl 1 (by decide) (hts (.fieldLink R_Bank 16 "MemoryBank" "memory" "[B") (by decide +kernel)) (fun _ h9 => h9) rfl d_Bank_load_36 ?_
        refine lv_iload_n hx hb d_Bank_load_39 rfl (lv_at hl 3 rfl) ?_
        refine lv_iload_n hx hb d_Bank_load_40 rfl (lv_at hl 2 rfl) ?_
        refine va_copyi (ty := .byte) (sp := p0) (dp := p2) (n := p1) hx hb (by rw [hml]; exact hl.1.symm) hown (hts (.methodLink R_Bank 31 y_acopy) (by decide +kernel)) (hts (.native y_acopy) (by decide +kernel)) (hts (.static y_acopy) (by decide +kernel)) (hts (.initialized "java/lang/System") (by decide +kernel)) hK hP hD hS 4 3 2 1 rfl rfl rfl rfl rfl (z1.1) (z2.1) (z1.2.1) (by have := z1.2.2; omega) (z2.2.2) (fun i _ => hu2 _) (Nat.le_of_ble_eq_true rfl) (by decide +kernel) d_Bank_load_41 (fun H locs hP hD hS => ?_)
        have hP : va_P (dC, dI) classes [(h0, .inr (1, [.ref h1, .ref h3, .ref h4, .int (nI n)])), (h1, .inr (0, [.ref h2])), (h2, .inl (kC, 256, .inl tab)), (h3, .inl (kM, 4096, .inl (va_cpy row mem p0.toNatClampNeg p2.toNatClampNeg p1.toNatClampNeg))), (h4, .inl (kR, 512, .inl row))] H := hP
        have hD : va_D A [(h0, .inr (1, [.ref h1, .ref h3, .ref h4, .int (nI n)])), (h1, .inr (0, [.ref h2])), (h2, .inl (kC, 256, .inl tab)), (h3, .inl (kM, 4096, .inl (va_cpy row mem p0.toNatClampNeg p2.toNatClampNeg p1.toNatClampNeg))), (h4, .inl (kR, 512, .inl row))] := hD
        refine lv_iconst (v := nI 1) hx hb d_Bank_load_44 (by decide) ?_
        exact W.zret (v := nI 1) (ty := .boolean) hx hb hr (by decide) (fun t ht hW => ⟨⟨nI 1, (va_cpy row mem p0.toNatClampNeg p2.toNatClampNeg p1.toNatClampNeg, row, n), rfl, (by rw [mb_load_t (u := (mem, row, n)) ⟨c1, z1, z2⟩]; exact ⟨rfl, rfl⟩), by rw [ht]; exact hP, va_K.moved hW.alike hK, hD⟩, hS.F ht⟩) hS.2.2 d_Bank_load_45
      · have z2 := mb_no hw c3
        refine lv_iconst (v := nI 0) hx hb d_Bank_load_28 (by decide) ?_
        exact W.zret (v := nI 0) (ty := .boolean) hx hb hr (by decide) (fun t ht hW => ⟨⟨nI 0, (mem, row, n), rfl, (by rw [mb_load_f (u := (mem, row, n)) (fun h => z2 h.2.2)]; exact ⟨rfl, rfl⟩), by rw [ht]; exact hP, va_K.moved hW.alike hK, hD⟩, hS.F ht⟩) hS.2.2 d_Bank_load_29
set_option maxHeartbeats 4000000 in
set_option maxRecDepth 100000 in
/-- dump(q, n): n bytes of the memory from q on are put to the row, or 0 -/
theorem c_Bank_dump (l : Launch) (dC : Nat → ClassId) (dI : Nat → Nat → Nat) (sz : Nat) (h0 h1 h2 h3 h4 : Nat) (kC kM kR : ClassId) (tab : Nat → Int32) (u : mb_S) (hu : mb_ok u) (p0 p1 : Int32) : Met l y_Bank_dump w_Bank_dump ({ frames := 1, cells := 0, slots := 0, locals := 22 }) (va_Pc [.ref h0, .int p0, .int p1] (fun U => U.heap.size = sz ∧ va_P (dC, dI) classes (ws_Bank h0 h1 h2 h3 h4 kC kM kR tab u) U.heap ∧ va_K (dC, dI) classes (ty_Bank kC kM kR) U ∧ va_D (fun _ => True) (ws_Bank h0 h1 h2 h3 h4 kC kM kR tab u))) (va_Qi (fun (r : Int32) (v : mb_S) => r = (mb_dump p0 p1 u).1 ∧ v = (mb_dump p0 p1 u).2) (at_Bank dC dI (va_A (ws_Bank h0 h1 h2 h3 h4 kC kM kR tab u) sz) h0 h1 h2 h3 h4 kC kM kR tab) (va_A (ws_Bank h0 h1 h2 h3 h4 kC kM kR tab u) sz)) 0 0 (va_A (ws_Bank h0 h1 h2 h3 h4 kC kM kR tab u) sz) := by
  obtain ⟨mem, row, n⟩ := u
  obtain ⟨hu1, hu2, hu3⟩ := hu
  have hu1 : sb_Fit mem := hu1
  have hu2 : sb_Fit row := hu2
  have hu3 : n ≤ 512 := hu3
  refine Met.ofW (cc := b_Bank_dump) (maxL := 3) (ret := (some .boolean)) (by decide) rfl ?_
  intro p e s m args below meth c s₁ B hml hv
  obtain ⟨rfl, hsz, hP, hK, hD0⟩ := hv
  have hx := B.exec
  have hb := B.bytes
  have hr := B.returns
  have hts := atoms_spec (ws := w_Bank_dump) B.pre
  have hown : s.vm.findClass R_Bank = some m.cls := findClass_of_methodNamed B.named
  have hlocks := B.notSynchronized
  subst hsz
  have hD := hD0.self (sz := s.heap.size)
  generalize hAe : va_A (ws_Bank h0 h1 h2 h3 h4 kC kM kR tab (mem, row, n)) s.heap.size = A at hD ⊢
  have hA : ∀ q : Nat, s.heap.size ≤ q → A q := fun q h => by rw [← hAe]; exact Or.inr h
  have hS : va_S A s.heap s.heap [] := va_S.rf
  have hP : va_P (dC, dI) classes [(h0, .inr (1, [.ref h1, .ref h3, .ref h4, .int (nI n)])), (h1, .inr (0, [.ref h2])), (h2, .inl (kC, 256, .inl tab)), (h3, .inl (kM, 4096, .inl mem)), (h4, .inl (kR, 512, .inl row))] s.heap := hP
  have hD : va_D A [(h0, .inr (1, [.ref h1, .ref h3, .ref h4, .int (nI n)])), (h1, .inr (0, [.ref h2])), (h2, .inl (kC, 256, .inl tab)), (h3, .inl (kM, 4096, .inl mem)), (h4, .inl (kR, 512, .inl row))] := hD
  have hK : va_K (dC, dI) classes [(kC, .char), (kM, .byte), (kR, .byte)] s := hK
  have hl := lv_entry ([.ref h0, .int p0, .int p1]) (n := 3) (Nat.le_of_ble_eq_true rfl)
  rw [lg_entry_eq]
  generalize (lg_sl ([.ref h0, .int p0, .int p1]) ++ List.replicate (3 - (lg_sl ([.ref h0, .int p0, .int p1])).length) Slot.unset).toArray = ls at hl ⊢
  have hl : lv_has ls 3 [(0, .ref h0), (1, .int p0), (2, .int p1)] := hl
  refine lv_iload_n hx hb d_Bank_dump_0 rfl (lv_at hl 2 rfl) ?_
  refine lv_iconst (v := nI 1) hx hb d_Bank_dump_1 (by decide) ?_
  refine lv_icmp_lt (tgt := 28) hx hb d_Bank_dump_2 (by decide) (fun c1 => ?_) (fun c1 => ?_)
  · refine lv_iconst (v := nI 0) hx hb d_Bank_dump_28 (by decide) ?_
    exact W.zret (v := nI 0) (ty := .boolean) hx hb hr (by decide) (fun t ht hW => ⟨⟨nI 0, (mem, row, n), rfl, (by rw [mb_dump_f (u := (mem, row, n)) (fun h => h.1 c1)]; exact ⟨rfl, rfl⟩), by rw [ht]; exact hP, va_K.moved hW.alike hK, hD⟩, hS.F ht⟩) hS.2.2 d_Bank_dump_29
  · refine lv_iload_n hx hb d_Bank_dump_5 rfl (lv_at hl 1 rfl) ?_
    refine lv_iload_n hx hb d_Bank_dump_6 rfl (lv_at hl 2 rfl) ?_
    refine lv_sipush (v := nI 4096) hx hb d_Bank_dump_7 (by decide +kernel) ?_
    have hFc := mb_free hS hA
    refine va_calli (va_runS (As := [.int p0, .int p1, .int (nI 4096)]) (rest := []) ⟨hx, hb, hml, hown, hts⟩ (c_Bank_isIn l s.heap.size p0 p1 4096 (by decide)) (cwS 3 hts g_Bank_dump_Bank_isIn rfl rfl rfl (by decide +kernel) ⟨Nat.le_of_ble_eq_true rfl, Nat.le_of_ble_eq_true rfl⟩) ⟨fun a U g mk q => q, fun U hU hW => ⟨rfl, congrArg Array.size hU⟩⟩ rfl rfl hl.1 rfl (lv_room (Nat.le_of_ble_eq_true rfl)) d_Bank_dump_10 ⟨Nat.zero_le _, Nat.zero_le _⟩) hS (fun q _ h => hFc q h) hFc (fun r1 u9 t9 H locs ht9 hvm9 hw hB9 hz9 hk9 hS => ?_)
    have hP := mb_keep hP hk9
    refine lv_if_eq (tgt := 28) hx hb d_Bank_dump_13 (by decide) (fun c2 => ?_) (fun c2 => ?_)
    · have z1 := mb_no hw c2
      refine lv_iconst (v := nI 0) hx hb d_Bank_dump_28 (by decide) ?_
      exact W.zret (v := nI 0) (ty := .boolean) hx hb hr (by decide) (fun t ht hW => ⟨⟨nI 0, (mem, row, n), rfl, (by rw [mb_dump_f (u := (mem, row, n)) (fun h => z1 h.2.1)]; exact ⟨rfl, rfl⟩), by rw [ht]; exact hP, va_K.moved hW.alike hK, hD⟩, hS.F ht⟩) hS.2.2 d_Bank_dump_29
    · have z1 := mb_yes hw c2
      have hp := z1.2.1
      have hp2 := mb_nlt hp
      refine lv_iload_n hx hb d_Bank_dump_16 rfl (lv_at hl 2 rfl) ?_
      refine lv_sipush (v := nI 512) hx hb d_Bank_dump_17 (by decide +kernel) ?_
      refine lv_aload_n hx hb d_Bank_dump_20 rfl (lv_at hl 0 rfl) ?_
      refine va_get (D := (dC, dI)) (ci := 1) (v := .int (nI n)) (C := R_Bank) (T := F_Bank) (N := 4) hx hb hts i_Bank_dump_Bank hown hK hP 0 rfl rfl 3 (by decide) (hts (.fieldLink R_Bank 23 "MemoryBank" "size" "I") (by decide +kernel)) (fun _ h9 => h9) rfl d_Bank_dump_21 ?_
      refine lv_isub hx hb d_Bank_dump_24 ?_
      refine mb_top (x := (nI 512) - (nI n)) (y := nI (512 - n)) (pk_sub hu3) ?_
      refine lv_icmp_le (tgt := 30) hx hb d_Bank_dump_25 (by decide) (fun c3 => ?_) (fun c3 => ?_)
      · have z2 := mb_10 hp (by omega) c3
        have z3 : n + p1.toNatClampNeg ≤ 512 := by omega
        have hcl : (nI n).toNatClampNeg = n := nI_clamp (by omega)
        refine lv_aload_n hx hb d_Bank_dump_30 rfl (lv_at hl 0 rfl) ?_
        refine va_get (D := (dC, dI)) (ci := 1) (v := .ref h3) (C := R_Bank) (T := F_Bank) (N := 4) hx hb hts i_Bank_dump_Bank hown hK hP 0 rfl rfl 1 (by decide) (hts (.fieldLink R_Bank 16 "MemoryBank" "memory" "[B") (by decide +kernel)) (fun _ h9 => h9) rfl d_Bank_dump_31 ?_
        refine lv_iload_n hx hb d_Bank_dump_34 rfl (lv_at hl 1 rfl) ?_
        refine lv_aload_n hx hb d_Bank_dump_35 rfl (lv_at hl 0 rfl) ?_
        refine va_get (D := (dC, dI)) (ci := 1) (v := .ref h4) (C := R_Bank) (T := F_Bank) (N := 4) hx hb hts i_Bank_dump_Bank hown hK hP 0 rfl rfl 2 (by decide) (hts (.fieldLink R_Bank 20 "MemoryBank" "row" "[B") (by decide +kernel)) (fun _ h9 => h9) rfl d_Bank_dump_36 ?_
        refine lv_aload_n hx hb d_Bank_dump_39 rfl (lv_at hl 0 rfl) ?_
        refine va_get (D := (dC, dI)) (ci := 1) (v := .int (nI n)) (C := R_Bank) (T := F_Bank) (N := 4) hx hb hts i_Bank_dump_Bank hown hK hP 0 rfl rfl 3 (by decide) (hts (.fieldLink R_Bank 23 "MemoryBank" "size" "I") (by decide +kernel)) (fun _ h9 => h9) rfl d_Bank_dump_40 ?_
        refine lv_iload_n hx hb d_Bank_dump_43 rfl (lv_at hl 2 rfl) ?_
        refine va_copyi (ty := .byte) (sp := p0) (dp := nI n) (n := p1) hx hb (by rw [hml]; exact hl.1.symm) hown (hts (.methodLink R_Bank 31 y_acopy) (by decide +kernel)) (hts (.native y_acopy) (by decide +kernel)) (hts (.static y_acopy) (by decide +kernel)) (hts (.initialized "java/lang/System") (by decide +kernel)) hK hP hD hS 3 4 1 2 rfl rfl rfl rfl rfl (z1.1) (nI_pos (by omega)) (z1.2.1) (z1.2.2) (by rw [hcl]; exact z3) (fun i _ => hu1 _) (Nat.le_of_ble_eq_true rfl) (by decide +kernel) d_Bank_dump_44 (fun H locs hP hD hS => ?_)
        have hP : va_P (dC, dI) classes [(h0, .inr (1, [.ref h1, .ref h3, .ref h4, .int (nI n)])), (h1, .inr (0, [.ref h2])), (h2, .inl (kC, 256, .inl tab)), (h3, .inl (kM, 4096, .inl mem)), (h4, .inl (kR, 512, .inl (va_cpy mem row p0.toNatClampNeg (nI n).toNatClampNeg p1.toNatClampNeg)))] H := hP
        have hD : va_D A [(h0, .inr (1, [.ref h1, .ref h3, .ref h4, .int (nI n)])), (h1, .inr (0, [.ref h2])), (h2, .inl (kC, 256, .inl tab)), (h3, .inl (kM, 4096, .inl mem)), (h4, .inl (kR, 512, .inl (va_cpy mem row p0.toNatClampNeg (nI n).toNatClampNeg p1.toNatClampNeg)))] := hD
        rw [hcl] at hP hD
        refine lv_aload_n hx hb d_Bank_dump_47 rfl (lv_at hl 0 rfl) ?_
        refine lv_dup hx hb d_Bank_dump_48 rfl ?_
        refine va_get (D := (dC, dI)) (ci := 1) (v := .int (nI n)) (C := R_Bank) (T := F_Bank) (N := 4) hx hb hts i_Bank_dump_Bank hown hK hP 0 rfl rfl 3 (by decide) (hts (.fieldLink R_Bank 23 "MemoryBank" "size" "I") (by decide +kernel)) (fun _ h9 => h9) rfl d_Bank_dump_49 ?_
        refine lv_iload_n hx hb d_Bank_dump_52 rfl (lv_at hl 2 rfl) ?_
        refine mb_top (x := p1) (y := nI p1.toNatClampNeg) (mb_nat hp) ?_
        refine lv_iadd hx hb d_Bank_dump_53 ?_
        refine mb_top (x := (nI n) + (nI p1.toNatClampNeg)) (y := nI (n + p1.toNatClampNeg)) (nI_add _ _) ?_
        refine va_put (D := (dC, dI)) (ci := 1) (v := .int (nI (n + p1.toNatClampNeg))) (ty := .int) (C := R_Bank) (T := F_Bank) (N := 4) hx hb hts i_Bank_dump_Bank t_Bank t_Bank_ok n_Bank hown hK hP hD hS 0 rfl rfl 3 (by decide) (hts (.fieldLink R_Bank 23 "MemoryBank" "size" "I") (by decide +kernel)) (fun _ h9 => h9) rfl (by decide +kernel) rfl rfl (Nat.le_of_ble_eq_true rfl) d_Bank_dump_54 (fun H locs hP hD hS => ?_)
        have hP : va_P (dC, dI) classes [(h0, .inr (1, [.ref h1, .ref h3, .ref h4, .int (nI (n + p1.toNatClampNeg))])), (h1, .inr (0, [.ref h2])), (h2, .inl (kC, 256, .inl tab)), (h3, .inl (kM, 4096, .inl mem)), (h4, .inl (kR, 512, .inl (va_cpy mem row p0.toNatClampNeg n p1.toNatClampNeg)))] H := hP
        have hD : va_D A [(h0, .inr (1, [.ref h1, .ref h3, .ref h4, .int (nI (n + p1.toNatClampNeg))])), (h1, .inr (0, [.ref h2])), (h2, .inl (kC, 256, .inl tab)), (h3, .inl (kM, 4096, .inl mem)), (h4, .inl (kR, 512, .inl (va_cpy mem row p0.toNatClampNeg n p1.toNatClampNeg)))] := hD
        refine lv_iconst (v := nI 1) hx hb d_Bank_dump_57 (by decide) ?_
        exact W.zret (v := nI 1) (ty := .boolean) hx hb hr (by decide) (fun t ht hW => ⟨⟨nI 1, (mem, va_cpy mem row p0.toNatClampNeg n p1.toNatClampNeg, n + p1.toNatClampNeg), rfl, (by rw [mb_dump_t (u := (mem, row, n)) ⟨c1, z1, z3⟩]; exact ⟨rfl, rfl⟩), by rw [ht]; exact hP, va_K.moved hW.alike hK, hD⟩, hS.F ht⟩) hS.2.2 d_Bank_dump_58
      · have z2 := mb_11 hp (by omega) c3
        refine lv_iconst (v := nI 0) hx hb d_Bank_dump_28 (by decide) ?_
        exact W.zret (v := nI 0) (ty := .boolean) hx hb hr (by decide) (fun t ht hW => ⟨⟨nI 0, (mem, row, n), rfl, (by rw [mb_dump_f (u := (mem, row, n)) (fun h => z2 (by have := h.2.2; dsimp only at this; omega))]; exact ⟨rfl, rfl⟩), by rw [ht]; exact hP, va_K.moved hW.alike hK, hD⟩, hS.F ht⟩) hS.2.2 d_Bank_dump_29
set_option maxHeartbeats 4000000 in
set_option maxRecDepth 100000 in
/-- check(q, n) -/
theorem c_Bank_check (l : Launch) (dC : Nat → ClassId) (dI : Nat → Nat → Nat) (sz : Nat) (h0 h1 h2 h3 h4 : Nat) (kC kM kR : ClassId) (tab : Nat → Int32) (u : mb_S) (hT : mb_okT tab) (p0 p1 : Int32) : Met l y_Bank_check w_Bank_check ({ frames := 1, cells := 0, slots := 0, locals := 25 }) (va_Pc [.ref h0, .int p0, .int p1] (fun U => U.heap.size = sz ∧ va_P (dC, dI) classes (ws_Bank h0 h1 h2 h3 h4 kC kM kR tab u) U.heap ∧ va_K (dC, dI) classes (ty_Bank kC kM kR) U)) (va_Qi (fun (r : Int32) (_ : Unit) => r = mb_check p0 p1 u) (fun _ _ => True) (va_A [] sz)) 0 0 (va_A [] sz) := by
  obtain ⟨mem, row, n⟩ := u
  refine Met.ofW (cc := b_Bank_check) (maxL := 3) (ret := (some .int)) (by decide) rfl ?_
  intro p e s m args below meth c s₁ B hml hv
  obtain ⟨rfl, hsz, hP, hK⟩ := hv
  have hx := B.exec
  have hb := B.bytes
  have hr := B.returns
  have hts := atoms_spec (ws := w_Bank_check) B.pre
  have hown : s.vm.findClass R_Bank = some m.cls := findClass_of_methodNamed B.named
  have hlocks := B.notSynchronized
  subst hsz
  generalize hAe : va_A [] s.heap.size = A
  have hA : ∀ q : Nat, s.heap.size ≤ q → A q := fun q h => by rw [← hAe]; exact Or.inr h
  have hS : va_S A s.heap s.heap [] := va_S.rf
  have hP : va_P (dC, dI) classes [(h0, .inr (1, [.ref h1, .ref h3, .ref h4, .int (nI n)])), (h1, .inr (0, [.ref h2])), (h2, .inl (kC, 256, .inl tab)), (h3, .inl (kM, 4096, .inl mem)), (h4, .inl (kR, 512, .inl row))] s.heap := hP
  have hK : va_K (dC, dI) classes [(kC, .char), (kM, .byte), (kR, .byte)] s := hK
  have hl := lv_entry ([.ref h0, .int p0, .int p1]) (n := 3) (Nat.le_of_ble_eq_true rfl)
  rw [lg_entry_eq]
  generalize (lg_sl ([.ref h0, .int p0, .int p1]) ++ List.replicate (3 - (lg_sl ([.ref h0, .int p0, .int p1])).length) Slot.unset).toArray = ls at hl ⊢
  have hl : lv_has ls 3 [(0, .ref h0), (1, .int p0), (2, .int p1)] := hl
  refine lv_iload_n hx hb d_Bank_check_0 rfl (lv_at hl 1 rfl) ?_
  refine lv_iload_n hx hb d_Bank_check_1 rfl (lv_at hl 2 rfl) ?_
  refine lv_sipush (v := nI 4096) hx hb d_Bank_check_2 (by decide +kernel) ?_
  have hFc := mb_free hS hA
  refine va_calli (va_runS (As := [.int p0, .int p1, .int (nI 4096)]) (rest := []) ⟨hx, hb, hml, hown, hts⟩ (c_Bank_isIn l s.heap.size p0 p1 4096 (by decide)) (cwS 3 hts g_Bank_check_Bank_isIn rfl rfl rfl (by decide +kernel) ⟨Nat.le_of_ble_eq_true rfl, Nat.le_of_ble_eq_true rfl⟩) ⟨fun a U g mk q => q, fun U hU hW => ⟨rfl, congrArg Array.size hU⟩⟩ rfl rfl hl.1 rfl (lv_room (Nat.le_of_ble_eq_true rfl)) d_Bank_check_5 ⟨Nat.zero_le _, Nat.zero_le _⟩) hS (fun q _ h => hFc q h) hFc (fun r1 u9 t9 H locs ht9 hvm9 hw hB9 hz9 hk9 hS => ?_)
  have hP := mb_keep hP hk9
  refine lv_if_eq (tgt := 27) hx hb d_Bank_check_8 (by decide) (fun c1 => ?_) (fun c1 => ?_)
  · have z1 := mb_no hw c1
    refine lv_iconst (v := -1) hx hb d_Bank_check_27 (by decide) ?_
    exact W.iret (v := (-1)) hx hb hr (fun t ht hW => ⟨⟨(-1), (), rfl, mb_check_f (u := (mem, row, n)) z1, trivial⟩, hS.F ht⟩) hS.2.2 d_Bank_check_28
  · have z1 := mb_yes hw c1
    refine lv_aload_n hx hb d_Bank_check_11 rfl (lv_at hl 0 rfl) ?_
    refine va_get (D := (dC, dI)) (ci := 1) (v := .ref h1) (C := R_Bank) (T := F_Bank) (N := 4) hx hb hts i_Bank_check_Bank hown hK hP 0 rfl rfl 0 (by decide) (hts (.fieldLink R_Bank 10 "MemoryBank" "sums" "LMemoryBank$Sums;") (by decide +kernel)) (fun _ h9 => h9) rfl d_Bank_check_12 ?_
    refine lv_aload_n hx hb d_Bank_check_15 rfl (lv_at hl 0 rfl) ?_
    refine va_get (D := (dC, dI)) (ci := 1) (v := .ref h3) (C := R_Bank) (T := F_Bank) (N := 4) hx hb hts i_Bank_check_Bank hown hK hP 0 rfl rfl 1 (by decide) (hts (.fieldLink R_Bank 16 "MemoryBank" "memory" "[B") (by decide +kernel)) (fun _ h9 => h9) rfl d_Bank_check_16 ?_
    refine lv_iload_n hx hb d_Bank_check_19 rfl (lv_at hl 1 rfl) ?_
    refine lv_iload_n hx hb d_Bank_check_20 rfl (lv_at hl 2 rfl) ?_
    have hFc := mb_free hS hA
    have hPc := hP.sub (ws' := [(h1, .inr (0, [.ref h2])), (h2, .inl (kC, 256, .inl tab)), (h3, .inl (kM, 4096, .inl mem))]) [1, 2, 3] rfl
    have hKc := hK.sub (tys' := [(kC, .char), (kM, .byte)]) [0, 1] rfl
    refine va_calli (va_runV (As := [.ref h3, .int p0, .int p1]) (rest := []) ⟨hx, hb, hml, hown, hts⟩ (c_Sums_of l dC dI H.size h1 h2 h3 kC kM tab mem 4096 hT (by decide) p0 p1 (z1)) (cwV 3 hts g_Bank_check_Sums_of rfl rfl rfl (by decide +kernel) ⟨Nat.le_of_ble_eq_true rfl, Nat.le_of_ble_eq_true rfl⟩) ⟨fun a U g mk q => by obtain ⟨q0, q1, qP, qK⟩ := q; exact ⟨q0, q1, qP, va_K.moved (u := U) (U := U.calling g mk a) (Vm.Alike.refl U.vm) qK⟩, va_recv hKc hPc (ci := 0) (q0 := 0) rfl rfl, fun U hU hW => ⟨rfl, by rw [hU], by rw [hU]; exact hPc, va_K.moved hW.alike hKc⟩⟩ rfl rfl hl.1 rfl (lv_room (Nat.le_of_ble_eq_true rfl)) d_Bank_check_21 ⟨Nat.zero_le _, Nat.zero_le _⟩) hS (fun q _ h => hFc q h) hFc (fun r2 u9 t9 H locs ht9 hvm9 hw hB9 hz9 hk9 hS => ?_)
    have hP := mb_keep hP hk9
    refine lv_goto (tgt := 28) hx hb d_Bank_check_24 (by decide) ?_
    exact W.iret (v := r2) hx hb hr (fun t ht hW => ⟨⟨r2, (), rfl, hw.trans (mb_check_t (u := (mem, row, n)) z1), trivial⟩, hS.F ht⟩) hS.2.2 d_Bank_check_28
set_option maxHeartbeats 4000000 in
set_option maxRecDepth 100000 in
/-- rowCheck(n) -/
theorem c_Bank_rowCheck (l : Launch) (dC : Nat → ClassId) (dI : Nat → Nat → Nat) (sz : Nat) (h0 h1 h2 h3 h4 : Nat) (kC kM kR : ClassId) (tab : Nat → Int32) (u : mb_S) (hu : mb_ok u) (hT : mb_okT tab) (p0 : Int32) : Met l y_Bank_rowCheck w_Bank_rowCheck ({ frames := 1, cells := 0, slots := 0, locals := 25 }) (va_Pc [.ref h0, .int p0] (fun U => U.heap.size = sz ∧ va_P (dC, dI) classes (ws_Bank h0 h1 h2 h3 h4 kC kM kR tab u) U.heap ∧ va_K (dC, dI) classes (ty_Bank kC kM kR) U)) (va_Qi (fun (r : Int32) (_ : Unit) => r = mb_rowCheck p0 u) (fun _ _ => True) (va_A [] sz)) 0 0 (va_A [] sz) := by
  obtain ⟨mem, row, n⟩ := u
  obtain ⟨hu1, hu2, hu3⟩ := hu
  have hu1 : sb_Fit mem := hu1
  have hu2 : sb_Fit row := hu2
  have hu3 : n ≤ 512 := hu3
  refine Met.ofW (cc := b_Bank_rowCheck) (maxL := 2) (ret := (some .int)) (by decide) rfl ?_
  intro p e s m args below meth c s₁ B hml hv
  obtain ⟨rfl, hsz, hP, hK⟩ := hv
  have hx := B.exec
  have hb := B.bytes
  have hr := B.returns
  have hts := atoms_spec (ws := w_Bank_rowCheck) B.pre
  have hown : s.vm.findClass R_Bank = some m.cls := findClass_of_methodNamed B.named
  have hlocks := B.notSynchronized
  subst hsz
  generalize hAe : va_A [] s.heap.size = A
  have hA : ∀ q : Nat, s.heap.size ≤ q → A q := fun q h => by rw [← hAe]; exact Or.inr h
  have hS : va_S A s.heap s.heap [] := va_S.rf
  have hP : va_P (dC, dI) classes [(h0, .inr (1, [.ref h1, .ref h3, .ref h4, .int (nI n)])), (h1, .inr (0, [.ref h2])), (h2, .inl (kC, 256, .inl tab)), (h3, .inl (kM, 4096, .inl mem)), (h4, .inl (kR, 512, .inl row))] s.heap := hP
  have hK : va_K (dC, dI) classes [(kC, .char), (kM, .byte), (kR, .byte)] s := hK
  have hl := lv_entry ([.ref h0, .int p0]) (n := 2) (Nat.le_of_ble_eq_true rfl)
  rw [lg_entry_eq]
  generalize (lg_sl ([.ref h0, .int p0]) ++ List.replicate (2 - (lg_sl ([.ref h0, .int p0])).length) Slot.unset).toArray = ls at hl ⊢
  have hl : lv_has ls 2 [(0, .ref h0), (1, .int p0)] := hl
  refine lv_iload_n hx hb d_Bank_rowCheck_0 rfl (lv_at hl 1 rfl) ?_
  refine lv_if_lt (tgt := 12) hx hb d_Bank_rowCheck_1 (by decide) (fun c1 => ?_) (fun c1 => ?_)
  · refine lv_iconst (v := -1) hx hb d_Bank_rowCheck_12 (by decide) ?_
    refine lv_goto (tgt := 29) hx hb d_Bank_rowCheck_13 (by decide) ?_
    exact W.iret (v := (-1)) hx hb hr (fun t ht hW => ⟨⟨(-1), (), rfl, mb_rowCheck_f (u := (mem, row, n)) (fun h => h.1 c1), trivial⟩, hS.F ht⟩) hS.2.2 d_Bank_rowCheck_29
  · refine lv_iload_n hx hb d_Bank_rowCheck_4 rfl (lv_at hl 1 rfl) ?_
    refine lv_aload_n hx hb d_Bank_rowCheck_5 rfl (lv_at hl 0 rfl) ?_
    refine va_get (D := (dC, dI)) (ci := 1) (v := .int (nI n)) (C := R_Bank) (T := F_Bank) (N := 4) hx hb hts i_Bank_rowCheck_Bank hown hK hP 0 rfl rfl 3 (by decide) (hts (.fieldLink R_Bank 23 "MemoryBank" "size" "I") (by decide +kernel)) (fun _ h9 => h9) rfl d_Bank_rowCheck_6 ?_
    refine lv_icmp_le (tgt := 16) hx hb d_Bank_rowCheck_9 (by decide) (fun c2 => ?_) (fun c2 => ?_)
    · have z2 : p0.toNatClampNeg ≤ n := mb_10 c1 (by omega) c2
      refine lv_aload_n hx hb d_Bank_rowCheck_16 rfl (lv_at hl 0 rfl) ?_
      refine va_get (D := (dC, dI)) (ci := 1) (v := .ref h1) (C := R_Bank) (T := F_Bank) (N := 4) hx hb hts i_Bank_rowCheck_Bank hown hK hP 0 rfl rfl 0 (by decide) (hts (.fieldLink R_Bank 10 "MemoryBank" "sums" "LMemoryBank$Sums;") (by decide +kernel)) (fun _ h9 => h9) rfl d_Bank_rowCheck_17 ?_
      refine lv_aload_n hx hb d_Bank_rowCheck_20 rfl (lv_at hl 0 rfl) ?_
      refine va_get (D := (dC, dI)) (ci := 1) (v := .ref h4) (C := R_Bank) (T := F_Bank) (N := 4) hx hb hts i_Bank_rowCheck_Bank hown hK hP 0 rfl rfl 2 (by decide) (hts (.fieldLink R_Bank 20 "MemoryBank" "row" "[B") (by decide +kernel)) (fun _ h9 => h9) rfl d_Bank_rowCheck_21 ?_
      refine lv_iconst (v := nI 0) hx hb d_Bank_rowCheck_24 (by decide) ?_
      refine lv_iload_n hx hb d_Bank_rowCheck_25 rfl (lv_at hl 1 rfl) ?_
      have hFc := mb_free hS hA
      have hPc := hP.sub (ws' := [(h1, .inr (0, [.ref h2])), (h2, .inl (kC, 256, .inl tab)), (h4, .inl (kR, 512, .inl row))]) [1, 2, 4] rfl
      have hKc := hK.sub (tys' := [(kC, .char), (kR, .byte)]) [0, 2] rfl
      refine va_calli (va_runV (As := [.ref h4, .int (nI 0), .int p0]) (rest := []) ⟨hx, hb, hml, hown, hts⟩ (c_Sums_of l dC dI s.heap.size h1 h2 h4 kC kR tab row 512 hT (by decide) (nI 0) p0 (mb_in0 c1 (by omega))) (cwV 3 hts g_Bank_rowCheck_Sums_of rfl rfl rfl (by decide +kernel) ⟨Nat.le_of_ble_eq_true rfl, Nat.le_of_ble_eq_true rfl⟩) ⟨fun a U g mk q => by obtain ⟨q0, q1, qP, qK⟩ := q; exact ⟨q0, q1, qP, va_K.moved (u := U) (U := U.calling g mk a) (Vm.Alike.refl U.vm) qK⟩, va_recv hKc hPc (ci := 0) (q0 := 0) rfl rfl, fun U hU hW => ⟨rfl, by rw [hU], by rw [hU]; exact hPc, va_K.moved hW.alike hKc⟩⟩ rfl rfl hl.1 rfl (lv_room (Nat.le_of_ble_eq_true rfl)) d_Bank_rowCheck_26 ⟨Nat.zero_le _, Nat.zero_le _⟩) hS (fun q _ h => hFc q h) hFc (fun r2 u9 t9 H locs ht9 hvm9 hw hB9 hz9 hk9 hS => ?_)
      have hP := mb_keep hP hk9
      exact W.iret (v := r2) hx hb hr (fun t ht hW => ⟨⟨r2, (), rfl, hw.trans (mb_rowCheck_t (u := (mem, row, n)) ⟨c1, z2⟩), trivial⟩, hS.F ht⟩) hS.2.2 d_Bank_rowCheck_29
    · refine lv_iconst (v := -1) hx hb d_Bank_rowCheck_12 (by decide) ?_
      refine lv_goto (tgt := 29) hx hb d_Bank_rowCheck_13 (by decide) ?_
      exact W.iret (v := (-1)) hx hb hr (fun t ht hW => ⟨⟨(-1), (), rfl, mb_rowCheck_f (u := (mem, row, n)) (fun h => mb_11 c1 (by omega) c2 h.2), trivial⟩, hS.F ht⟩) hS.2.2 d_Bank_rowCheck_29
set_option maxHeartbeats 4000000 in
set_option maxRecDepth 100000 in
/-- seal(): the check of the row behind the row, or 0 -/
theorem c_Bank_seal (l : Launch) (dC : Nat → ClassId) (dI : Nat → Nat → Nat) (sz : Nat) (h0 h1 h2 h3 h4 : Nat) (kC kM kR : ClassId) (tab : Nat → Int32) (u : mb_S) (hu : mb_ok u) (hT : mb_okT tab)  : Met l y_Bank_seal w_Bank_seal ({ frames := 1, cells := 0, slots := 0, locals := 25 }) (va_Pc [.ref h0] (fun U => U.heap.size = sz ∧ va_P (dC, dI) classes (ws_Bank h0 h1 h2 h3 h4 kC kM kR tab u) U.heap ∧ va_K (dC, dI) classes (ty_Bank kC kM kR) U ∧ va_D (fun _ => True) (ws_Bank h0 h1 h2 h3 h4 kC kM kR tab u))) (va_Qi (fun (r : Int32) (v : mb_S) => r = (mb_seal u).1 ∧ v = (mb_seal u).2) (at_Bank dC dI (va_A (ws_Bank h0 h1 h2 h3 h4 kC kM kR tab u) sz) h0 h1 h2 h3 h4 kC kM kR tab) (va_A (ws_Bank h0 h1 h2 h3 h4 kC kM kR tab u) sz)) 0 0 (va_A (ws_Bank h0 h1 h2 h3 h4 kC kM kR tab u) sz) := by
  obtain ⟨mem, row, n⟩ := u
  obtain ⟨hu1, hu2, hu3⟩ := hu
  have hu1 : sb_Fit mem := hu1
  have hu2 : sb_Fit row := hu2
  have hu3 : n ≤ 512 := hu3
  refine Met.ofW (cc := b_Bank_seal) (maxL := 2) (ret := (some .boolean)) (by decide) rfl ?_
  intro p e s m args below meth c s₁ B hml hv
  obtain ⟨rfl, hsz, hP, hK, hD0⟩ := hv
  have hx := B.exec
  have hb := B.bytes
  have hr := B.returns
  have hts := atoms_spec (ws := w_Bank_seal) B.pre
  have hown : s.vm.findClass R_Bank = some m.cls := findClass_of_methodNamed B.named
  have hlocks := B.notSynchronized
  subst hsz
  have hD := hD0.self (sz := s.heap.size)
  generalize hAe : va_A (ws_Bank h0 h1 h2 h3 h4 kC kM kR tab (mem, row, n)) s.heap.size = A at hD ⊢
  have hA : ∀ q : Nat, s.heap.size ≤ q → A q := fun q h => by rw [← hAe]; exact Or.inr h
  have hS : va_S A s.heap s.heap [] := va_S.rf
  have hP : va_P (dC, dI) classes [(h0, .inr (1, [.ref h1, .ref h3, .ref h4, .int (nI n)])), (h1, .inr (0, [.ref h2])), (h2, .inl (kC, 256, .inl tab)), (h3, .inl (kM, 4096, .inl mem)), (h4, .inl (kR, 512, .inl row))] s.heap := hP
  have hD : va_D A [(h0, .inr (1, [.ref h1, .ref h3, .ref h4, .int (nI n)])), (h1, .inr (0, [.ref h2])), (h2, .inl (kC, 256, .inl tab)), (h3, .inl (kM, 4096, .inl mem)), (h4, .inl (kR, 512, .inl row))] := hD
  have hK : va_K (dC, dI) classes [(kC, .char), (kM, .byte), (kR, .byte)] s := hK
  have hl := lv_entry ([.ref h0]) (n := 2) (Nat.le_of_ble_eq_true rfl)
  rw [lg_entry_eq]
  generalize (lg_sl ([.ref h0]) ++ List.replicate (2 - (lg_sl ([.ref h0])).length) Slot.unset).toArray = ls at hl ⊢
  have hl : lv_has ls 2 [(0, .ref h0)] := hl
  refine lv_aload_n hx hb d_Bank_seal_0 rfl (lv_at hl 0 rfl) ?_
  refine va_get (D := (dC, dI)) (ci := 1) (v := .int (nI n)) (C := R_Bank) (T := F_Bank) (N := 4) hx hb hts i_Bank_seal_Bank hown hK hP 0 rfl rfl 3 (by decide) (hts (.fieldLink R_Bank 23 "MemoryBank" "size" "I") (by decide +kernel)) (fun _ h9 => h9) rfl d_Bank_seal_1 ?_
  refine lv_sipush (v := nI 510) hx hb d_Bank_seal_4 (by decide +kernel) ?_
  refine lv_icmp_le (tgt := 12) hx hb d_Bank_seal_7 (by decide) (fun c1 => ?_) (fun c1 => ?_)
  · have z1 : n ≤ 510 := (nI_leI (by omega) (by omega)).mp c1
    have hcl : (nI n).toNatClampNeg = n := nI_clamp (by omega)
    refine lv_aload_n hx hb d_Bank_seal_12 rfl (lv_at hl 0 rfl) ?_
    refine va_get (D := (dC, dI)) (ci := 1) (v := .ref h1) (C := R_Bank) (T := F_Bank) (N := 4) hx hb hts i_Bank_seal_Bank hown hK hP 0 rfl rfl 0 (by decide) (hts (.fieldLink R_Bank 10 "MemoryBank" "sums" "LMemoryBank$Sums;") (by decide +kernel)) (fun _ h9 => h9) rfl d_Bank_seal_13 ?_
    refine lv_aload_n hx hb d_Bank_seal_16 rfl (lv_at hl 0 rfl) ?_
    refine va_get (D := (dC, dI)) (ci := 1) (v := .ref h4) (C := R_Bank) (T := F_Bank) (N := 4) hx hb hts i_Bank_seal_Bank hown hK hP 0 rfl rfl 2 (by decide) (hts (.fieldLink R_Bank 20 "MemoryBank" "row" "[B") (by decide +kernel)) (fun _ h9 => h9) rfl d_Bank_seal_17 ?_
    refine lv_iconst (v := nI 0) hx hb d_Bank_seal_20 (by decide) ?_
    refine lv_aload_n hx hb d_Bank_seal_21 rfl (lv_at hl 0 rfl) ?_
    refine va_get (D := (dC, dI)) (ci := 1) (v := .int (nI n)) (C := R_Bank) (T := F_Bank) (N := 4) hx hb hts i_Bank_seal_Bank hown hK hP 0 rfl rfl 3 (by decide) (hts (.fieldLink R_Bank 23 "MemoryBank" "size" "I") (by decide +kernel)) (fun _ h9 => h9) rfl d_Bank_seal_22 ?_
    have hFc := mb_free hS hA
    have hPc := hP.sub (ws' := [(h1, .inr (0, [.ref h2])), (h2, .inl (kC, 256, .inl tab)), (h4, .inl (kR, 512, .inl row))]) [1, 2, 4] rfl
    have hKc := hK.sub (tys' := [(kC, .char), (kR, .byte)]) [0, 2] rfl
    refine va_calli (va_runV (As := [.ref h4, .int (nI 0), .int (nI n)]) (rest := []) ⟨hx, hb, hml, hown, hts⟩ (c_Sums_of l dC dI s.heap.size h1 h2 h4 kC kR tab row 512 hT (by decide) (nI 0) (nI n) (mb_in0 (nI_pos (by omega)) (by rw [hcl]; omega))) (cwV 3 hts g_Bank_seal_Sums_of rfl rfl rfl (by decide +kernel) ⟨Nat.le_of_ble_eq_true rfl, Nat.le_of_ble_eq_true rfl⟩) ⟨fun a U g mk q => by obtain ⟨q0, q1, qP, qK⟩ := q; exact ⟨q0, q1, qP, va_K.moved (u := U) (U := U.calling g mk a) (Vm.Alike.refl U.vm) qK⟩, va_recv hKc hPc (ci := 0) (q0 := 0) rfl rfl, fun U hU hW => ⟨rfl, by rw [hU], by rw [hU]; exact hPc, va_K.moved hW.alike hKc⟩⟩ rfl rfl hl.1 rfl (lv_room (Nat.le_of_ble_eq_true rfl)) d_Bank_seal_25 ⟨Nat.zero_le _, Nat.zero_le _⟩) hS (fun q _ h => hFc q h) hFc (fun r1 u9 t9 H locs ht9 hvm9 hw hB9 hz9 hk9 hS => ?_)
    have hP := mb_keep hP hk9
    rw [hcl, nI_clamp (by decide)] at hw
    have hc := mb_crc_lt row 0 n
    subst hw
    refine lv_istore_n (lv' := [(1, .int (nI (mb_crc row 0 n))), (0, .ref h0)]) hx hb d_Bank_seal_28 rfl hl (by decide) rfl (fun ls hl => ?_)
    refine lv_aload_n hx hb d_Bank_seal_29 rfl (lv_at hl 1 rfl) ?_
    refine va_get (D := (dC, dI)) (ci := 1) (v := .ref h4) (C := R_Bank) (T := F_Bank) (N := 4) hx hb hts i_Bank_seal_Bank hown hK hP 0 rfl rfl 2 (by decide) (hts (.fieldLink R_Bank 20 "MemoryBank" "row" "[B") (by decide +kernel)) (fun _ h9 => h9) rfl d_Bank_seal_30 ?_
    refine lv_aload_n hx hb d_Bank_seal_33 rfl (lv_at hl 1 rfl) ?_
    refine va_get (D := (dC, dI)) (ci := 1) (v := .int (nI n)) (C := R_Bank) (T := F_Bank) (N := 4) hx hb hts i_Bank_seal_Bank hown hK hP 0 rfl rfl 3 (by decide) (hts (.fieldLink R_Bank 23 "MemoryBank" "size" "I") (by decide +kernel)) (fun _ h9 => h9) rfl d_Bank_seal_34 ?_
    refine lv_iload_n hx hb d_Bank_seal_37 rfl (lv_at hl 0 rfl) ?_
    refine lv_bipush (v := nI 8) hx hb d_Bank_seal_38 (by decide +kernel) ?_
    refine lv_ishr hx hb d_Bank_seal_40 ?_
    refine mb_top (x := (nI (mb_crc row 0 n)) >>> ((nI 8) &&& 31)) (y := nI (mb_crc row 0 n / 256)) (mb_shr8 hc) ?_
    refine lv_i2b (v := (nI (mb_crc row 0 n / 256)).toInt8.toInt32) hx hb d_Bank_seal_41 rfl ?_
    refine mb_bast (k := n) (n := 512) (f := row) (y := (nI (mb_crc row 0 n / 256)).toInt8.toInt32) (f2 := upd row n ((nI (mb_crc row 0 n / 256)).toInt8.toInt32)) hx hb hK hP hD hS 4 2 rfl rfl (by omega) (by decide) (pk_vb _) (rfl) d_Bank_seal_42 (fun H locs hP hD hS => ?_)
    have hP : va_P (dC, dI) classes [(h0, .inr (1, [.ref h1, .ref h3, .ref h4, .int (nI n)])), (h1, .inr (0, [.ref h2])), (h2, .inl (kC, 256, .inl tab)), (h3, .inl (kM, 4096, .inl mem)), (h4, .inl (kR, 512, .inl (upd row n ((nI (mb_crc row 0 n / 256)).toInt8.toInt32))))] H := hP
    have hD : va_D A [(h0, .inr (1, [.ref h1, .ref h3, .ref h4, .int (nI n)])), (h1, .inr (0, [.ref h2])), (h2, .inl (kC, 256, .inl tab)), (h3, .inl (kM, 4096, .inl mem)), (h4, .inl (kR, 512, .inl (upd row n ((nI (mb_crc row 0 n / 256)).toInt8.toInt32))))] := hD
    refine lv_aload_n hx hb d_Bank_seal_43 rfl (lv_at hl 1 rfl) ?_
    refine va_get (D := (dC, dI)) (ci := 1) (v := .ref h4) (C := R_Bank) (T := F_Bank) (N := 4) hx hb hts i_Bank_seal_Bank hown hK hP 0 rfl rfl 2 (by decide) (hts (.fieldLink R_Bank 20 "MemoryBank" "row" "[B") (by decide +kernel)) (fun _ h9 => h9) rfl d_Bank_seal_44 ?_
    refine lv_aload_n hx hb d_Bank_seal_47 rfl (lv_at hl 1 rfl) ?_
    refine va_get (D := (dC, dI)) (ci := 1) (v := .int (nI n)) (C := R_Bank) (T := F_Bank) (N := 4) hx hb hts i_Bank_seal_Bank hown hK hP 0 rfl rfl 3 (by decide) (hts (.fieldLink R_Bank 23 "MemoryBank" "size" "I") (by decide +kernel)) (fun _ h9 => h9) rfl d_Bank_seal_48 ?_
    refine lv_iconst (v := nI 1) hx hb d_Bank_seal_51 (by decide) ?_
    refine lv_iadd hx hb d_Bank_seal_52 ?_
    refine mb_top (x := (nI n) + (nI 1)) (y := nI (n + 1)) (nI_1 n) ?_
    refine lv_iload_n hx hb d_Bank_seal_53 rfl (lv_at hl 0 rfl) ?_
    refine lv_i2b (v := (nI (mb_crc row 0 n)).toInt8.toInt32) hx hb d_Bank_seal_54 rfl ?_
    refine mb_bast (k := n + 1) (n := 512) (f := upd row n ((nI (mb_crc row 0 n / 256)).toInt8.toInt32)) (y := (nI (mb_crc row 0 n)).toInt8.toInt32) (f2 := upd (upd row n ((nI (mb_crc row 0 n / 256)).toInt8.toInt32)) (n + 1) ((nI (mb_crc row 0 n)).toInt8.toInt32)) hx hb hK hP hD hS 4 2 rfl rfl (by omega) (by decide) (pk_vb _) (rfl) d_Bank_seal_55 (fun H locs hP hD hS => ?_)
    have hP : va_P (dC, dI) classes [(h0, .inr (1, [.ref h1, .ref h3, .ref h4, .int (nI n)])), (h1, .inr (0, [.ref h2])), (h2, .inl (kC, 256, .inl tab)), (h3, .inl (kM, 4096, .inl mem)), (h4, .inl (kR, 512, .inl (upd (upd row n ((nI (mb_crc row 0 n / 256)).toInt8.toInt32)) (n + 1) ((nI (mb_crc row 0 n)).toInt8.toInt32))))] H := hP
    have hD : va_D A [(h0, .inr (1, [.ref h1, .ref h3, .ref h4, .int (nI n)])), (h1, .inr (0, [.ref h2])), (h2, .inl (kC, 256, .inl tab)), (h3, .inl (kM, 4096, .inl mem)), (h4, .inl (kR, 512, .inl (upd (upd row n ((nI (mb_crc row 0 n / 256)).toInt8.toInt32)) (n + 1) ((nI (mb_crc row 0 n)).toInt8.toInt32))))] := hD
    refine lv_aload_n hx hb d_Bank_seal_56 rfl (lv_at hl 1 rfl) ?_
    refine lv_dup hx hb d_Bank_seal_57 rfl ?_
    refine va_get (D := (dC, dI)) (ci := 1) (v := .int (nI n)) (C := R_Bank) (T := F_Bank) (N := 4) hx hb hts i_Bank_seal_Bank hown hK hP 0 rfl rfl 3 (by decide) (hts (.fieldLink R_Bank 23 "MemoryBank" "size" "I") (by decide +kernel)) (fun _ h9 => h9) rfl d_Bank_seal_58 ?_
    refine lv_iconst (v := nI 2) hx hb d_Bank_seal_61 (by decide) ?_
    refine lv_iadd hx hb d_Bank_seal_62 ?_
    refine mb_top (x := (nI n) + (nI 2)) (y := nI (n + 2)) (nI_add n 2) ?_
    refine va_put (D := (dC, dI)) (ci := 1) (v := .int (nI (n + 2))) (ty := .int) (C := R_Bank) (T := F_Bank) (N := 4) hx hb hts i_Bank_seal_Bank t_Bank t_Bank_ok n_Bank hown hK hP hD hS 0 rfl rfl 3 (by decide) (hts (.fieldLink R_Bank 23 "MemoryBank" "size" "I") (by decide +kernel)) (fun _ h9 => h9) rfl (by decide +kernel) rfl rfl (Nat.le_of_ble_eq_true rfl) d_Bank_seal_63 (fun H locs hP hD hS => ?_)
    have hP : va_P (dC, dI) classes [(h0, .inr (1, [.ref h1, .ref h3, .ref h4, .int (nI (n + 2))])), (h1, .inr (0, [.ref h2])), (h2, .inl (kC, 256, .inl tab)), (h3, .inl (kM, 4096, .inl mem)), (h4, .inl (kR, 512, .inl (upd (upd row n ((nI (mb_crc row 0 n / 256)).toInt8.toInt32)) (n + 1) ((nI (mb_crc row 0 n)).toInt8.toInt32))))] H := hP
    have hD : va_D A [(h0, .inr (1, [.ref h1, .ref h3, .ref h4, .int (nI (n + 2))])), (h1, .inr (0, [.ref h2])), (h2, .inl (kC, 256, .inl tab)), (h3, .inl (kM, 4096, .inl mem)), (h4, .inl (kR, 512, .inl (upd (upd row n ((nI (mb_crc row 0 n / 256)).toInt8.toInt32)) (n + 1) ((nI (mb_crc row 0 n)).toInt8.toInt32))))] := hD
    refine lv_iconst (v := nI 1) hx hb d_Bank_seal_66 (by decide) ?_
    exact W.zret (v := nI 1) (ty := .boolean) hx hb hr (by decide) (fun t ht hW => ⟨⟨nI 1, (mem, upd (upd row n (nI (mb_crc row 0 n / 256)).toInt8.toInt32) (n + 1) (nI (mb_crc row 0 n)).toInt8.toInt32, n + 2), rfl, (by rw [mb_seal_t (u := (mem, row, n)) (Nat.not_lt.mpr z1)]; exact ⟨rfl, rfl⟩), by rw [ht]; exact hP, va_K.moved hW.alike hK, hD⟩, hS.F ht⟩) hS.2.2 d_Bank_seal_67
  · have z1 : 510 < n := by have := mt (nI_leI (a := n) (b := 510) (by omega) (by omega)).mpr c1; omega
    refine lv_iconst (v := nI 0) hx hb d_Bank_seal_10 (by decide) ?_
    exact W.zret (v := nI 0) (ty := .boolean) hx hb hr (by decide) (fun t ht hW => ⟨⟨nI 0, (mem, row, n), rfl, (by rw [mb_seal_f (u := (mem, row, n)) z1]; exact ⟨rfl, rfl⟩), by rw [ht]; exact hP, va_K.moved hW.alike hK, hD⟩, hS.F ht⟩) hS.2.2 d_Bank_seal_11
end
section
set_option maxHeartbeats 4000000 in
set_option maxRecDepth 100000 in
/-- MemoryBank(): a table, an empty memory, an empty row -/
theorem c_Bank_init (l : Launch) (dC : Nat → ClassId) (dI : Nat → Nat → Nat) (sz : Nat) (h0 : Nat) : Met l y_Bank_init w_Bank_init ({ frames := 2, cells := 4, slots := 4865, locals := 35 }) (va_Pc [.ref h0] (fun U => U.heap.size = sz ∧ va_P (dC, dI) classes [(h0, .inr (1, [.null, .null, .null, .int 0]))] U.heap ∧ va_K (dC, dI) classes [] U ∧ va_D (fun _ => True) [(h0, .inr (1, [.null, .null, .null, .int 0]))])) (va_Qv (fun tab : Nat → Int32 => mb_okT tab) (fun tab t => ∃ (h1 h2 h3 h4 : Nat) (kC kM kR : ClassId), at_Bank dC dI (va_A [(h0, .inr (1, [.null, .null, .null, .int 0]))] sz) h0 h1 h2 h3 h4 kC kM kR tab (fun _ => 0, fun _ => 0, 0) t) (va_A [(h0, .inr (1, [.null, .null, .null, .int 0]))] sz)) 4 4865 (va_A [(h0, .inr (1, [.null, .null, .null, .int 0]))] sz) := by
  refine Met.ofW (cc := b_Bank_init) (maxL := 1) (ret := none) (by decide) rfl ?_
  intro p e s m args below meth c s₁ B hml hv
  obtain ⟨rfl, hsz, hP, hK, hD0⟩ := hv
  have hx := B.exec
  have hb := B.bytes
  have hr := B.returns
  have hts := atoms_spec (ws := w_Bank_init) B.pre
  have hown : s.vm.findClass R_Bank = some m.cls := findClass_of_methodNamed B.named
  have hlocks := B.notSynchronized
  have hin : meth.name = "<init>" := (name_of_methodNamed B.named B.method).1
  subst hsz
  have hD := hD0.self (sz := s.heap.size)
  generalize hAe : va_A [(h0, .inr (1, [.null, .null, .null, .int 0]))] s.heap.size = A at hD ⊢
  have hA : ∀ q : Nat, s.heap.size ≤ q → A q := fun q h => by rw [← hAe]; exact Or.inr h
  have hS : va_S A s.heap s.heap [] := va_S.rf
  have hP : va_P (dC, dI) classes [(h0, .inr (1, [.null, .null, .null, .int 0]))] s.heap := hP
  have hD : va_D A [(h0, .inr (1, [.null, .null, .null, .int 0]))] := hD
  have hK : va_K (dC, dI) classes [] s := hK
  have hl := lv_entry ([.ref h0]) (n := 1) (Nat.le_of_ble_eq_true rfl)
  rw [lg_entry_eq]
  generalize (lg_sl ([.ref h0]) ++ List.replicate (1 - (lg_sl ([.ref h0])).length) Slot.unset).toArray = ls at hl ⊢
  have hl : lv_has ls 1 [(0, .ref h0)] := hl
  refine lv_aload_n hx hb d_Bank_init_0 rfl (lv_at hl 0 rfl) ?_
  refine W.objInit hx hb hown (hts (.methodLink R_Bank 1 objectInit) (by decide +kernel)) (hts (.instanceMethod objectInit) (by decide +kernel)) (hts _ (List.mem_of_getElem? (i := 3) rfl)) rfl (by rw [hml]; exact hl.1) rfl d_Bank_init_1 (Nat.le_of_ble_eq_true rfl) (Nat.le_of_ble_eq_true rfl) ?_
  refine W.eq (g2 := F0 m 4 ls []) rfl ?_
  refine lv_aload_n hx hb d_Bank_init_4 rfl (lv_at hl 0 rfl) ?_
  have hc9 : 0 + 1 ≤ 4 := by decide
  have hs9 : 0 + 1 ≤ 4865 := by decide
  refine va_new (ci := 0) (fs := [.null]) (C := R_Sums) (T := F_Sums) (N := 1) hx hb hts i_Bank_init_Sums t_Sums t_Sums_ok hown (hts (.classLink R_Bank 7 R_Sums) (by decide +kernel)) (hts (.instantiable R_Sums 1) (by decide +kernel)) (hts (.initialized R_Sums) (by decide +kernel)) hK hP hD hS hA rfl (fun j hj => by rcases (show j = 0 by omega) with rfl <;> rfl) hc9 hs9 d_Bank_init_5 (fun h1 H hP hD hS => ?_)
  have hP : va_P (dC, dI) classes [(h0, .inr (1, [.null, .null, .null, .int 0])), (h1, .inr (0, [.null]))] H := hP
  have hD : va_D A [(h0, .inr (1, [.null, .null, .null, .int 0])), (h1, .inr (0, [.null]))] := hD
  refine W.widen (k := 1) (n := 1) (by omega) (by omega) ?_
  refine lv_dup hx hb d_Bank_init_8 rfl ?_
  have hPc := hP.sub (ws' := [(h1, .inr (0, [.null]))]) [1] rfl
  have hDc := hD.sub (ws' := [(h1, .inr (0, [.null]))]) [1] (by decide) rfl
  have hKc := hK.sub (tys' := []) [] rfl
  have hFc := va_free (wc := [(h1, .inr (0, [.null]))]) hD hS hA [1] rfl
  have hkc : 1 + 1 ≤ 4 := by decide
  have hks : 1 + 256 ≤ 4865 := by decide
  refine va_callv (va_runI (As := []) (rest := [.ref h1, .ref h0]) ⟨hx, hb, hml, hown, hts⟩ (c_Sums_init l dC dI H.size h1) (cwI 0 hts g_Bank_init_Sums_init rfl rfl rfl (hts (.initialized R_Sums) (by decide +kernel)) (hts (.methodLink R_Bank 9 y_Sums_init) (by decide +kernel)) (hts (.instanceMethod y_Sums_init) (by decide +kernel)) rfl (by decide +kernel) ⟨Nat.le_of_ble_eq_true rfl, Nat.le_of_ble_eq_true rfl⟩) ⟨fun a U g mk q => by obtain ⟨q0, q1, qP, qK, qD⟩ := q; exact ⟨q0, q1, qP, va_K.moved (u := U) (U := U.calling g mk a) (Vm.Alike.refl U.vm) qK, qD⟩, fun U hU hW => ⟨rfl, by rw [hU], by rw [hU]; exact hPc, va_K.moved hW.alike hKc, hDc.weaken (fun _ _ _ _ => trivial)⟩⟩ rfl rfl hl.1 rfl (lv_room (Nat.le_of_ble_eq_true rfl)) d_Bank_init_9 ⟨hkc, hks⟩) hS (fun q _ h => hFc q h) hFc (fun tab t9 H locs ht9 hvm9 hT hB hz9 hk9 hS => ?_)
  obtain ⟨h2, kC, hP1, hK1, hD1⟩ := hB
  rw [ht9] at hP1
  have hK : va_K (dC, dI) classes [(kC, .char)] s := va_K.moved hvm9.symm hK1
  obtain ⟨hP, hD⟩ := va_join (wr := [(h0, .inr (1, [.null, .null, .null, .int 0]))]) (w1 := ws_Sums h1 h2 kC tab) hP hD [1] [0] rfl rfl (by decide) (by decide) hk9 hFc hP1 hD1
  have hP : va_P (dC, dI) classes [(h0, .inr (1, [.null, .null, .null, .int 0])), (h1, .inr (0, [.ref h2])), (h2, .inl (kC, 256, .inl tab))] H := hP
  have hD : va_D A [(h0, .inr (1, [.null, .null, .null, .int 0])), (h1, .inr (0, [.ref h2])), (h2, .inl (kC, 256, .inl tab))] := hD
  refine W.widen (k := 2) (n := 257) (by omega) (by omega) ?_
  refine va_putF (D := (dC, dI)) (ci := 1) (v := .ref h1) (ty := .object "MemoryBank$Sums") (C := R_Bank) (T := F_Bank) (N := 4) hx hb hts i_Bank_init_Bank t_Bank t_Bank_ok n_Bank hown hK hP hD hS 0 rfl rfl 0 (by decide) (hts (.fieldLink R_Bank 10 "MemoryBank" "sums" "LMemoryBank$Sums;") (by decide +kernel)) (fun _ h9 => h9) rfl hin rfl (by decide +kernel) rfl rfl (Nat.le_of_ble_eq_true rfl) d_Bank_init_12 (fun H locs hP hD hS => ?_)
  have hP : va_P (dC, dI) classes [(h0, .inr (1, [.ref h1, .null, .null, .int 0])), (h1, .inr (0, [.ref h2])), (h2, .inl (kC, 256, .inl tab))] H := hP
  have hD : va_D A [(h0, .inr (1, [.ref h1, .null, .null, .int 0])), (h1, .inr (0, [.ref h2])), (h2, .inl (kC, 256, .inl tab))] := hD
  refine lv_aload_n hx hb d_Bank_init_15 rfl (lv_at hl 0 rfl) ?_
  refine lv_sipush (v := nI 4096) hx hb d_Bank_init_16 (by decide +kernel) ?_
  have hc9 : 2 + 1 ≤ 4 := by decide
  have hs9 : 257 + 4096 ≤ 4865 := by decide
  refine mb_newb (N := 4096) hx hb (hts (.arrayClass .byte) (by decide +kernel)) hK hP hD hS hA (by decide) hc9 hs9 d_Bank_init_19 (fun h3 kM H hK hP hD hS => ?_)
  have hK : va_K (dC, dI) classes [(kC, .char), (kM, .byte)] s := hK
  have hP : va_P (dC, dI) classes [(h0, .inr (1, [.ref h1, .null, .null, .int 0])), (h1, .inr (0, [.ref h2])), (h2, .inl (kC, 256, .inl tab)), (h3, .inl (kM, 4096, .inl (fun _ => 0)))] H := hP
  have hD : va_D A [(h0, .inr (1, [.ref h1, .null, .null, .int 0])), (h1, .inr (0, [.ref h2])), (h2, .inl (kC, 256, .inl tab)), (h3, .inl (kM, 4096, .inl (fun _ => 0)))] := hD
  refine W.widen (k := 3) (n := 4353) (by omega) (by omega) ?_
  refine va_putF (D := (dC, dI)) (ci := 1) (v := .ref h3) (ty := .array .byte) (C := R_Bank) (T := F_Bank) (N := 4) hx hb hts i_Bank_init_Bank t_Bank t_Bank_ok n_Bank hown hK hP hD hS 0 rfl rfl 1 (by decide) (hts (.fieldLink R_Bank 16 "MemoryBank" "memory" "[B") (by decide +kernel)) (fun _ h9 => h9) rfl hin rfl (by decide +kernel) rfl rfl (Nat.le_of_ble_eq_true rfl) d_Bank_init_21 (fun H locs hP hD hS => ?_)
  have hP : va_P (dC, dI) classes [(h0, .inr (1, [.ref h1, .ref h3, .null, .int 0])), (h1, .inr (0, [.ref h2])), (h2, .inl (kC, 256, .inl tab)), (h3, .inl (kM, 4096, .inl (fun _ => 0)))] H := hP
  have hD : va_D A [(h0, .inr (1, [.ref h1, .ref h3, .null, .int 0])), (h1, .inr (0, [.ref h2])), (h2, .inl (kC, 256, .inl tab)), (h3, .inl (kM, 4096, .inl (fun _ => 0)))] := hD
  refine lv_aload_n hx hb d_Bank_init_24 rfl (lv_at hl 0 rfl) ?_
  refine lv_sipush (v := nI 512) hx hb d_Bank_init_25 (by decide +kernel) ?_
  have hc9 : 3 + 1 ≤ 4 := by decide
  have hs9 : 4353 + 512 ≤ 4865 := by decide
  refine mb_newb (N := 512) hx hb (hts (.arrayClass .byte) (by decide +kernel)) hK hP hD hS hA (by decide) hc9 hs9 d_Bank_init_28 (fun h4 kR H hK hP hD hS => ?_)
  have hK : va_K (dC, dI) classes [(kC, .char), (kM, .byte), (kR, .byte)] s := hK
  have hP : va_P (dC, dI) classes [(h0, .inr (1, [.ref h1, .ref h3, .null, .int 0])), (h1, .inr (0, [.ref h2])), (h2, .inl (kC, 256, .inl tab)), (h3, .inl (kM, 4096, .inl (fun _ => 0))), (h4, .inl (kR, 512, .inl (fun _ => 0)))] H := hP
  have hD : va_D A [(h0, .inr (1, [.ref h1, .ref h3, .null, .int 0])), (h1, .inr (0, [.ref h2])), (h2, .inl (kC, 256, .inl tab)), (h3, .inl (kM, 4096, .inl (fun _ => 0))), (h4, .inl (kR, 512, .inl (fun _ => 0)))] := hD
  refine W.widen (k := 4) (n := 4865) (by omega) (by omega) ?_
  refine va_putF (D := (dC, dI)) (ci := 1) (v := .ref h4) (ty := .array .byte) (C := R_Bank) (T := F_Bank) (N := 4) hx hb hts i_Bank_init_Bank t_Bank t_Bank_ok n_Bank hown hK hP hD hS 0 rfl rfl 2 (by decide) (hts (.fieldLink R_Bank 20 "MemoryBank" "row" "[B") (by decide +kernel)) (fun _ h9 => h9) rfl hin rfl (by decide +kernel) rfl rfl (Nat.le_of_ble_eq_true rfl) d_Bank_init_30 (fun H locs hP hD hS => ?_)
  have hP : va_P (dC, dI) classes [(h0, .inr (1, [.ref h1, .ref h3, .ref h4, .int 0])), (h1, .inr (0, [.ref h2])), (h2, .inl (kC, 256, .inl tab)), (h3, .inl (kM, 4096, .inl (fun _ => 0))), (h4, .inl (kR, 512, .inl (fun _ => 0)))] H := hP
  have hD : va_D A [(h0, .inr (1, [.ref h1, .ref h3, .ref h4, .int 0])), (h1, .inr (0, [.ref h2])), (h2, .inl (kC, 256, .inl tab)), (h3, .inl (kM, 4096, .inl (fun _ => 0))), (h4, .inl (kR, 512, .inl (fun _ => 0)))] := hD
  exact W.vret hx hb hr (fun t ht hW => ⟨⟨tab, rfl, hT, h1, h2, h3, h4, kC, kM, kR, by rw [ht]; exact hP, va_K.moved hW.alike hK, hD⟩, hS.F ht⟩) hS.2.2 d_Bank_init_33
set_option maxHeartbeats 4000000 in
set_option maxRecDepth 100000 in
/-- MemoryBankModel(): an empty memory, an empty row -/
theorem c_Model_init (l : Launch) (dC : Nat → ClassId) (dI : Nat → Nat → Nat) (sz : Nat) (h0 : Nat) : Met l y_Model_init w_Model_init ({ frames := 1, cells := 2, slots := 4608, locals := 12 }) (va_Pc [.ref h0] (fun U => U.heap.size = sz ∧ va_P (dC, dI) classes [(h0, .inr (2, [.int 0, .null, .null, .int 0]))] U.heap ∧ va_K (dC, dI) classes [] U ∧ va_D (fun _ => True) [(h0, .inr (2, [.int 0, .null, .null, .int 0]))])) (va_Qv (fun _ : Unit => True) (fun _ t => ∃ (h1 h2 : Nat) (kM kR : ClassId), at_Model dC dI (va_A [(h0, .inr (2, [.int 0, .null, .null, .int 0]))] sz) h0 h1 h2 kM kR (fun _ => 0, fun _ => 0, 0) t) (va_A [(h0, .inr (2, [.int 0, .null, .null, .int 0]))] sz)) 2 4608 (va_A [(h0, .inr (2, [.int 0, .null, .null, .int 0]))] sz) := by
  refine Met.ofW (cc := b_Model_init) (maxL := 1) (ret := none) (by decide) rfl ?_
  intro p e s m args below meth c s₁ B hml hv
  obtain ⟨rfl, hsz, hP, hK, hD0⟩ := hv
  have hx := B.exec
  have hb := B.bytes
  have hr := B.returns
  have hts := atoms_spec (ws := w_Model_init) B.pre
  have hown : s.vm.findClass R_Model = some m.cls := findClass_of_methodNamed B.named
  have hlocks := B.notSynchronized
  have hin : meth.name = "<init>" := (name_of_methodNamed B.named B.method).1
  subst hsz
  have hD := hD0.self (sz := s.heap.size)
  generalize hAe : va_A [(h0, .inr (2, [.int 0, .null, .null, .int 0]))] s.heap.size = A at hD ⊢
  have hA : ∀ q : Nat, s.heap.size ≤ q → A q := fun q h => by rw [← hAe]; exact Or.inr h
  have hS : va_S A s.heap s.heap [] := va_S.rf
  have hP : va_P (dC, dI) classes [(h0, .inr (2, [.int 0, .null, .null, .int 0]))] s.heap := hP
  have hD : va_D A [(h0, .inr (2, [.int 0, .null, .null, .int 0]))] := hD
  have hK : va_K (dC, dI) classes [] s := hK
  have hl := lv_entry ([.ref h0]) (n := 1) (Nat.le_of_ble_eq_true rfl)
  rw [lg_entry_eq]
  generalize (lg_sl ([.ref h0]) ++ List.replicate (1 - (lg_sl ([.ref h0])).length) Slot.unset).toArray = ls at hl ⊢
  have hl : lv_has ls 1 [(0, .ref h0)] := hl
  refine lv_aload_n hx hb d_Model_init_0 rfl (lv_at hl 0 rfl) ?_
  refine W.objInit hx hb hown (hts (.methodLink R_Model 1 objectInit) (by decide +kernel)) (hts (.instanceMethod objectInit) (by decide +kernel)) (hts _ (List.mem_of_getElem? (i := 3) rfl)) rfl (by rw [hml]; exact hl.1) rfl d_Model_init_1 (Nat.le_of_ble_eq_true rfl) (Nat.le_of_ble_eq_true rfl) ?_
  refine W.eq (g2 := F0 m 4 ls []) rfl ?_
  refine lv_aload_n hx hb d_Model_init_4 rfl (lv_at hl 0 rfl) ?_
  refine lv_sipush (v := nI 4096) hx hb d_Model_init_5 (by decide +kernel) ?_
  have hc9 : 0 + 1 ≤ 2 := by decide
  have hs9 : 0 + 4096 ≤ 4608 := by decide
  refine mb_newb (N := 4096) hx hb (hts (.arrayClass .byte) (by decide +kernel)) hK hP hD hS hA (by decide) hc9 hs9 d_Model_init_8 (fun h1 kM H hK hP hD hS => ?_)
  have hK : va_K (dC, dI) classes [(kM, .byte)] s := hK
  have hP : va_P (dC, dI) classes [(h0, .inr (2, [.int 0, .null, .null, .int 0])), (h1, .inl (kM, 4096, .inl (fun _ => 0)))] H := hP
  have hD : va_D A [(h0, .inr (2, [.int 0, .null, .null, .int 0])), (h1, .inl (kM, 4096, .inl (fun _ => 0)))] := hD
  refine W.widen (k := 1) (n := 4096) (by omega) (by omega) ?_
  refine va_putF (D := (dC, dI)) (ci := 2) (v := .ref h1) (ty := .array .byte) (C := R_Model) (T := F_Model) (N := 4) hx hb hts i_Model_init_Model t_Model t_Model_ok n_Model hown hK hP hD hS 0 rfl rfl 1 (by decide) (hts (.fieldLink R_Model 7 "MemoryBankModel" "memory" "[B") (by decide +kernel)) (fun _ h9 => h9) rfl hin rfl (by decide +kernel) rfl rfl (Nat.le_of_ble_eq_true rfl) d_Model_init_10 (fun H locs hP hD hS => ?_)
  have hP : va_P (dC, dI) classes [(h0, .inr (2, [.int 0, .ref h1, .null, .int 0])), (h1, .inl (kM, 4096, .inl (fun _ => 0)))] H := hP
  have hD : va_D A [(h0, .inr (2, [.int 0, .ref h1, .null, .int 0])), (h1, .inl (kM, 4096, .inl (fun _ => 0)))] := hD
  refine lv_aload_n hx hb d_Model_init_13 rfl (lv_at hl 0 rfl) ?_
  refine lv_sipush (v := nI 512) hx hb d_Model_init_14 (by decide +kernel) ?_
  have hc9 : 1 + 1 ≤ 2 := by decide
  have hs9 : 4096 + 512 ≤ 4608 := by decide
  refine mb_newb (N := 512) hx hb (hts (.arrayClass .byte) (by decide +kernel)) hK hP hD hS hA (by decide) hc9 hs9 d_Model_init_17 (fun h2 kR H hK hP hD hS => ?_)
  have hK : va_K (dC, dI) classes [(kM, .byte), (kR, .byte)] s := hK
  have hP : va_P (dC, dI) classes [(h0, .inr (2, [.int 0, .ref h1, .null, .int 0])), (h1, .inl (kM, 4096, .inl (fun _ => 0))), (h2, .inl (kR, 512, .inl (fun _ => 0)))] H := hP
  have hD : va_D A [(h0, .inr (2, [.int 0, .ref h1, .null, .int 0])), (h1, .inl (kM, 4096, .inl (fun _ => 0))), (h2, .inl (kR, 512, .inl (fun _ => 0)))] := hD
  refine W.widen (k := 2) (n := 4608) (by omega) (by omega) ?_
  refine va_putF (D := (dC, dI)) (ci := 2) (v := .ref h2) (ty := .array .byte) (C := R_Model) (T := F_Model) (N := 4) hx hb hts i_Model_init_Model t_Model t_Model_ok n_Model hown hK hP hD hS 0 rfl rfl 2 (by decide) (hts (.fieldLink R_Model 13 "MemoryBankModel" "row" "[B") (by decide +kernel)) (fun _ h9 => h9) rfl hin rfl (by decide +kernel) rfl rfl (Nat.le_of_ble_eq_true rfl) d_Model_init_19 (fun H locs hP hD hS => ?_)
  have hP : va_P (dC, dI) classes [(h0, .inr (2, [.int 0, .ref h1, .ref h2, .int 0])), (h1, .inl (kM, 4096, .inl (fun _ => 0))), (h2, .inl (kR, 512, .inl (fun _ => 0)))] H := hP
  have hD : va_D A [(h0, .inr (2, [.int 0, .ref h1, .ref h2, .int 0])), (h1, .inl (kM, 4096, .inl (fun _ => 0))), (h2, .inl (kR, 512, .inl (fun _ => 0)))] := hD
  exact W.vret hx hb hr (fun t ht hW => ⟨⟨(), rfl, trivial, h1, h2, kM, kR, by rw [ht]; exact hP, va_K.moved hW.alike hK, hD⟩, hS.F ht⟩) hS.2.2 d_Model_init_22
end
section
set_option maxHeartbeats 4000000 in
set_option maxRecDepth 100000 in
/-- in(i, n, a) -/
theorem c_Model_in (l : Launch) (sz : Nat) (p0 p1 : Int32) (a : Nat) (ha : a < 2 ^ 31) : Met l y_Model_in w_Model_in ({ frames := 0, cells := 0, slots := 0, locals := 0 }) (va_Pc [.int p0, .int p1, .int (nI a)] (fun U => U.heap.size = sz)) (va_Qi (fun (r : Int32) (_ : Unit) => r = if mb_in p0 p1 a then 1 else 0) (fun _ _ => True) (va_A [] sz)) 0 0 (va_A [] sz) := by
  refine Met.ofW (cc := b_Model_in) (maxL := 3) (ret := (some .boolean)) (by decide) rfl ?_
  intro p e s m args below meth c s₁ B hml hv
  obtain ⟨rfl, hsz⟩ := hv
  have hx := B.exec
  have hb := B.bytes
  have hr := B.returns
  have hts := atoms_spec (ws := w_Model_in) B.pre
  have hown : s.vm.findClass R_Model = some m.cls := findClass_of_methodNamed B.named
  have hlocks := B.notSynchronized
  subst hsz
  generalize hAe : va_A [] s.heap.size = A
  have hA : ∀ q : Nat, s.heap.size ≤ q → A q := fun q h => by rw [← hAe]; exact Or.inr h
  have hS : va_S A s.heap s.heap [] := va_S.rf
  have hl := lv_entry ([.int p0, .int p1, .int (nI a)]) (n := 3) (Nat.le_of_ble_eq_true rfl)
  rw [lg_entry_eq]
  generalize (lg_sl ([.int p0, .int p1, .int (nI a)]) ++ List.replicate (3 - (lg_sl ([.int p0, .int p1, .int (nI a)])).length) Slot.unset).toArray = ls at hl ⊢
  have hl : lv_has ls 3 [(0, .int p0), (1, .int p1), (2, .int (nI a))] := hl
  refine lv_iload_n hx hb d_Model_in_0 rfl (lv_at hl 0 rfl) ?_
  refine lv_if_lt (tgt := 23) hx hb d_Model_in_1 (by decide) (fun c1 => ?_) (fun c1 => ?_)
  · refine lv_iconst (v := nI 0) hx hb d_Model_in_23 (by decide) ?_
    exact W.zret (v := nI 0) (ty := .boolean) hx hb hr (by decide) (fun t ht hW => ⟨⟨nI 0, (), rfl, (if_neg (fun h => h.1 c1)).symm, trivial⟩, hS.F ht⟩) hS.2.2 d_Model_in_24
  · refine lv_iload_n hx hb d_Model_in_4 rfl (lv_at hl 1 rfl) ?_
    refine lv_if_lt (tgt := 23) hx hb d_Model_in_5 (by decide) (fun c2 => ?_) (fun c2 => ?_)
    · refine lv_iconst (v := nI 0) hx hb d_Model_in_23 (by decide) ?_
      exact W.zret (v := nI 0) (ty := .boolean) hx hb hr (by decide) (fun t ht hW => ⟨⟨nI 0, (), rfl, (if_neg (fun h => h.2.1 c2)).symm, trivial⟩, hS.F ht⟩) hS.2.2 d_Model_in_24
    · refine lv_iload_n hx hb d_Model_in_8 rfl (lv_at hl 0 rfl) ?_
      refine lv_i2l (v := p0.toInt64) hx hb d_Model_in_9 rfl ?_
      refine lv_iload_n hx hb d_Model_in_10 rfl (lv_at hl 1 rfl) ?_
      refine lv_i2l (v := p1.toInt64) hx hb d_Model_in_11 rfl ?_
      refine lv_ladd hx hb d_Model_in_12 ?_
      refine lv_iload_n hx hb d_Model_in_13 rfl (lv_at hl 2 rfl) ?_
      refine lv_i2l (v := (nI a).toInt64) hx hb d_Model_in_14 rfl ?_
      refine W.lcmp hx hb d_Model_in_15 ?_
      refine lv_if_gt (tgt := 23) hx hb d_Model_in_16 (by decide) (fun c3 => ?_) (fun c3 => ?_)
      · refine lv_iconst (v := nI 0) hx hb d_Model_in_23 (by decide) ?_
        exact W.zret (v := nI 0) (ty := .boolean) hx hb hr (by decide) (fun t ht hW => ⟨⟨nI 0, (), rfl, (if_neg ((mb_in_l ha c1 c2).mp c3)).symm, trivial⟩, hS.F ht⟩) hS.2.2 d_Model_in_24
      · refine lv_iconst (v := nI 1) hx hb d_Model_in_19 (by decide) ?_
        refine lv_goto (tgt := 24) hx hb d_Model_in_20 (by decide) ?_
        exact W.zret (v := nI 1) (ty := .boolean) hx hb hr (by decide) (fun t ht hW => ⟨⟨nI 1, (), rfl, (if_pos (Classical.not_not.mp (fun h => c3 ((mb_in_l ha c1 c2).mpr h)))).symm, trivial⟩, hS.F ht⟩) hS.2.2 d_Model_in_24
set_option maxHeartbeats 4000000 in
set_option maxRecDepth 100000 in
/-- the loop of checkOf: k bits are in the check -/
theorem lp_Model_checkOf {p : Program} {l : Launch} {e : Env} {R : Room} {s : State} {m : MethodId} {args : Array Value} {below : List Frame} {meth : Method} {c : Code} {cells slots : Nat} {Q : State → Prop} {A : Nat → Prop} {H0 : Heap} {dC : Nat → ClassId} {dI : Nat → Nat → Nat} {H : Heap} {locs : List Loc} {kB : ClassId} {f : Nat → Int32} {N hB : Nat} (hx : p.tables.exec = Jvm.exec) (hb : c.code = b_Model_checkOf) (hts : ∀ w ∈ w_Model_checkOf, w.before args s = true) (hown : s.vm.findClass R_Model = some m.cls) (hK : va_K (dC, dI) classes [(kB, .byte)] s) (hP : va_P (dC, dI) classes [(hB, .inl (kB, N, .inl f))] H) {i q : Nat} (hN : N ≤ 4096) (hiq : i + q ≤ N) (kk : ∀ ls : Array Slot, lv_has ls 7 [(3, .int (nI (mb_bits f i (8 * q))))] → W p l e R s m args below meth c H locs cells slots Q (F0 m 75 ls [])) :
    ∀ (d k : Nat), k ≤ 8 * q → 8 * q < k + d → ∀ ls : Array Slot, lv_has ls 7 [(0, .ref hB), (1, .int (nI i)), (2, .int (nI q)), (3, .int (nI (mb_bits f i k))), (4, .int (nI k))] → W p l e R s m args below meth c H locs cells slots Q (F0 m 6 ls []) := by
  intro d
  induction d with
  | zero => intro k h1 h2; exact absurd h2 (by omega)
  | succ d ih =>
    intro k hk hd ls hl
    have hc := mb_bits_lt f i k
    refine lv_iload hx hb d_Model_checkOf_6 (lv_at hl 4 rfl) ?_
    refine lv_bipush (v := nI 8) hx hb d_Model_checkOf_8 (by decide +kernel) ?_
    refine lv_iload_n hx hb d_Model_checkOf_10 rfl (lv_at hl 2 rfl) ?_
    refine lv_imul hx hb d_Model_checkOf_11 ?_
    refine mb_top (x := (nI 8) * (nI q)) (y := nI (8 * q)) (pk_mul 8 q) ?_
    refine lv_icmp_ge (tgt := 75) hx hb d_Model_checkOf_12 (by decide) (fun c1 => ?_) (fun c1 => ?_)
    · have hkq : k = 8 * q := by have := (nI_leI (by omega) (by omega)).mp c1; omega
      subst hkq
      exact kk ls (lv_sub hl [3] rfl)
    · have hkq : k < 8 * q := by have := mt (nI_leI (a := 8 * q) (b := k) (by omega) (by omega)).mpr c1; omega
      have hs8 : 7 - k % 8 < 8 := by omega
      refine lv_aload_n hx hb d_Model_checkOf_15 rfl (lv_at hl 0 rfl) ?_
      refine lv_iload_n hx hb d_Model_checkOf_16 rfl (lv_at hl 1 rfl) ?_
      refine lv_iload hx hb d_Model_checkOf_17 (lv_at hl 4 rfl) ?_
      refine lv_bipush (v := nI 8) hx hb d_Model_checkOf_19 (by decide +kernel) ?_
      refine lv_idiv hx hb d_Model_checkOf_21 (by decide) ?_
      refine mb_top (x := nI k / nI 8) (y := nI (k / 8)) (pk_div (by omega) (by decide) (by decide)) ?_
      refine lv_iadd hx hb d_Model_checkOf_22 ?_
      refine mb_top (x := (nI i) + (nI (k / 8))) (y := nI (i + k / 8)) (nI_add _ _) ?_
      refine mb_bald (k := i + k / 8) (n := N) (f := f) hx hb hK hP 0 0 rfl rfl (by omega) (by omega) d_Model_checkOf_23 ?_
      refine lv_bipush (v := nI 7) hx hb d_Model_checkOf_24 (by decide +kernel) ?_
      refine lv_iload hx hb d_Model_checkOf_26 (lv_at hl 4 rfl) ?_
      refine lv_bipush (v := nI 8) hx hb d_Model_checkOf_28 (by decide +kernel) ?_
      refine lv_irem hx hb d_Model_checkOf_30 (by decide) ?_
      refine mb_top (x := nI k - nI k / nI 8 * nI 8) (y := nI (k % 8)) (pk_rem (by omega) (by decide) (by decide)) ?_
      refine lv_isub hx hb d_Model_checkOf_31 ?_
      refine mb_top (x := (nI 7) - (nI (k % 8))) (y := nI (7 - k % 8)) (pk_sub (by omega)) ?_
      refine lv_ishr hx hb d_Model_checkOf_32 ?_
      refine lv_iconst (v := nI 1) hx hb d_Model_checkOf_33 (by decide) ?_
      refine lv_iand hx hb d_Model_checkOf_34 ?_
      refine mb_top (x := ((f (i + k / 8)) >>> ((nI (7 - k % 8)) &&& 31)) &&& (nI 1)) (y := nI (mb_by (f (i + k / 8)) / 2 ^ (7 - k % 8) % 2)) (mb_bit_i _ hs8) ?_
      refine lv_istore (lv' := [(5, .int (nI (mb_by (f (i + k / 8)) / 2 ^ (7 - k % 8) % 2))), (0, .ref hB), (1, .int (nI i)), (2, .int (nI q)), (3, .int (nI (mb_bits f i k))), (4, .int (nI k))]) hx hb d_Model_checkOf_35 hl (by decide) rfl (fun ls hl => ?_)
      refine lv_iload_n hx hb d_Model_checkOf_37 rfl (lv_at hl 4 rfl) ?_
      refine lv_bipush (v := nI 15) hx hb d_Model_checkOf_38 (by decide +kernel) ?_
      refine lv_ishr hx hb d_Model_checkOf_40 ?_
      refine mb_top (x := (nI (mb_bits f i k)) >>> ((nI 15) &&& 31)) (y := nI (mb_bits f i k / 32768)) (mb_shr15 hc) ?_
      refine lv_istore (lv' := [(6, .int (nI (mb_bits f i k / 32768))), (5, .int (nI (mb_by (f (i + k / 8)) / 2 ^ (7 - k % 8) % 2))), (0, .ref hB), (1, .int (nI i)), (2, .int (nI q)), (3, .int (nI (mb_bits f i k))), (4, .int (nI k))]) hx hb d_Model_checkOf_41 hl (by decide) rfl (fun ls hl => ?_)
      refine lv_iload_n hx hb d_Model_checkOf_43 rfl (lv_at hl 5 rfl) ?_
      refine lv_iconst (v := nI 1) hx hb d_Model_checkOf_44 (by decide) ?_
      refine lv_ishl hx hb d_Model_checkOf_45 ?_
      refine mb_top (x := (nI (mb_bits f i k)) <<< ((nI 1) &&& 31)) (y := nI (mb_bits f i k * 2)) (mb_shl1 (by omega)) ?_
      refine lv_ldc (v := nI 65535) hx hb hown (hts (.constant R_Model 20 65535) (by decide +kernel)) d_Model_checkOf_46 ?_
      refine lv_iand hx hb d_Model_checkOf_48 ?_
      refine mb_top (x := (nI (mb_bits f i k * 2)) &&& (nI 65535)) (y := nI (mb_bits f i k * 2 % 65536)) (mb_m16 (by omega)) ?_
      refine lv_istore_n (lv' := [(3, .int (nI (mb_bits f i k * 2 % 65536))), (6, .int (nI (mb_bits f i k / 32768))), (5, .int (nI (mb_by (f (i + k / 8)) / 2 ^ (7 - k % 8) % 2))), (0, .ref hB), (1, .int (nI i)), (2, .int (nI q)), (4, .int (nI k))]) hx hb d_Model_checkOf_49 rfl hl (by decide) rfl (fun ls hl => ?_)
      refine lv_iload hx hb d_Model_checkOf_50 (lv_at hl 1 rfl) ?_
      refine lv_iload hx hb d_Model_checkOf_52 (lv_at hl 2 rfl) ?_
      refine lv_ixor hx hb d_Model_checkOf_54 ?_
      refine mb_top (x := (nI (mb_bits f i k / 32768)) ^^^ (nI (mb_by (f (i + k / 8)) / 2 ^ (7 - k % 8) % 2))) (y := nI ((mb_bits f i k / 32768) ^^^ (mb_by (f (i + k / 8)) / 2 ^ (7 - k % 8) % 2))) (mb_xor _ _) ?_
      refine lv_iconst (v := nI 1) hx hb d_Model_checkOf_55 (by decide) ?_
      have hxl : (mb_bits f i k / 32768) ^^^ (mb_by (f (i + k / 8)) / 2 ^ (7 - k % 8) % 2) < 2 := Nat.xor_lt_two_pow (n := 1) (by omega) (Nat.mod_lt _ (by decide))
      refine lv_icmp_ne (tgt := 67) hx hb d_Model_checkOf_56 (by decide) (fun c2 => ?_) (fun c2 => ?_)
      · have e1 : mb_bits f i (k + 1) = mb_bits f i k * 2 % 65536 := if_neg (fun h => c2 (by rw [h]))
        refine lv_iload_n hx hb d_Model_checkOf_67 rfl (lv_at hl 0 rfl) ?_
        refine mb_top (x := nI (mb_bits f i k * 2 % 65536)) (y := nI (mb_bits f i (k + 1))) (by rw [e1]) ?_
        refine lv_istore_n (lv' := [(3, .int (nI (mb_bits f i (k + 1)))), (6, .int (nI (mb_bits f i k / 32768))), (5, .int (nI (mb_by (f (i + k / 8)) / 2 ^ (7 - k % 8) % 2))), (0, .ref hB), (1, .int (nI i)), (2, .int (nI q)), (4, .int (nI k))]) hx hb d_Model_checkOf_68 rfl hl (by decide) rfl (fun ls hl => ?_)
        refine lv_iinc (v := nI (k + 1)) (lv' := [(4, .int (nI (k + 1))), (3, .int (nI (mb_bits f i (k + 1)))), (6, .int (nI (mb_bits f i k / 32768))), (5, .int (nI (mb_by (f (i + k / 8)) / 2 ^ (7 - k % 8) % 2))), (0, .ref hB), (1, .int (nI i)), (2, .int (nI q))]) hx hb d_Model_checkOf_69 hl (k := 6) rfl (nI_1 k) (by decide) rfl (fun ls hl => ?_)
        refine lv_goto (tgt := 6) hx hb d_Model_checkOf_72 (by decide) ?_
        exact ih (k + 1) (by omega) (by omega) ls (lv_sub hl [4, 5, 6, 1, 0] rfl)
      · have e1 : mb_bits f i (k + 1) = (mb_bits f i k * 2 % 65536) ^^^ 4129 := if_pos ((nI_eq (by omega) (by decide)).mp c2)
        refine lv_iload_n hx hb d_Model_checkOf_59 rfl (lv_at hl 0 rfl) ?_
        refine lv_sipush (v := nI 4129) hx hb d_Model_checkOf_60 (by decide +kernel) ?_
        refine lv_ixor hx hb d_Model_checkOf_63 ?_
        refine mb_top (x := (nI (mb_bits f i k * 2 % 65536)) ^^^ (nI 4129)) (y := nI (mb_bits f i (k + 1))) (by rw [e1]; exact mb_xor _ _) ?_
        refine lv_goto (tgt := 68) hx hb d_Model_checkOf_64 (by decide) ?_
        refine lv_istore_n (lv' := [(3, .int (nI (mb_bits f i (k + 1)))), (6, .int (nI (mb_bits f i k / 32768))), (5, .int (nI (mb_by (f (i + k / 8)) / 2 ^ (7 - k % 8) % 2))), (0, .ref hB), (1, .int (nI i)), (2, .int (nI q)), (4, .int (nI k))]) hx hb d_Model_checkOf_68 rfl hl (by decide) rfl (fun ls hl => ?_)
        refine lv_iinc (v := nI (k + 1)) (lv' := [(4, .int (nI (k + 1))), (3, .int (nI (mb_bits f i (k + 1)))), (6, .int (nI (mb_bits f i k / 32768))), (5, .int (nI (mb_by (f (i + k / 8)) / 2 ^ (7 - k % 8) % 2))), (0, .ref hB), (1, .int (nI i)), (2, .int (nI q))]) hx hb d_Model_checkOf_69 hl (k := 6) rfl (nI_1 k) (by decide) rfl (fun ls hl => ?_)
        refine lv_goto (tgt := 6) hx hb d_Model_checkOf_72 (by decide) ?_
        exact ih (k + 1) (by omega) (by omega) ls (lv_sub hl [4, 5, 6, 1, 0] rfl)
set_option maxHeartbeats 4000000 in
set_option maxRecDepth 100000 in
/-- checkOf: the check of n bytes from one on, bit by bit -/
theorem c_Model_checkOf (l : Launch) (dC : Nat → ClassId) (dI : Nat → Nat → Nat) (sz : Nat) (hB : Nat) (kB : ClassId) (f : Nat → Int32) (N : Nat) (hN : N ≤ 4096) (p0 p1 : Int32) (hin : mb_in p0 p1 N) : Met l y_Model_checkOf w_Model_checkOf ({ frames := 0, cells := 0, slots := 0, locals := 0 }) (va_Pc [.ref hB, .int p0, .int p1] (fun U => U.heap.size = sz ∧ va_P (dC, dI) classes [(hB, .inl (kB, N, .inl f))] U.heap ∧ va_K (dC, dI) classes [(kB, .byte)] U)) (va_Qi (fun (r : Int32) (_ : Unit) => r = nI (mb_crc f p0.toNatClampNeg p1.toNatClampNeg)) (fun _ _ => True) (va_A [] sz)) 0 0 (va_A [] sz) := by
  obtain ⟨hi1, hi2, hi3⟩ := hin
  obtain ⟨q, hq, rfl⟩ := nI_of hi2
  obtain ⟨i, hi, rfl⟩ := nI_of hi1
  rw [nI_clamp hi, nI_clamp hq] at hi3
  rw [nI_clamp hi, nI_clamp hq, ← mb_same]
  refine Met.ofW (cc := b_Model_checkOf) (maxL := 7) (ret := (some .int)) (by decide) rfl ?_
  intro p e s m args below meth c s₁ B hml hv
  obtain ⟨rfl, hsz, hP, hK⟩ := hv
  have hx := B.exec
  have hb := B.bytes
  have hr := B.returns
  have hts := atoms_spec (ws := w_Model_checkOf) B.pre
  have hown : s.vm.findClass R_Model = some m.cls := findClass_of_methodNamed B.named
  have hlocks := B.notSynchronized
  subst hsz
  generalize hAe : va_A [] s.heap.size = A
  have hA : ∀ q : Nat, s.heap.size ≤ q → A q := fun q h => by rw [← hAe]; exact Or.inr h
  have hS : va_S A s.heap s.heap [] := va_S.rf
  have hP : va_P (dC, dI) classes [(hB, .inl (kB, N, .inl f))] s.heap := hP
  have hK : va_K (dC, dI) classes [(kB, .byte)] s := hK
  have hl := lv_entry ([.ref hB, .int (nI i), .int (nI q)]) (n := 7) (Nat.le_of_ble_eq_true rfl)
  rw [lg_entry_eq]
  generalize (lg_sl ([.ref hB, .int (nI i), .int (nI q)]) ++ List.replicate (7 - (lg_sl ([.ref hB, .int (nI i), .int (nI q)])).length) Slot.unset).toArray = ls at hl ⊢
  have hl : lv_has ls 7 [(0, .ref hB), (1, .int (nI i)), (2, .int (nI q))] := hl
  refine lv_ldc (v := nI 65535) hx hb hown (hts (.constant R_Model 20 65535) (by decide +kernel)) d_Model_checkOf_0 ?_
  refine lv_istore_n (lv' := [(3, .int (nI 65535)), (0, .ref hB), (1, .int (nI i)), (2, .int (nI q))]) hx hb d_Model_checkOf_2 rfl hl (by decide) rfl (fun ls hl => ?_)
  refine lv_iconst (v := nI 0) hx hb d_Model_checkOf_3 (by decide) ?_
  refine lv_istore (lv' := [(4, .int (nI 0)), (3, .int (nI 65535)), (0, .ref hB), (1, .int (nI i)), (2, .int (nI q))]) hx hb d_Model_checkOf_4 hl (by decide) rfl (fun ls hl => ?_)
  refine lp_Model_checkOf (A := A) (H0 := s.heap) hx hb hts hown hK hP hN hi3 (fun ls hl => ?_) (8 * q + 1) 0 (Nat.zero_le _) (by omega) ls (lv_sub hl [2, 3, 4, 1, 0] rfl)
  refine lv_iload_n hx hb d_Model_checkOf_75 rfl (lv_at hl 0 rfl) ?_
  exact W.iret (v := nI (mb_bits f i (8 * q))) hx hb hr (fun t ht hW => ⟨⟨nI (mb_bits f i (8 * q)), (), rfl, rfl, trivial⟩, hS.F ht⟩) hS.2.2 d_Model_checkOf_76
set_option maxHeartbeats 4000000 in
set_option maxRecDepth 100000 in
/-- put(b) -/
theorem c_Model_put (l : Launch) (dC : Nat → ClassId) (dI : Nat → Nat → Nat) (sz : Nat) (h0 h1 h2 : Nat) (kM kR : ClassId) (u : mb_S) (hu : mb_ok u) (p0 : Int32) : Met l y_Model_put w_Model_put ({ frames := 0, cells := 0, slots := 0, locals := 0 }) (va_Pc [.ref h0, .int p0] (fun U => U.heap.size = sz ∧ va_P (dC, dI) classes (ws_Model h0 h1 h2 kM kR u) U.heap ∧ va_K (dC, dI) classes (ty_Model kM kR) U ∧ va_D (fun _ => True) (ws_Model h0 h1 h2 kM kR u))) (va_Qi (fun (r : Int32) (v : mb_S) => r = (mb_put p0 u).1 ∧ v = (mb_put p0 u).2) (at_Model dC dI (va_A (ws_Model h0 h1 h2 kM kR u) sz) h0 h1 h2 kM kR) (va_A (ws_Model h0 h1 h2 kM kR u) sz)) 0 0 (va_A (ws_Model h0 h1 h2 kM kR u) sz) := by
  obtain ⟨mem, row, n⟩ := u
  obtain ⟨hu1, hu2, hu3⟩ := hu
  have hu1 : sb_Fit mem := hu1
  have hu2 : sb_Fit row := hu2
  have hu3 : n ≤ 512 := hu3
  refine Met.ofW (cc := b_Model_put) (maxL := 2) (ret := (some .int)) (by decide) rfl ?_
  intro p e s m args below meth c s₁ B hml hv
  obtain ⟨rfl, hsz, hP, hK, hD0⟩ := hv
  have hx := B.exec
  have hb := B.bytes
  have hr := B.returns
  have hts := atoms_spec (ws := w_Model_put) B.pre
  have hown : s.vm.findClass R_Model = some m.cls := findClass_of_methodNamed B.named
  have hlocks := B.notSynchronized
  subst hsz
  have hD := hD0.self (sz := s.heap.size)
  generalize hAe : va_A (ws_Model h0 h1 h2 kM kR (mem, row, n)) s.heap.size = A at hD ⊢
  have hA : ∀ q : Nat, s.heap.size ≤ q → A q := fun q h => by rw [← hAe]; exact Or.inr h
  have hS : va_S A s.heap s.heap [] := va_S.rf
  have hP : va_P (dC, dI) classes [(h0, .inr (2, [.int (nI 0), .ref h1, .ref h2, .int (nI n)])), (h1, .inl (kM, 4096, .inl mem)), (h2, .inl (kR, 512, .inl row))] s.heap := hP
  have hD : va_D A [(h0, .inr (2, [.int (nI 0), .ref h1, .ref h2, .int (nI n)])), (h1, .inl (kM, 4096, .inl mem)), (h2, .inl (kR, 512, .inl row))] := hD
  have hK : va_K (dC, dI) classes [(kM, .byte), (kR, .byte)] s := hK
  have hl := lv_entry ([.ref h0, .int p0]) (n := 2) (Nat.le_of_ble_eq_true rfl)
  rw [lg_entry_eq]
  generalize (lg_sl ([.ref h0, .int p0]) ++ List.replicate (2 - (lg_sl ([.ref h0, .int p0])).length) Slot.unset).toArray = ls at hl ⊢
  have hl : lv_has ls 2 [(0, .ref h0), (1, .int p0)] := hl
  refine lv_aload_n hx hb d_Model_put_0 rfl (lv_at hl 0 rfl) ?_
  refine lv_iconst (v := nI 0) hx hb d_Model_put_1 (by decide) ?_
  refine va_put (D := (dC, dI)) (ci := 2) (v := .int (nI 0)) (ty := .int) (C := R_Model) (T := F_Model) (N := 4) hx hb hts i_Model_put_Model t_Model t_Model_ok n_Model hown hK hP hD hS 0 rfl rfl 0 (by decide) (hts (.fieldLink R_Model 16 "MemoryBankModel" "thrown" "I") (by decide +kernel)) (fun _ h9 => h9) rfl (by decide +kernel) rfl rfl (Nat.le_of_ble_eq_true rfl) d_Model_put_2 (fun H locs hP hD hS => ?_)
  have hP : va_P (dC, dI) classes [(h0, .inr (2, [.int (nI 0), .ref h1, .ref h2, .int (nI n)])), (h1, .inl (kM, 4096, .inl mem)), (h2, .inl (kR, 512, .inl row))] H := hP
  have hD : va_D A [(h0, .inr (2, [.int (nI 0), .ref h1, .ref h2, .int (nI n)])), (h1, .inl (kM, 4096, .inl mem)), (h2, .inl (kR, 512, .inl row))] := hD
  refine lv_aload_n hx hb d_Model_put_5 rfl (lv_at hl 0 rfl) ?_
  refine va_get (D := (dC, dI)) (ci := 2) (v := .int (nI n)) (C := R_Model) (T := F_Model) (N := 4) hx hb hts i_Model_put_Model hown hK hP 0 rfl rfl 3 (by decide) (hts (.fieldLink R_Model 21 "MemoryBankModel" "size" "I") (by decide +kernel)) (fun _ h9 => h9) rfl d_Model_put_6 ?_
  refine lv_sipush (v := nI 512) hx hb d_Model_put_9 (by decide +kernel) ?_
  refine lv_icmp_ne (tgt := 17) hx hb d_Model_put_12 (by decide) (fun c1 => ?_) (fun c1 => ?_)
  · have hn : ¬ n = 512 := fun h => c1 (by rw [h])
    have hn2 : n < 512 := by omega
    refine lv_aload_n hx hb d_Model_put_17 rfl (lv_at hl 0 rfl) ?_
    refine va_get (D := (dC, dI)) (ci := 2) (v := .ref h2) (C := R_Model) (T := F_Model) (N := 4) hx hb hts i_Model_put_Model hown hK hP 0 rfl rfl 2 (by decide) (hts (.fieldLink R_Model 13 "MemoryBankModel" "row" "[B") (by decide +kernel)) (fun _ h9 => h9) rfl d_Model_put_18 ?_
    refine lv_aload_n hx hb d_Model_put_21 rfl (lv_at hl 0 rfl) ?_
    refine va_get (D := (dC, dI)) (ci := 2) (v := .int (nI n)) (C := R_Model) (T := F_Model) (N := 4) hx hb hts i_Model_put_Model hown hK hP 0 rfl rfl 3 (by decide) (hts (.fieldLink R_Model 21 "MemoryBankModel" "size" "I") (by decide +kernel)) (fun _ h9 => h9) rfl d_Model_put_22 ?_
    refine lv_iload_n hx hb d_Model_put_25 rfl (lv_at hl 1 rfl) ?_
    refine lv_i2b (v := p0.toInt8.toInt32) hx hb d_Model_put_26 rfl ?_
    refine mb_bast (k := n) (n := 512) (f := row) (y := p0.toInt8.toInt32) (f2 := upd row n (p0.toInt8.toInt32)) hx hb hK hP hD hS 2 1 rfl rfl (hn2) (by decide) (pk_vb p0) (rfl) d_Model_put_27 (fun H locs hP hD hS => ?_)
    have hP : va_P (dC, dI) classes [(h0, .inr (2, [.int (nI 0), .ref h1, .ref h2, .int (nI n)])), (h1, .inl (kM, 4096, .inl mem)), (h2, .inl (kR, 512, .inl (upd row n (p0.toInt8.toInt32))))] H := hP
    have hD : va_D A [(h0, .inr (2, [.int (nI 0), .ref h1, .ref h2, .int (nI n)])), (h1, .inl (kM, 4096, .inl mem)), (h2, .inl (kR, 512, .inl (upd row n (p0.toInt8.toInt32))))] := hD
    refine lv_aload_n hx hb d_Model_put_28 rfl (lv_at hl 0 rfl) ?_
    refine lv_dup hx hb d_Model_put_29 rfl ?_
    refine va_get (D := (dC, dI)) (ci := 2) (v := .int (nI n)) (C := R_Model) (T := F_Model) (N := 4) hx hb hts i_Model_put_Model hown hK hP 0 rfl rfl 3 (by decide) (hts (.fieldLink R_Model 21 "MemoryBankModel" "size" "I") (by decide +kernel)) (fun _ h9 => h9) rfl d_Model_put_30 ?_
    refine lv_iconst (v := nI 1) hx hb d_Model_put_33 (by decide) ?_
    refine lv_iadd hx hb d_Model_put_34 ?_
    refine mb_top (x := (nI n) + (nI 1)) (y := nI (n + 1)) (nI_1 n) ?_
    refine va_put (D := (dC, dI)) (ci := 2) (v := .int (nI (n + 1))) (ty := .int) (C := R_Model) (T := F_Model) (N := 4) hx hb hts i_Model_put_Model t_Model t_Model_ok n_Model hown hK hP hD hS 0 rfl rfl 3 (by decide) (hts (.fieldLink R_Model 21 "MemoryBankModel" "size" "I") (by decide +kernel)) (fun _ h9 => h9) rfl (by decide +kernel) rfl rfl (Nat.le_of_ble_eq_true rfl) d_Model_put_35 (fun H locs hP hD hS => ?_)
    have hP : va_P (dC, dI) classes [(h0, .inr (2, [.int (nI 0), .ref h1, .ref h2, .int (nI (n + 1))])), (h1, .inl (kM, 4096, .inl mem)), (h2, .inl (kR, 512, .inl (upd row n (p0.toInt8.toInt32))))] H := hP
    have hD : va_D A [(h0, .inr (2, [.int (nI 0), .ref h1, .ref h2, .int (nI (n + 1))])), (h1, .inl (kM, 4096, .inl mem)), (h2, .inl (kR, 512, .inl (upd row n (p0.toInt8.toInt32))))] := hD
    refine lv_aload_n hx hb d_Model_put_38 rfl (lv_at hl 0 rfl) ?_
    refine va_get (D := (dC, dI)) (ci := 2) (v := .int (nI (n + 1))) (C := R_Model) (T := F_Model) (N := 4) hx hb hts i_Model_put_Model hown hK hP 0 rfl rfl 3 (by decide) (hts (.fieldLink R_Model 21 "MemoryBankModel" "size" "I") (by decide +kernel)) (fun _ h9 => h9) rfl d_Model_put_39 ?_
    exact W.iret (v := nI (n + 1)) hx hb hr (fun t ht hW => ⟨⟨nI (n + 1), (mem, upd row n p0.toInt8.toInt32, n + 1), rfl, (by rw [mb_put_t (u := (mem, row, n)) hn]; exact ⟨rfl, rfl⟩), by rw [ht]; exact hP, va_K.moved hW.alike hK, hD⟩, hS.F ht⟩) hS.2.2 d_Model_put_42
  · have hn : n = 512 := (nI_eq (by omega) (by omega)).mp c1
    refine lv_iconst (v := -1) hx hb d_Model_put_15 (by decide) ?_
    exact W.iret (v := (-1)) hx hb hr (fun t ht hW => ⟨⟨(-1), (mem, row, n), rfl, (by rw [mb_put_f (u := (mem, row, n)) hn]; exact ⟨rfl, rfl⟩), by rw [ht]; exact hP, va_K.moved hW.alike hK, hD⟩, hS.F ht⟩) hS.2.2 d_Model_put_16
set_option maxHeartbeats 4000000 in
set_option maxRecDepth 100000 in
/-- cut(n) -/
theorem c_Model_cut (l : Launch) (dC : Nat → ClassId) (dI : Nat → Nat → Nat) (sz : Nat) (h0 h1 h2 : Nat) (kM kR : ClassId) (u : mb_S) (hu : mb_ok u) (p0 : Int32) : Met l y_Model_cut w_Model_cut ({ frames := 0, cells := 0, slots := 0, locals := 0 }) (va_Pc [.ref h0, .int p0] (fun U => U.heap.size = sz ∧ va_P (dC, dI) classes (ws_Model h0 h1 h2 kM kR u) U.heap ∧ va_K (dC, dI) classes (ty_Model kM kR) U ∧ va_D (fun _ => True) (ws_Model h0 h1 h2 kM kR u))) (va_Qi (fun (r : Int32) (v : mb_S) => r = (mb_cut p0 u).1 ∧ v = (mb_cut p0 u).2) (at_Model dC dI (va_A (ws_Model h0 h1 h2 kM kR u) sz) h0 h1 h2 kM kR) (va_A (ws_Model h0 h1 h2 kM kR u) sz)) 0 0 (va_A (ws_Model h0 h1 h2 kM kR u) sz) := by
  obtain ⟨mem, row, n⟩ := u
  obtain ⟨hu1, hu2, hu3⟩ := hu
  have hu1 : sb_Fit mem := hu1
  have hu2 : sb_Fit row := hu2
  have hu3 : n ≤ 512 := hu3
  refine Met.ofW (cc := b_Model_cut) (maxL := 2) (ret := (some .boolean)) (by decide) rfl ?_
  intro p e s m args below meth c s₁ B hml hv
  obtain ⟨rfl, hsz, hP, hK, hD0⟩ := hv
  have hx := B.exec
  have hb := B.bytes
  have hr := B.returns
  have hts := atoms_spec (ws := w_Model_cut) B.pre
  have hown : s.vm.findClass R_Model = some m.cls := findClass_of_methodNamed B.named
  have hlocks := B.notSynchronized
  subst hsz
  have hD := hD0.self (sz := s.heap.size)
  generalize hAe : va_A (ws_Model h0 h1 h2 kM kR (mem, row, n)) s.heap.size = A at hD ⊢
  have hA : ∀ q : Nat, s.heap.size ≤ q → A q := fun q h => by rw [← hAe]; exact Or.inr h
  have hS : va_S A s.heap s.heap [] := va_S.rf
  have hP : va_P (dC, dI) classes [(h0, .inr (2, [.int (nI 0), .ref h1, .ref h2, .int (nI n)])), (h1, .inl (kM, 4096, .inl mem)), (h2, .inl (kR, 512, .inl row))] s.heap := hP
  have hD : va_D A [(h0, .inr (2, [.int (nI 0), .ref h1, .ref h2, .int (nI n)])), (h1, .inl (kM, 4096, .inl mem)), (h2, .inl (kR, 512, .inl row))] := hD
  have hK : va_K (dC, dI) classes [(kM, .byte), (kR, .byte)] s := hK
  have hl := lv_entry ([.ref h0, .int p0]) (n := 2) (Nat.le_of_ble_eq_true rfl)
  rw [lg_entry_eq]
  generalize (lg_sl ([.ref h0, .int p0]) ++ List.replicate (2 - (lg_sl ([.ref h0, .int p0])).length) Slot.unset).toArray = ls at hl ⊢
  have hl : lv_has ls 2 [(0, .ref h0), (1, .int p0)] := hl
  refine lv_aload_n hx hb d_Model_cut_0 rfl (lv_at hl 0 rfl) ?_
  refine lv_iconst (v := nI 0) hx hb d_Model_cut_1 (by decide) ?_
  refine va_put (D := (dC, dI)) (ci := 2) (v := .int (nI 0)) (ty := .int) (C := R_Model) (T := F_Model) (N := 4) hx hb hts i_Model_cut_Model t_Model t_Model_ok n_Model hown hK hP hD hS 0 rfl rfl 0 (by decide) (hts (.fieldLink R_Model 16 "MemoryBankModel" "thrown" "I") (by decide +kernel)) (fun _ h9 => h9) rfl (by decide +kernel) rfl rfl (Nat.le_of_ble_eq_true rfl) d_Model_cut_2 (fun H locs hP hD hS => ?_)
  have hP : va_P (dC, dI) classes [(h0, .inr (2, [.int (nI 0), .ref h1, .ref h2, .int (nI n)])), (h1, .inl (kM, 4096, .inl mem)), (h2, .inl (kR, 512, .inl row))] H := hP
  have hD : va_D A [(h0, .inr (2, [.int (nI 0), .ref h1, .ref h2, .int (nI n)])), (h1, .inl (kM, 4096, .inl mem)), (h2, .inl (kR, 512, .inl row))] := hD
  refine lv_iload_n hx hb d_Model_cut_5 rfl (lv_at hl 1 rfl) ?_
  refine lv_if_lt (tgt := 17) hx hb d_Model_cut_6 (by decide) (fun c1 => ?_) (fun c1 => ?_)
  · refine lv_iconst (v := nI 0) hx hb d_Model_cut_17 (by decide) ?_
    exact W.zret (v := nI 0) (ty := .boolean) hx hb hr (by decide) (fun t ht hW => ⟨⟨nI 0, (mem, row, n), rfl, (by rw [mb_cut_f (u := (mem, row, n)) (fun h => h.1 c1)]; exact ⟨rfl, rfl⟩), by rw [ht]; exact hP, va_K.moved hW.alike hK, hD⟩, hS.F ht⟩) hS.2.2 d_Model_cut_18
  · refine lv_iload_n hx hb d_Model_cut_9 rfl (lv_at hl 1 rfl) ?_
    refine lv_aload_n hx hb d_Model_cut_10 rfl (lv_at hl 0 rfl) ?_
    refine va_get (D := (dC, dI)) (ci := 2) (v := .int (nI n)) (C := R_Model) (T := F_Model) (N := 4) hx hb hts i_Model_cut_Model hown hK hP 0 rfl rfl 3 (by decide) (hts (.fieldLink R_Model 21 "MemoryBankModel" "size" "I") (by decide +kernel)) (fun _ h9 => h9) rfl d_Model_cut_11 ?_
    refine lv_icmp_le (tgt := 19) hx hb d_Model_cut_14 (by decide) (fun c2 => ?_) (fun c2 => ?_)
    · have z2 : p0.toNatClampNeg ≤ n := mb_10 c1 (by omega) c2
      refine lv_aload_n hx hb d_Model_cut_19 rfl (lv_at hl 0 rfl) ?_
      refine lv_iload_n hx hb d_Model_cut_20 rfl (lv_at hl 1 rfl) ?_
      refine mb_top (x := p0) (y := nI p0.toNatClampNeg) (mb_nat c1) ?_
      refine va_put (D := (dC, dI)) (ci := 2) (v := .int (nI p0.toNatClampNeg)) (ty := .int) (C := R_Model) (T := F_Model) (N := 4) hx hb hts i_Model_cut_Model t_Model t_Model_ok n_Model hown hK hP hD hS 0 rfl rfl 3 (by decide) (hts (.fieldLink R_Model 21 "MemoryBankModel" "size" "I") (by decide +kernel)) (fun _ h9 => h9) rfl (by decide +kernel) rfl rfl (Nat.le_of_ble_eq_true rfl) d_Model_cut_21 (fun H locs hP hD hS => ?_)
      have hP : va_P (dC, dI) classes [(h0, .inr (2, [.int (nI 0), .ref h1, .ref h2, .int (nI p0.toNatClampNeg)])), (h1, .inl (kM, 4096, .inl mem)), (h2, .inl (kR, 512, .inl row))] H := hP
      have hD : va_D A [(h0, .inr (2, [.int (nI 0), .ref h1, .ref h2, .int (nI p0.toNatClampNeg)])), (h1, .inl (kM, 4096, .inl mem)), (h2, .inl (kR, 512, .inl row))] := hD
      refine lv_iconst (v := nI 1) hx hb d_Model_cut_24 (by decide) ?_
      exact W.zret (v := nI 1) (ty := .boolean) hx hb hr (by decide) (fun t ht hW => ⟨⟨nI 1, (mem, row, p0.toNatClampNeg), rfl, (by rw [mb_cut_t (u := (mem, row, n)) ⟨c1, z2⟩]; exact ⟨rfl, rfl⟩), by rw [ht]; exact hP, va_K.moved hW.alike hK, hD⟩, hS.F ht⟩) hS.2.2 d_Model_cut_25
    · refine lv_iconst (v := nI 0) hx hb d_Model_cut_17 (by decide) ?_
      exact W.zret (v := nI 0) (ty := .boolean) hx hb hr (by decide) (fun t ht hW => ⟨⟨nI 0, (mem, row, n), rfl, (by rw [mb_cut_f (u := (mem, row, n)) (fun h => mb_11 c1 (by omega) c2 h.2)]; exact ⟨rfl, rfl⟩), by rw [ht]; exact hP, va_K.moved hW.alike hK, hD⟩, hS.F ht⟩) hS.2.2 d_Model_cut_18
set_option maxHeartbeats 4000000 in
set_option maxRecDepth 100000 in
/-- size() -/
theorem c_Model_size (l : Launch) (dC : Nat → ClassId) (dI : Nat → Nat → Nat) (sz : Nat) (h0 h1 h2 : Nat) (kM kR : ClassId) (u : mb_S) (hu : mb_ok u)  : Met l y_Model_size w_Model_size ({ frames := 0, cells := 0, slots := 0, locals := 0 }) (va_Pc [.ref h0] (fun U => U.heap.size = sz ∧ va_P (dC, dI) classes (ws_Model h0 h1 h2 kM kR u) U.heap ∧ va_K (dC, dI) classes (ty_Model kM kR) U ∧ va_D (fun _ => True) (ws_Model h0 h1 h2 kM kR u))) (va_Qi (fun (r : Int32) (v : mb_S) => r = nI u.2.2 ∧ v = u) (at_Model dC dI (va_A (ws_Model h0 h1 h2 kM kR u) sz) h0 h1 h2 kM kR) (va_A (ws_Model h0 h1 h2 kM kR u) sz)) 0 0 (va_A (ws_Model h0 h1 h2 kM kR u) sz) := by
  obtain ⟨mem, row, n⟩ := u
  obtain ⟨hu1, hu2, hu3⟩ := hu
  have hu1 : sb_Fit mem := hu1
  have hu2 : sb_Fit row := hu2
  have hu3 : n ≤ 512 := hu3
  refine Met.ofW (cc := b_Model_size) (maxL := 1) (ret := (some .int)) (by decide) rfl ?_
  intro p e s m args below meth c s₁ B hml hv
  obtain ⟨rfl, hsz, hP, hK, hD0⟩ := hv
  have hx := B.exec
  have hb := B.bytes
  have hr := B.returns
  have hts := atoms_spec (ws := w_Model_size) B.pre
  have hown : s.vm.findClass R_Model = some m.cls := findClass_of_methodNamed B.named
  have hlocks := B.notSynchronized
  subst hsz
  have hD := hD0.self (sz := s.heap.size)
  generalize hAe : va_A (ws_Model h0 h1 h2 kM kR (mem, row, n)) s.heap.size = A at hD ⊢
  have hA : ∀ q : Nat, s.heap.size ≤ q → A q := fun q h => by rw [← hAe]; exact Or.inr h
  have hS : va_S A s.heap s.heap [] := va_S.rf
  have hP : va_P (dC, dI) classes [(h0, .inr (2, [.int (nI 0), .ref h1, .ref h2, .int (nI n)])), (h1, .inl (kM, 4096, .inl mem)), (h2, .inl (kR, 512, .inl row))] s.heap := hP
  have hD : va_D A [(h0, .inr (2, [.int (nI 0), .ref h1, .ref h2, .int (nI n)])), (h1, .inl (kM, 4096, .inl mem)), (h2, .inl (kR, 512, .inl row))] := hD
  have hK : va_K (dC, dI) classes [(kM, .byte), (kR, .byte)] s := hK
  have hl := lv_entry ([.ref h0]) (n := 1) (Nat.le_of_ble_eq_true rfl)
  rw [lg_entry_eq]
  generalize (lg_sl ([.ref h0]) ++ List.replicate (1 - (lg_sl ([.ref h0])).length) Slot.unset).toArray = ls at hl ⊢
  have hl : lv_has ls 1 [(0, .ref h0)] := hl
  refine lv_aload_n hx hb d_Model_size_0 rfl (lv_at hl 0 rfl) ?_
  refine lv_iconst (v := nI 0) hx hb d_Model_size_1 (by decide) ?_
  refine va_put (D := (dC, dI)) (ci := 2) (v := .int (nI 0)) (ty := .int) (C := R_Model) (T := F_Model) (N := 4) hx hb hts i_Model_size_Model t_Model t_Model_ok n_Model hown hK hP hD hS 0 rfl rfl 0 (by decide) (hts (.fieldLink R_Model 16 "MemoryBankModel" "thrown" "I") (by decide +kernel)) (fun _ h9 => h9) rfl (by decide +kernel) rfl rfl (Nat.le_of_ble_eq_true rfl) d_Model_size_2 (fun H locs hP hD hS => ?_)
  have hP : va_P (dC, dI) classes [(h0, .inr (2, [.int (nI 0), .ref h1, .ref h2, .int (nI n)])), (h1, .inl (kM, 4096, .inl mem)), (h2, .inl (kR, 512, .inl row))] H := hP
  have hD : va_D A [(h0, .inr (2, [.int (nI 0), .ref h1, .ref h2, .int (nI n)])), (h1, .inl (kM, 4096, .inl mem)), (h2, .inl (kR, 512, .inl row))] := hD
  refine lv_aload_n hx hb d_Model_size_5 rfl (lv_at hl 0 rfl) ?_
  refine va_get (D := (dC, dI)) (ci := 2) (v := .int (nI n)) (C := R_Model) (T := F_Model) (N := 4) hx hb hts i_Model_size_Model hown hK hP 0 rfl rfl 3 (by decide) (hts (.fieldLink R_Model 21 "MemoryBankModel" "size" "I") (by decide +kernel)) (fun _ h9 => h9) rfl d_Model_size_6 ?_
  exact W.iret (v := nI n) hx hb hr (fun t ht hW => ⟨⟨nI n, (mem, row, n), rfl, ⟨rfl, rfl⟩, by rw [ht]; exact hP, va_K.moved hW.alike hK, hD⟩, hS.F ht⟩) hS.2.2 d_Model_size_9
set_option maxHeartbeats 4000000 in
set_option maxRecDepth 100000 in
/-- rowAt(k) -/
theorem c_Model_rowAt (l : Launch) (dC : Nat → ClassId) (dI : Nat → Nat → Nat) (sz : Nat) (h0 h1 h2 : Nat) (kM kR : ClassId) (u : mb_S) (hu : mb_ok u) (p0 : Int32) : Met l y_Model_rowAt w_Model_rowAt ({ frames := 0, cells := 0, slots := 0, locals := 0 }) (va_Pc [.ref h0, .int p0] (fun U => U.heap.size = sz ∧ va_P (dC, dI) classes (ws_Model h0 h1 h2 kM kR u) U.heap ∧ va_K (dC, dI) classes (ty_Model kM kR) U ∧ va_D (fun _ => True) (ws_Model h0 h1 h2 kM kR u))) (va_Qi (fun (r : Int32) (v : mb_S) => r = mb_rowAt p0 u ∧ v = u) (at_Model dC dI (va_A (ws_Model h0 h1 h2 kM kR u) sz) h0 h1 h2 kM kR) (va_A (ws_Model h0 h1 h2 kM kR u) sz)) 0 0 (va_A (ws_Model h0 h1 h2 kM kR u) sz) := by
  obtain ⟨mem, row, n⟩ := u
  obtain ⟨hu1, hu2, hu3⟩ := hu
  have hu1 : sb_Fit mem := hu1
  have hu2 : sb_Fit row := hu2
  have hu3 : n ≤ 512 := hu3
  refine Met.ofW (cc := b_Model_rowAt) (maxL := 2) (ret := (some .int)) (by decide) rfl ?_
  intro p e s m args below meth c s₁ B hml hv
  obtain ⟨rfl, hsz, hP, hK, hD0⟩ := hv
  have hx := B.exec
  have hb := B.bytes
  have hr := B.returns
  have hts := atoms_spec (ws := w_Model_rowAt) B.pre
  have hown : s.vm.findClass R_Model = some m.cls := findClass_of_methodNamed B.named
  have hlocks := B.notSynchronized
  subst hsz
  have hD := hD0.self (sz := s.heap.size)
  generalize hAe : va_A (ws_Model h0 h1 h2 kM kR (mem, row, n)) s.heap.size = A at hD ⊢
  have hA : ∀ q : Nat, s.heap.size ≤ q → A q := fun q h => by rw [← hAe]; exact Or.inr h
  have hS : va_S A s.heap s.heap [] := va_S.rf
  have hP : va_P (dC, dI) classes [(h0, .inr (2, [.int (nI 0), .ref h1, .ref h2, .int (nI n)])), (h1, .inl (kM, 4096, .inl mem)), (h2, .inl (kR, 512, .inl row))] s.heap := hP
  have hD : va_D A [(h0, .inr (2, [.int (nI 0), .ref h1, .ref h2, .int (nI n)])), (h1, .inl (kM, 4096, .inl mem)), (h2, .inl (kR, 512, .inl row))] := hD
  have hK : va_K (dC, dI) classes [(kM, .byte), (kR, .byte)] s := hK
  have hl := lv_entry ([.ref h0, .int p0]) (n := 2) (Nat.le_of_ble_eq_true rfl)
  rw [lg_entry_eq]
  generalize (lg_sl ([.ref h0, .int p0]) ++ List.replicate (2 - (lg_sl ([.ref h0, .int p0])).length) Slot.unset).toArray = ls at hl ⊢
  have hl : lv_has ls 2 [(0, .ref h0), (1, .int p0)] := hl
  refine lv_aload_n hx hb d_Model_rowAt_0 rfl (lv_at hl 0 rfl) ?_
  refine lv_iconst (v := nI 0) hx hb d_Model_rowAt_1 (by decide) ?_
  refine va_put (D := (dC, dI)) (ci := 2) (v := .int (nI 0)) (ty := .int) (C := R_Model) (T := F_Model) (N := 4) hx hb hts i_Model_rowAt_Model t_Model t_Model_ok n_Model hown hK hP hD hS 0 rfl rfl 0 (by decide) (hts (.fieldLink R_Model 16 "MemoryBankModel" "thrown" "I") (by decide +kernel)) (fun _ h9 => h9) rfl (by decide +kernel) rfl rfl (Nat.le_of_ble_eq_true rfl) d_Model_rowAt_2 (fun H locs hP hD hS => ?_)
  have hP : va_P (dC, dI) classes [(h0, .inr (2, [.int (nI 0), .ref h1, .ref h2, .int (nI n)])), (h1, .inl (kM, 4096, .inl mem)), (h2, .inl (kR, 512, .inl row))] H := hP
  have hD : va_D A [(h0, .inr (2, [.int (nI 0), .ref h1, .ref h2, .int (nI n)])), (h1, .inl (kM, 4096, .inl mem)), (h2, .inl (kR, 512, .inl row))] := hD
  refine lv_iload_n hx hb d_Model_rowAt_5 rfl (lv_at hl 1 rfl) ?_
  refine lv_if_lt (tgt := 17) hx hb d_Model_rowAt_6 (by decide) (fun c1 => ?_) (fun c1 => ?_)
  · refine lv_iconst (v := -1) hx hb d_Model_rowAt_17 (by decide) ?_
    refine lv_goto (tgt := 31) hx hb d_Model_rowAt_18 (by decide) ?_
    exact W.iret (v := (-1)) hx hb hr (fun t ht hW => ⟨⟨(-1), (mem, row, n), rfl, ⟨mb_rowAt_f (u := (mem, row, n)) (fun h => h.1 c1), rfl⟩, by rw [ht]; exact hP, va_K.moved hW.alike hK, hD⟩, hS.F ht⟩) hS.2.2 d_Model_rowAt_31
  · refine lv_iload_n hx hb d_Model_rowAt_9 rfl (lv_at hl 1 rfl) ?_
    refine lv_aload_n hx hb d_Model_rowAt_10 rfl (lv_at hl 0 rfl) ?_
    refine va_get (D := (dC, dI)) (ci := 2) (v := .int (nI n)) (C := R_Model) (T := F_Model) (N := 4) hx hb hts i_Model_rowAt_Model hown hK hP 0 rfl rfl 3 (by decide) (hts (.fieldLink R_Model 21 "MemoryBankModel" "size" "I") (by decide +kernel)) (fun _ h9 => h9) rfl d_Model_rowAt_11 ?_
    refine lv_icmp_lt (tgt := 21) hx hb d_Model_rowAt_14 (by decide) (fun c2 => ?_) (fun c2 => ?_)
    · have z2 : p0.toNatClampNeg < n := mb_12 c1 (by omega) c2
      refine lv_aload_n hx hb d_Model_rowAt_21 rfl (lv_at hl 0 rfl) ?_
      refine va_get (D := (dC, dI)) (ci := 2) (v := .ref h2) (C := R_Model) (T := F_Model) (N := 4) hx hb hts i_Model_rowAt_Model hown hK hP 0 rfl rfl 2 (by decide) (hts (.fieldLink R_Model 13 "MemoryBankModel" "row" "[B") (by decide +kernel)) (fun _ h9 => h9) rfl d_Model_rowAt_22 ?_
      refine lv_iload_n hx hb d_Model_rowAt_25 rfl (lv_at hl 1 rfl) ?_
      refine mb_top (x := p0) (y := nI p0.toNatClampNeg) (mb_nat c1) ?_
      refine mb_bald (k := p0.toNatClampNeg) (n := 512) (f := row) hx hb hK hP 2 1 rfl rfl (by omega) (by decide) d_Model_rowAt_26 ?_
      refine lv_sipush (v := nI 255) hx hb d_Model_rowAt_27 (by decide +kernel) ?_
      refine lv_iand hx hb d_Model_rowAt_30 ?_
      refine mb_top (x := (row (p0.toNatClampNeg)) &&& (nI 255)) (y := nI (mb_by (row p0.toNatClampNeg))) (mb_255 _) ?_
      exact W.iret (v := nI (mb_by (row p0.toNatClampNeg))) hx hb hr (fun t ht hW => ⟨⟨nI (mb_by (row p0.toNatClampNeg)), (mem, row, n), rfl, ⟨mb_rowAt_t (u := (mem, row, n)) ⟨c1, z2⟩, rfl⟩, by rw [ht]; exact hP, va_K.moved hW.alike hK, hD⟩, hS.F ht⟩) hS.2.2 d_Model_rowAt_31
    · refine lv_iconst (v := -1) hx hb d_Model_rowAt_17 (by decide) ?_
      refine lv_goto (tgt := 31) hx hb d_Model_rowAt_18 (by decide) ?_
      exact W.iret (v := (-1)) hx hb hr (fun t ht hW => ⟨⟨(-1), (mem, row, n), rfl, ⟨mb_rowAt_f (u := (mem, row, n)) (fun h => mb_13 c1 (by omega) c2 h.2), rfl⟩, by rw [ht]; exact hP, va_K.moved hW.alike hK, hD⟩, hS.F ht⟩) hS.2.2 d_Model_rowAt_31
set_option maxHeartbeats 4000000 in
set_option maxRecDepth 100000 in
/-- at(k) -/
theorem c_Model_at (l : Launch) (dC : Nat → ClassId) (dI : Nat → Nat → Nat) (sz : Nat) (h0 h1 h2 : Nat) (kM kR : ClassId) (u : mb_S) (hu : mb_ok u) (p0 : Int32) : Met l y_Model_at w_Model_at ({ frames := 0, cells := 0, slots := 0, locals := 0 }) (va_Pc [.ref h0, .int p0] (fun U => U.heap.size = sz ∧ va_P (dC, dI) classes (ws_Model h0 h1 h2 kM kR u) U.heap ∧ va_K (dC, dI) classes (ty_Model kM kR) U ∧ va_D (fun _ => True) (ws_Model h0 h1 h2 kM kR u))) (va_Qi (fun (r : Int32) (v : mb_S) => r = mb_at p0 u ∧ v = u) (at_Model dC dI (va_A (ws_Model h0 h1 h2 kM kR u) sz) h0 h1 h2 kM kR) (va_A (ws_Model h0 h1 h2 kM kR u) sz)) 0 0 (va_A (ws_Model h0 h1 h2 kM kR u) sz) := by
  obtain ⟨mem, row, n⟩ := u
  obtain ⟨hu1, hu2, hu3⟩ := hu
  have hu1 : sb_Fit mem := hu1
  have hu2 : sb_Fit row := hu2
  have hu3 : n ≤ 512 := hu3
  refine Met.ofW (cc := b_Model_at) (maxL := 2) (ret := (some .int)) (by decide) rfl ?_
  intro p e s m args below meth c s₁ B hml hv
  obtain ⟨rfl, hsz, hP, hK, hD0⟩ := hv
  have hx := B.exec
  have hb := B.bytes
  have hr := B.returns
  have hts := atoms_spec (ws := w_Model_at) B.pre
  have hown : s.vm.findClass R_Model = some m.cls := findClass_of_methodNamed B.named
  have hlocks := B.notSynchronized
  subst hsz
  have hD := hD0.self (sz := s.heap.size)
  generalize hAe : va_A (ws_Model h0 h1 h2 kM kR (mem, row, n)) s.heap.size = A at hD ⊢
  have hA : ∀ q : Nat, s.heap.size ≤ q → A q := fun q h => by rw [← hAe]; exact Or.inr h
  have hS : va_S A s.heap s.heap [] := va_S.rf
  have hP : va_P (dC, dI) classes [(h0, .inr (2, [.int (nI 0), .ref h1, .ref h2, .int (nI n)])), (h1, .inl (kM, 4096, .inl mem)), (h2, .inl (kR, 512, .inl row))] s.heap := hP
  have hD : va_D A [(h0, .inr (2, [.int (nI 0), .ref h1, .ref h2, .int (nI n)])), (h1, .inl (kM, 4096, .inl mem)), (h2, .inl (kR, 512, .inl row))] := hD
  have hK : va_K (dC, dI) classes [(kM, .byte), (kR, .byte)] s := hK
  have hl := lv_entry ([.ref h0, .int p0]) (n := 2) (Nat.le_of_ble_eq_true rfl)
  rw [lg_entry_eq]
  generalize (lg_sl ([.ref h0, .int p0]) ++ List.replicate (2 - (lg_sl ([.ref h0, .int p0])).length) Slot.unset).toArray = ls at hl ⊢
  have hl : lv_has ls 2 [(0, .ref h0), (1, .int p0)] := hl
  refine lv_aload_n hx hb d_Model_at_0 rfl (lv_at hl 0 rfl) ?_
  refine lv_iconst (v := nI 0) hx hb d_Model_at_1 (by decide) ?_
  refine va_put (D := (dC, dI)) (ci := 2) (v := .int (nI 0)) (ty := .int) (C := R_Model) (T := F_Model) (N := 4) hx hb hts i_Model_at_Model t_Model t_Model_ok n_Model hown hK hP hD hS 0 rfl rfl 0 (by decide) (hts (.fieldLink R_Model 16 "MemoryBankModel" "thrown" "I") (by decide +kernel)) (fun _ h9 => h9) rfl (by decide +kernel) rfl rfl (Nat.le_of_ble_eq_true rfl) d_Model_at_2 (fun H locs hP hD hS => ?_)
  have hP : va_P (dC, dI) classes [(h0, .inr (2, [.int (nI 0), .ref h1, .ref h2, .int (nI n)])), (h1, .inl (kM, 4096, .inl mem)), (h2, .inl (kR, 512, .inl row))] H := hP
  have hD : va_D A [(h0, .inr (2, [.int (nI 0), .ref h1, .ref h2, .int (nI n)])), (h1, .inl (kM, 4096, .inl mem)), (h2, .inl (kR, 512, .inl row))] := hD
  refine lv_iload_n hx hb d_Model_at_5 rfl (lv_at hl 1 rfl) ?_
  refine lv_if_lt (tgt := 16) hx hb d_Model_at_6 (by decide) (fun c1 => ?_) (fun c1 => ?_)
  · refine lv_iconst (v := -1) hx hb d_Model_at_16 (by decide) ?_
    refine lv_goto (tgt := 30) hx hb d_Model_at_17 (by decide) ?_
    exact W.iret (v := (-1)) hx hb hr (fun t ht hW => ⟨⟨(-1), (mem, row, n), rfl, ⟨mb_at_f (u := (mem, row, n)) (fun h => h.1 c1), rfl⟩, by rw [ht]; exact hP, va_K.moved hW.alike hK, hD⟩, hS.F ht⟩) hS.2.2 d_Model_at_30
  · refine lv_iload_n hx hb d_Model_at_9 rfl (lv_at hl 1 rfl) ?_
    refine lv_sipush (v := nI 4096) hx hb d_Model_at_10 (by decide +kernel) ?_
    refine lv_icmp_lt (tgt := 20) hx hb d_Model_at_13 (by decide) (fun c2 => ?_) (fun c2 => ?_)
    · have z2 : p0.toNatClampNeg < 4096 := mb_12 c1 (by omega) c2
      refine lv_aload_n hx hb d_Model_at_20 rfl (lv_at hl 0 rfl) ?_
      refine va_get (D := (dC, dI)) (ci := 2) (v := .ref h1) (C := R_Model) (T := F_Model) (N := 4) hx hb hts i_Model_at_Model hown hK hP 0 rfl rfl 1 (by decide) (hts (.fieldLink R_Model 7 "MemoryBankModel" "memory" "[B") (by decide +kernel)) (fun _ h9 => h9) rfl d_Model_at_21 ?_
      refine lv_iload_n hx hb d_Model_at_24 rfl (lv_at hl 1 rfl) ?_
      refine mb_top (x := p0) (y := nI p0.toNatClampNeg) (mb_nat c1) ?_
      refine mb_bald (k := p0.toNatClampNeg) (n := 4096) (f := mem) hx hb hK hP 1 0 rfl rfl (by omega) (by decide) d_Model_at_25 ?_
      refine lv_sipush (v := nI 255) hx hb d_Model_at_26 (by decide +kernel) ?_
      refine lv_iand hx hb d_Model_at_29 ?_
      refine mb_top (x := (mem (p0.toNatClampNeg)) &&& (nI 255)) (y := nI (mb_by (mem p0.toNatClampNeg))) (mb_255 _) ?_
      exact W.iret (v := nI (mb_by (mem p0.toNatClampNeg))) hx hb hr (fun t ht hW => ⟨⟨nI (mb_by (mem p0.toNatClampNeg)), (mem, row, n), rfl, ⟨mb_at_t (u := (mem, row, n)) ⟨c1, z2⟩, rfl⟩, by rw [ht]; exact hP, va_K.moved hW.alike hK, hD⟩, hS.F ht⟩) hS.2.2 d_Model_at_30
    · refine lv_iconst (v := -1) hx hb d_Model_at_16 (by decide) ?_
      refine lv_goto (tgt := 30) hx hb d_Model_at_17 (by decide) ?_
      exact W.iret (v := (-1)) hx hb hr (fun t ht hW => ⟨⟨(-1), (mem, row, n), rfl, ⟨mb_at_f (u := (mem, row, n)) (fun h => mb_13 c1 (by omega) c2 h.2), rfl⟩, by rw [ht]; exact hP, va_K.moved hW.alike hK, hD⟩, hS.F ht⟩) hS.2.2 d_Model_at_30
set_option maxHeartbeats 4000000 in
set_option maxRecDepth 100000 in
/-- the loop of load: j bytes are copied -/
theorem lp_Model_load {p : Program} {l : Launch} {e : Env} {R : Room} {s : State} {m : MethodId} {args : Array Value} {below : List Frame} {meth : Method} {c : Code} {cells slots : Nat} {Q : State → Prop} {A : Nat → Prop} {H0 : Heap} {dC : Nat → ClassId} {dI : Nat → Nat → Nat} {h0 h1 h2 n : Nat} {kM kR : ClassId} {mem row : Nat → Int32} (hx : p.tables.exec = Jvm.exec) (hb : c.code = b_Model_load) (hts : ∀ w ∈ w_Model_load, w.before args s = true) (hown : s.vm.findClass R_Model = some m.cls) (hK : va_K (dC, dI) classes [(kM, .byte), (kR, .byte)] s) (hrow : sb_Fit row) {ik iq iN : Nat} (hk : ik + iN ≤ 512) (hq : iq + iN ≤ 4096) (kk : ∀ (H : Heap) (locs : List Loc) (ls : Array Slot), va_P (dC, dI) classes [(h0, .inr (2, [.int (nI 0), .ref h1, .ref h2, .int (nI n)])), (h1, .inl (kM, 4096, .inl (va_cpy row mem ik iq iN))), (h2, .inl (kR, 512, .inl row))] H → va_D A [(h0, .inr (2, [.int (nI 0), .ref h1, .ref h2, .int (nI n)])), (h1, .inl (kM, 4096, .inl (va_cpy row mem ik iq iN))), (h2, .inl (kR, 512, .inl row))] → va_S A H0 H locs → W p l e R s m args below meth c H locs cells slots Q (F0 m 68 ls [])) :
    ∀ (d j : Nat), j ≤ iN → iN < j + d → ∀ (H : Heap) (locs : List Loc) (ls : Array Slot), va_P (dC, dI) classes [(h0, .inr (2, [.int (nI 0), .ref h1, .ref h2, .int (nI n)])), (h1, .inl (kM, 4096, .inl (va_cpy row mem ik iq j))), (h2, .inl (kR, 512, .inl row))] H → va_D A [(h0, .inr (2, [.int (nI 0), .ref h1, .ref h2, .int (nI n)])), (h1, .inl (kM, 4096, .inl (va_cpy row mem ik iq j))), (h2, .inl (kR, 512, .inl row))] → va_S A H0 H locs → lv_has ls 5 [(0, .ref h0), (1, .int (nI ik)), (2, .int (nI iN)), (3, .int (nI iq)), (4, .int (nI j))] → W p l e R s m args below meth c H locs cells slots Q (F0 m 38 ls []) := by
  intro d
  induction d with
  | zero => intro j h1 h2; exact absurd h2 (by omega)
  | succ d ih =>
    intro j hj hd H locs ls hP hD hS hl
    refine lv_iload hx hb d_Model_load_38 (lv_at hl 4 rfl) ?_
    refine lv_iload_n hx hb d_Model_load_40 rfl (lv_at hl 2 rfl) ?_
    refine lv_icmp_ge (tgt := 68) hx hb d_Model_load_41 (by decide) (fun c1 => ?_) (fun c1 => ?_)
    · have hjq : j = iN := by have := (nI_leI (by omega) (by omega)).mp c1; omega
      subst hjq
      exact kk H locs ls hP hD hS
    · have hjq : j < iN := by have := mt (nI_leI (a := iN) (b := j) (by omega) (by omega)).mpr c1; omega
      refine lv_aload_n hx hb d_Model_load_44 rfl (lv_at hl 0 rfl) ?_
      refine va_get (D := (dC, dI)) (ci := 2) (v := .ref h1) (C := R_Model) (T := F_Model) (N := 4) hx hb hts i_Model_load_Model hown hK hP 0 rfl rfl 1 (by decide) (hts (.fieldLink R_Model 7 "MemoryBankModel" "memory" "[B") (by decide +kernel)) (fun _ h9 => h9) rfl d_Model_load_45 ?_
      refine lv_iload_n hx hb d_Model_load_48 rfl (lv_at hl 3 rfl) ?_
      refine lv_iload hx hb d_Model_load_49 (lv_at hl 4 rfl) ?_
      refine lv_iadd hx hb d_Model_load_51 ?_
      refine mb_top (x := (nI iq) + (nI j)) (y := nI (iq + j)) (nI_add _ _) ?_
      refine lv_aload_n hx hb d_Model_load_52 rfl (lv_at hl 0 rfl) ?_
      refine va_get (D := (dC, dI)) (ci := 2) (v := .ref h2) (C := R_Model) (T := F_Model) (N := 4) hx hb hts i_Model_load_Model hown hK hP 0 rfl rfl 2 (by decide) (hts (.fieldLink R_Model 13 "MemoryBankModel" "row" "[B") (by decide +kernel)) (fun _ h9 => h9) rfl d_Model_load_53 ?_
      refine lv_iload_n hx hb d_Model_load_56 rfl (lv_at hl 1 rfl) ?_
      refine lv_iload hx hb d_Model_load_57 (lv_at hl 4 rfl) ?_
      refine lv_iadd hx hb d_Model_load_59 ?_
      refine mb_top (x := (nI ik) + (nI j)) (y := nI (ik + j)) (nI_add _ _) ?_
      refine mb_bald (k := ik + j) (n := 512) (f := row) hx hb hK hP 2 1 rfl rfl (by omega) (by decide) d_Model_load_60 ?_
      refine mb_bast (k := iq + j) (n := 4096) (f := va_cpy row mem ik iq j) (y := row (ik + j)) (f2 := va_cpy row mem ik iq (j + 1)) hx hb hK hP hD hS 1 0 rfl rfl (by omega) (by decide) (mb_vb (hrow _)) (mb_cpy_s _ _ _ _ _) d_Model_load_61 (fun H locs hP hD hS => ?_)
      have hP : va_P (dC, dI) classes [(h0, .inr (2, [.int (nI 0), .ref h1, .ref h2, .int (nI n)])), (h1, .inl (kM, 4096, .inl (va_cpy row mem ik iq (j + 1)))), (h2, .inl (kR, 512, .inl row))] H := hP
      have hD : va_D A [(h0, .inr (2, [.int (nI 0), .ref h1, .ref h2, .int (nI n)])), (h1, .inl (kM, 4096, .inl (va_cpy row mem ik iq (j + 1)))), (h2, .inl (kR, 512, .inl row))] := hD
      refine lv_iinc (v := nI (j + 1)) (lv' := [(4, .int (nI (j + 1))), (0, .ref h0), (1, .int (nI ik)), (2, .int (nI iN)), (3, .int (nI iq))]) hx hb d_Model_load_62 hl (k := 4) rfl (nI_1 j) (by decide) rfl (fun ls hl => ?_)
      refine lv_goto (tgt := 38) hx hb d_Model_load_65 (by decide) ?_
      exact ih (j + 1) (by omega) (by omega) H locs ls hP hD hS (lv_sub hl [1, 2, 3, 4, 0] rfl)
set_option maxHeartbeats 4000000 in
set_option maxRecDepth 100000 in
/-- load(k, n, q) -/
theorem c_Model_load (l : Launch) (dC : Nat → ClassId) (dI : Nat → Nat → Nat) (sz : Nat) (h0 h1 h2 : Nat) (kM kR : ClassId) (u : mb_S) (hu : mb_ok u) (p0 p1 p2 : Int32) : Met l y_Model_load w_Model_load ({ frames := 1, cells := 0, slots := 0, locals := 22 }) (va_Pc [.ref h0, .int p0, .int p1, .int p2] (fun U => U.heap.size = sz ∧ va_P (dC, dI) classes (ws_Model h0 h1 h2 kM kR u) U.heap ∧ va_K (dC, dI) classes (ty_Model kM kR) U ∧ va_D (fun _ => True) (ws_Model h0 h1 h2 kM kR u))) (va_Qi (fun (r : Int32) (v : mb_S) => r = (mb_load p0 p1 p2 u).1 ∧ v = (mb_load p0 p1 p2 u).2) (at_Model dC dI (va_A (ws_Model h0 h1 h2 kM kR u) sz) h0 h1 h2 kM kR) (va_A (ws_Model h0 h1 h2 kM kR u) sz)) 0 0 (va_A (ws_Model h0 h1 h2 kM kR u) sz) := by
  obtain ⟨mem, row, n⟩ := u
  obtain ⟨hu1, hu2, hu3⟩ := hu
  have hu1 : sb_Fit mem := hu1
  have hu2 : sb_Fit row := hu2
  have hu3 : n ≤ 512 := hu3
  refine Met.ofW (cc := b_Model_load) (maxL := 5) (ret := (some .boolean)) (by decide) rfl ?_
  intro p e s m args below meth c s₁ B hml hv
  obtain ⟨rfl, hsz, hP, hK, hD0⟩ := hv
  have hx := B.exec
  have hb := B.bytes
  have hr := B.returns
  have hts := atoms_spec (ws := w_Model_load) B.pre
  have hown : s.vm.findClass R_Model = some m.cls := findClass_of_methodNamed B.named
  have hlocks := B.notSynchronized
  subst hsz
  have hD := hD0.self (sz := s.heap.size)
  generalize hAe : va_A (ws_Model h0 h1 h2 kM kR (mem, row, n)) s.heap.size = A at hD ⊢
  have hA : ∀ q : Nat, s.heap.size ≤ q → A q := fun q h => by rw [← hAe]; exact Or.inr h
  have hS : va_S A s.heap s.heap [] := va_S.rf
  have hP : va_P (dC, dI) classes [(h0, .inr (2, [.int (nI 0), .ref h1, .ref h2, .int (nI n)])), (h1, .inl (kM, 4096, .inl mem)), (h2, .inl (kR, 512, .inl row))] s.heap := hP
  have hD : va_D A [(h0, .inr (2, [.int (nI 0), .ref h1, .ref h2, .int (nI n)])), (h1, .inl (kM, 4096, .inl mem)), (h2, .inl (kR, 512, .inl row))] := hD
  have hK : va_K (dC, dI) classes [(kM, .byte), (kR, .byte)] s := hK
  have hl := lv_entry ([.ref h0, .int p0, .int p1, .int p2]) (n := 5) (Nat.le_of_ble_eq_true rfl)
  rw [lg_entry_eq]
  generalize (lg_sl ([.ref h0, .int p0, .int p1, .int p2]) ++ List.replicate (5 - (lg_sl ([.ref h0, .int p0, .int p1, .int p2])).length) Slot.unset).toArray = ls at hl ⊢
  have hl : lv_has ls 5 [(0, .ref h0), (1, .int p0), (2, .int p1), (3, .int p2)] := hl
  refine lv_aload_n hx hb d_Model_load_0 rfl (lv_at hl 0 rfl) ?_
  refine lv_iconst (v := nI 0) hx hb d_Model_load_1 (by decide) ?_
  refine va_put (D := (dC, dI)) (ci := 2) (v := .int (nI 0)) (ty := .int) (C := R_Model) (T := F_Model) (N := 4) hx hb hts i_Model_load_Model t_Model t_Model_ok n_Model hown hK hP hD hS 0 rfl rfl 0 (by decide) (hts (.fieldLink R_Model 16 "MemoryBankModel" "thrown" "I") (by decide +kernel)) (fun _ h9 => h9) rfl (by decide +kernel) rfl rfl (Nat.le_of_ble_eq_true rfl) d_Model_load_2 (fun H locs hP hD hS => ?_)
  have hP : va_P (dC, dI) classes [(h0, .inr (2, [.int (nI 0), .ref h1, .ref h2, .int (nI n)])), (h1, .inl (kM, 4096, .inl mem)), (h2, .inl (kR, 512, .inl row))] H := hP
  have hD : va_D A [(h0, .inr (2, [.int (nI 0), .ref h1, .ref h2, .int (nI n)])), (h1, .inl (kM, 4096, .inl mem)), (h2, .inl (kR, 512, .inl row))] := hD
  refine lv_iload_n hx hb d_Model_load_5 rfl (lv_at hl 2 rfl) ?_
  refine lv_iconst (v := nI 1) hx hb d_Model_load_6 (by decide) ?_
  refine lv_icmp_lt (tgt := 33) hx hb d_Model_load_7 (by decide) (fun c1 => ?_) (fun c1 => ?_)
  · refine lv_iconst (v := nI 0) hx hb d_Model_load_33 (by decide) ?_
    exact W.zret (v := nI 0) (ty := .boolean) hx hb hr (by decide) (fun t ht hW => ⟨⟨nI 0, (mem, row, n), rfl, (by rw [mb_load_f (u := (mem, row, n)) (fun h => h.1 c1)]; exact ⟨rfl, rfl⟩), by rw [ht]; exact hP, va_K.moved hW.alike hK, hD⟩, hS.F ht⟩) hS.2.2 d_Model_load_34
  · refine lv_iload_n hx hb d_Model_load_10 rfl (lv_at hl 1 rfl) ?_
    refine lv_iload_n hx hb d_Model_load_11 rfl (lv_at hl 2 rfl) ?_
    refine lv_aload_n hx hb d_Model_load_12 rfl (lv_at hl 0 rfl) ?_
    refine va_get (D := (dC, dI)) (ci := 2) (v := .int (nI n)) (C := R_Model) (T := F_Model) (N := 4) hx hb hts i_Model_load_Model hown hK hP 0 rfl rfl 3 (by decide) (hts (.fieldLink R_Model 21 "MemoryBankModel" "size" "I") (by decide +kernel)) (fun _ h9 => h9) rfl d_Model_load_13 ?_
    have hFc := mb_free hS hA
    refine va_calli (va_runS (As := [.int p0, .int p1, .int (nI n)]) (rest := []) ⟨hx, hb, hml, hown, hts⟩ (c_Model_in l H.size p0 p1 n (by omega)) (cwS 3 hts g_Model_load_Model_in rfl rfl rfl (by decide +kernel) ⟨Nat.le_of_ble_eq_true rfl, Nat.le_of_ble_eq_true rfl⟩) ⟨fun a U g mk q => q, fun U hU hW => ⟨rfl, congrArg Array.size hU⟩⟩ rfl rfl hl.1 rfl (lv_room (Nat.le_of_ble_eq_true rfl)) d_Model_load_16 ⟨Nat.zero_le _, Nat.zero_le _⟩) hS (fun q _ h => hFc q h) hFc (fun r1 u9 t9 H locs ht9 hvm9 hw hB9 hz9 hk9 hS => ?_)
    have hP := mb_keep hP hk9
    refine lv_if_eq (tgt := 33) hx hb d_Model_load_19 (by decide) (fun c2 => ?_) (fun c2 => ?_)
    · have z1 := mb_no hw c2
      refine lv_iconst (v := nI 0) hx hb d_Model_load_33 (by decide) ?_
      exact W.zret (v := nI 0) (ty := .boolean) hx hb hr (by decide) (fun t ht hW => ⟨⟨nI 0, (mem, row, n), rfl, (by rw [mb_load_f (u := (mem, row, n)) (fun h => z1 h.2.1)]; exact ⟨rfl, rfl⟩), by rw [ht]; exact hP, va_K.moved hW.alike hK, hD⟩, hS.F ht⟩) hS.2.2 d_Model_load_34
    · have z1 := mb_yes hw c2
      refine lv_iload_n hx hb d_Model_load_22 rfl (lv_at hl 3 rfl) ?_
      refine lv_iload_n hx hb d_Model_load_23 rfl (lv_at hl 2 rfl) ?_
      refine lv_sipush (v := nI 4096) hx hb d_Model_load_24 (by decide +kernel) ?_
      have hFc := mb_free hS hA
      refine va_calli (va_runS (As := [.int p2, .int p1, .int (nI 4096)]) (rest := []) ⟨hx, hb, hml, hown, hts⟩ (c_Model_in l H.size p2 p1 4096 (by decide)) (cwS 3 hts g_Model_load_Model_in rfl rfl rfl (by decide +kernel) ⟨Nat.le_of_ble_eq_true rfl, Nat.le_of_ble_eq_true rfl⟩) ⟨fun a U g mk q => q, fun U hU hW => ⟨rfl, congrArg Array.size hU⟩⟩ rfl rfl hl.1 rfl (lv_room (Nat.le_of_ble_eq_true rfl)) d_Model_load_27 ⟨Nat.zero_le _, Nat.zero_le _⟩) hS (fun q _ h => hFc q h) hFc (fun r2 u9 t9 H locs ht9 hvm9 hw hB9 hz9 hk9 hS => ?_)
      have hP := mb_keep hP hk9
      refine lv_if_ne (tgt := 35) hx hb d_Model_load_30 (by decide) (fun c3 => ?_) (fun c3 => ?_)
      · have z2 := mb_yes hw c3
        refine lv_iconst (v := nI 0) hx hb d_Model_load_35 (by decide) ?_
        refine lv_istore (lv' := [(4, .int (nI 0)), (0, .ref h0), (1, .int p0), (2, .int p1), (3, .int p2)]) hx hb d_Model_load_36 hl (by decide) rfl (fun ls hl => ?_)
        have e0 := mb_nat z1.1
        have e1 := mb_nat z1.2.1
        have e2 := mb_nat z2.1
        have hl : lv_has ls 5 [(0, .ref h0), (1, .int (nI p0.toNatClampNeg)), (2, .int (nI p1.toNatClampNeg)), (3, .int (nI p2.toNatClampNeg)), (4, .int (nI 0))] := by
          rw [← e0, ← e1, ← e2]
          exact lv_sub hl [1, 2, 3, 4, 0] rfl
        refine lp_Model_load (ik := p0.toNatClampNeg) (iq := p2.toNatClampNeg) (iN := p1.toNatClampNeg) (mem := mem) hx hb hts hown hK hu2 (by have := z1.2.2; omega) z2.2.2 (fun H locs ls hP hD hS => ?_) (p1.toNatClampNeg + 1) 0 (Nat.zero_le _) (by omega) H locs ls (by rw [mb_cpy_0]; exact hP) (by rw [mb_cpy_0]; exact hD) hS hl
        refine lv_iconst (v := nI 1) hx hb d_Model_load_68 (by decide) ?_
        exact W.zret (v := nI 1) (ty := .boolean) hx hb hr (by decide) (fun t ht hW => ⟨⟨nI 1, (va_cpy row mem p0.toNatClampNeg p2.toNatClampNeg p1.toNatClampNeg, row, n), rfl, (by rw [mb_load_t (u := (mem, row, n)) ⟨c1, z1, z2⟩]; exact ⟨rfl, rfl⟩), by rw [ht]; exact hP, va_K.moved hW.alike hK, hD⟩, hS.F ht⟩) hS.2.2 d_Model_load_69
      · have z2 := mb_no hw c3
        refine lv_iconst (v := nI 0) hx hb d_Model_load_33 (by decide) ?_
        exact W.zret (v := nI 0) (ty := .boolean) hx hb hr (by decide) (fun t ht hW => ⟨⟨nI 0, (mem, row, n), rfl, (by rw [mb_load_f (u := (mem, row, n)) (fun h => z2 h.2.2)]; exact ⟨rfl, rfl⟩), by rw [ht]; exact hP, va_K.moved hW.alike hK, hD⟩, hS.F ht⟩) hS.2.2 d_Model_load_34
set_option maxHeartbeats 4000000 in
set_option maxRecDepth 100000 in
/-- the loop of dump: j bytes are put -/
theorem lp_Model_dump {p : Program} {l : Launch} {e : Env} {R : Room} {s : State} {m : MethodId} {args : Array Value} {below : List Frame} {meth : Method} {c : Code} {cells slots : Nat} {Q : State → Prop} {A : Nat → Prop} {H0 : Heap} {dC : Nat → ClassId} {dI : Nat → Nat → Nat} {h0 h1 h2 n : Nat} {kM kR : ClassId} {mem row : Nat → Int32} (hx : p.tables.exec = Jvm.exec) (hb : c.code = b_Model_dump) (hts : ∀ w ∈ w_Model_dump, w.before args s = true) (hown : s.vm.findClass R_Model = some m.cls) (hK : va_K (dC, dI) classes [(kM, .byte), (kR, .byte)] s) (hmem : sb_Fit mem) {iq iN : Nat} (hk : n + iN ≤ 512) (hq : iq + iN ≤ 4096) (kk : ∀ (H : Heap) (locs : List Loc) (ls : Array Slot), va_P (dC, dI) classes [(h0, .inr (2, [.int (nI 0), .ref h1, .ref h2, .int (nI (n + iN))])), (h1, .inl (kM, 4096, .inl mem)), (h2, .inl (kR, 512, .inl (va_cpy mem row iq n iN)))] H → va_D A [(h0, .inr (2, [.int (nI 0), .ref h1, .ref h2, .int (nI (n + iN))])), (h1, .inl (kM, 4096, .inl mem)), (h2, .inl (kR, 512, .inl (va_cpy mem row iq n iN)))] → va_S A H0 H locs → W p l e R s m args below meth c H locs cells slots Q (F0 m 77 ls [])) :
    ∀ (d j : Nat), j ≤ iN → iN < j + d → ∀ (H : Heap) (locs : List Loc) (ls : Array Slot), va_P (dC, dI) classes [(h0, .inr (2, [.int (nI 0), .ref h1, .ref h2, .int (nI (n + j))])), (h1, .inl (kM, 4096, .inl mem)), (h2, .inl (kR, 512, .inl (va_cpy mem row iq n j)))] H → va_D A [(h0, .inr (2, [.int (nI 0), .ref h1, .ref h2, .int (nI (n + j))])), (h1, .inl (kM, 4096, .inl mem)), (h2, .inl (kR, 512, .inl (va_cpy mem row iq n j)))] → va_S A H0 H locs → lv_has ls 4 [(0, .ref h0), (1, .int (nI iq)), (2, .int (nI iN)), (3, .int (nI j))] → W p l e R s m args below meth c H locs cells slots Q (F0 m 39 ls []) := by
  intro d
  induction d with
  | zero => intro j h1 h2; exact absurd h2 (by omega)
  | succ d ih =>
    intro j hj hd H locs ls hP hD hS hl
    refine lv_iload_n hx hb d_Model_dump_39 rfl (lv_at hl 3 rfl) ?_
    refine lv_iload_n hx hb d_Model_dump_40 rfl (lv_at hl 2 rfl) ?_
    refine lv_icmp_ge (tgt := 77) hx hb d_Model_dump_41 (by decide) (fun c1 => ?_) (fun c1 => ?_)
    · have hjq : j = iN := by have := (nI_leI (by omega) (by omega)).mp c1; omega
      subst hjq
      exact kk H locs ls hP hD hS
    · have hjq : j < iN := by have := mt (nI_leI (a := iN) (b := j) (by omega) (by omega)).mpr c1; omega
      refine lv_aload_n hx hb d_Model_dump_44 rfl (lv_at hl 0 rfl) ?_
      refine va_get (D := (dC, dI)) (ci := 2) (v := .ref h2) (C := R_Model) (T := F_Model) (N := 4) hx hb hts i_Model_dump_Model hown hK hP 0 rfl rfl 2 (by decide) (hts (.fieldLink R_Model 13 "MemoryBankModel" "row" "[B") (by decide +kernel)) (fun _ h9 => h9) rfl d_Model_dump_45 ?_
      refine lv_aload_n hx hb d_Model_dump_48 rfl (lv_at hl 0 rfl) ?_
      refine va_get (D := (dC, dI)) (ci := 2) (v := .int (nI (n + j))) (C := R_Model) (T := F_Model) (N := 4) hx hb hts i_Model_dump_Model hown hK hP 0 rfl rfl 3 (by decide) (hts (.fieldLink R_Model 21 "MemoryBankModel" "size" "I") (by decide +kernel)) (fun _ h9 => h9) rfl d_Model_dump_49 ?_
      refine lv_aload_n hx hb d_Model_dump_52 rfl (lv_at hl 0 rfl) ?_
      refine va_get (D := (dC, dI)) (ci := 2) (v := .ref h1) (C := R_Model) (T := F_Model) (N := 4) hx hb hts i_Model_dump_Model hown hK hP 0 rfl rfl 1 (by decide) (hts (.fieldLink R_Model 7 "MemoryBankModel" "memory" "[B") (by decide +kernel)) (fun _ h9 => h9) rfl d_Model_dump_53 ?_
      refine lv_iload_n hx hb d_Model_dump_56 rfl (lv_at hl 1 rfl) ?_
      refine lv_iload_n hx hb d_Model_dump_57 rfl (lv_at hl 3 rfl) ?_
      refine lv_iadd hx hb d_Model_dump_58 ?_
      refine mb_top (x := (nI iq) + (nI j)) (y := nI (iq + j)) (nI_add _ _) ?_
      refine mb_bald (k := iq + j) (n := 4096) (f := mem) hx hb hK hP 1 0 rfl rfl (by omega) (by decide) d_Model_dump_59 ?_
      refine mb_bast (k := n + j) (n := 512) (f := va_cpy mem row iq n j) (y := mem (iq + j)) (f2 := va_cpy mem row iq n (j + 1)) hx hb hK hP hD hS 2 1 rfl rfl (by omega) (by decide) (mb_vb (hmem _)) (mb_cpy_s _ _ _ _ _) d_Model_dump_60 (fun H locs hP hD hS => ?_)
      have hP : va_P (dC, dI) classes [(h0, .inr (2, [.int (nI 0), .ref h1, .ref h2, .int (nI (n + j))])), (h1, .inl (kM, 4096, .inl mem)), (h2, .inl (kR, 512, .inl (va_cpy mem row iq n (j + 1))))] H := hP
      have hD : va_D A [(h0, .inr (2, [.int (nI 0), .ref h1, .ref h2, .int (nI (n + j))])), (h1, .inl (kM, 4096, .inl mem)), (h2, .inl (kR, 512, .inl (va_cpy mem row iq n (j + 1))))] := hD
      refine lv_aload_n hx hb d_Model_dump_61 rfl (lv_at hl 0 rfl) ?_
      refine lv_dup hx hb d_Model_dump_62 rfl ?_
      refine va_get (D := (dC, dI)) (ci := 2) (v := .int (nI (n + j))) (C := R_Model) (T := F_Model) (N := 4) hx hb hts i_Model_dump_Model hown hK hP 0 rfl rfl 3 (by decide) (hts (.fieldLink R_Model 21 "MemoryBankModel" "size" "I") (by decide +kernel)) (fun _ h9 => h9) rfl d_Model_dump_63 ?_
      refine lv_iconst (v := nI 1) hx hb d_Model_dump_66 (by decide) ?_
      refine lv_iadd hx hb d_Model_dump_67 ?_
      refine mb_top (x := (nI (n + j)) + (nI 1)) (y := nI (n + (j + 1))) (nI_1 (n + j)) ?_
      refine va_put (D := (dC, dI)) (ci := 2) (v := .int (nI (n + (j + 1)))) (ty := .int) (C := R_Model) (T := F_Model) (N := 4) hx hb hts i_Model_dump_Model t_Model t_Model_ok n_Model hown hK hP hD hS 0 rfl rfl 3 (by decide) (hts (.fieldLink R_Model 21 "MemoryBankModel" "size" "I") (by decide +kernel)) (fun _ h9 => h9) rfl (by decide +kernel) rfl rfl (Nat.le_of_ble_eq_true rfl) d_Model_dump_68 (fun H locs hP hD hS => ?_)
      have hP : va_P (dC, dI) classes [(h0, .inr (2, [.int (nI 0), .ref h1, .ref h2, .int (nI (n + (j + 1)))])), (h1, .inl (kM, 4096, .inl mem)), (h2, .inl (kR, 512, .inl (va_cpy mem row iq n (j + 1))))] H := hP
      have hD : va_D A [(h0, .inr (2, [.int (nI 0), .ref h1, .ref h2, .int (nI (n + (j + 1)))])), (h1, .inl (kM, 4096, .inl mem)), (h2, .inl (kR, 512, .inl (va_cpy mem row iq n (j + 1))))] := hD
      refine lv_iinc (v := nI (j + 1)) (lv' := [(3, .int (nI (j + 1))), (0, .ref h0), (1, .int (nI iq)), (2, .int (nI iN))]) hx hb d_Model_dump_71 hl (k := 3) rfl (nI_1 j) (by decide) rfl (fun ls hl => ?_)
      refine lv_goto (tgt := 39) hx hb d_Model_dump_74 (by decide) ?_
      exact ih (j + 1) (by omega) (by omega) H locs ls hP hD hS (lv_sub hl [1, 2, 3, 0] rfl)
set_option maxHeartbeats 4000000 in
set_option maxRecDepth 100000 in
/-- dump(q, n) -/
theorem c_Model_dump (l : Launch) (dC : Nat → ClassId) (dI : Nat → Nat → Nat) (sz : Nat) (h0 h1 h2 : Nat) (kM kR : ClassId) (u : mb_S) (hu : mb_ok u) (p0 p1 : Int32) : Met l y_Model_dump w_Model_dump ({ frames := 1, cells := 0, slots := 0, locals := 22 }) (va_Pc [.ref h0, .int p0, .int p1] (fun U => U.heap.size = sz ∧ va_P (dC, dI) classes (ws_Model h0 h1 h2 kM kR u) U.heap ∧ va_K (dC, dI) classes (ty_Model kM kR) U ∧ va_D (fun _ => True) (ws_Model h0 h1 h2 kM kR u))) (va_Qi (fun (r : Int32) (v : mb_S) => r = (mb_dump p0 p1 u).1 ∧ v = (mb_dump p0 p1 u).2) (at_Model dC dI (va_A (ws_Model h0 h1 h2 kM kR u) sz) h0 h1 h2 kM kR) (va_A (ws_Model h0 h1 h2 kM kR u) sz)) 0 0 (va_A (ws_Model h0 h1 h2 kM kR u) sz) := by
  obtain ⟨mem, row, n⟩ := u
  obtain ⟨hu1, hu2, hu3⟩ := hu
  have hu1 : sb_Fit mem := hu1
  have hu2 : sb_Fit row := hu2
  have hu3 : n ≤ 512 := hu3
  refine Met.ofW (cc := b_Model_dump) (maxL := 4) (ret := (some .boolean)) (by decide) rfl ?_
  intro p e s m args below meth c s₁ B hml hv
  obtain ⟨rfl, hsz, hP, hK, hD0⟩ := hv
  have hx := B.exec
  have hb := B.bytes
  have hr := B.returns
  have hts := atoms_spec (ws := w_Model_dump) B.pre
  have hown : s.vm.findClass R_Model = some m.cls := findClass_of_methodNamed B.named
  have hlocks := B.notSynchronized
  subst hsz
  have hD := hD0.self (sz := s.heap.size)
  generalize hAe : va_A (ws_Model h0 h1 h2 kM kR (mem, row, n)) s.heap.size = A at hD ⊢
  have hA : ∀ q : Nat, s.heap.size ≤ q → A q := fun q h => by rw [← hAe]; exact Or.inr h
  have hS : va_S A s.heap s.heap [] := va_S.rf
  have hP : va_P (dC, dI) classes [(h0, .inr (2, [.int (nI 0), .ref h1, .ref h2, .int (nI n)])), (h1, .inl (kM, 4096, .inl mem)), (h2, .inl (kR, 512, .inl row))] s.heap := hP
  have hD : va_D A [(h0, .inr (2, [.int (nI 0), .ref h1, .ref h2, .int (nI n)])), (h1, .inl (kM, 4096, .inl mem)), (h2, .inl (kR, 512, .inl row))] := hD
  have hK : va_K (dC, dI) classes [(kM, .byte), (kR, .byte)] s := hK
  have hl := lv_entry ([.ref h0, .int p0, .int p1]) (n := 4) (Nat.le_of_ble_eq_true rfl)
  rw [lg_entry_eq]
  generalize (lg_sl ([.ref h0, .int p0, .int p1]) ++ List.replicate (4 - (lg_sl ([.ref h0, .int p0, .int p1])).length) Slot.unset).toArray = ls at hl ⊢
  have hl : lv_has ls 4 [(0, .ref h0), (1, .int p0), (2, .int p1)] := hl
  refine lv_aload_n hx hb d_Model_dump_0 rfl (lv_at hl 0 rfl) ?_
  refine lv_iconst (v := nI 0) hx hb d_Model_dump_1 (by decide) ?_
  refine va_put (D := (dC, dI)) (ci := 2) (v := .int (nI 0)) (ty := .int) (C := R_Model) (T := F_Model) (N := 4) hx hb hts i_Model_dump_Model t_Model t_Model_ok n_Model hown hK hP hD hS 0 rfl rfl 0 (by decide) (hts (.fieldLink R_Model 16 "MemoryBankModel" "thrown" "I") (by decide +kernel)) (fun _ h9 => h9) rfl (by decide +kernel) rfl rfl (Nat.le_of_ble_eq_true rfl) d_Model_dump_2 (fun H locs hP hD hS => ?_)
  have hP : va_P (dC, dI) classes [(h0, .inr (2, [.int (nI 0), .ref h1, .ref h2, .int (nI n)])), (h1, .inl (kM, 4096, .inl mem)), (h2, .inl (kR, 512, .inl row))] H := hP
  have hD : va_D A [(h0, .inr (2, [.int (nI 0), .ref h1, .ref h2, .int (nI n)])), (h1, .inl (kM, 4096, .inl mem)), (h2, .inl (kR, 512, .inl row))] := hD
  refine lv_iload_n hx hb d_Model_dump_5 rfl (lv_at hl 2 rfl) ?_
  refine lv_iconst (v := nI 1) hx hb d_Model_dump_6 (by decide) ?_
  refine lv_icmp_lt (tgt := 35) hx hb d_Model_dump_7 (by decide) (fun c1 => ?_) (fun c1 => ?_)
  · refine lv_iconst (v := nI 0) hx hb d_Model_dump_35 (by decide) ?_
    exact W.zret (v := nI 0) (ty := .boolean) hx hb hr (by decide) (fun t ht hW => ⟨⟨nI 0, (mem, row, n), rfl, (by rw [mb_dump_f (u := (mem, row, n)) (fun h => h.1 c1)]; exact ⟨rfl, rfl⟩), by rw [ht]; exact hP, va_K.moved hW.alike hK, hD⟩, hS.F ht⟩) hS.2.2 d_Model_dump_36
  · refine lv_iload_n hx hb d_Model_dump_10 rfl (lv_at hl 1 rfl) ?_
    refine lv_iload_n hx hb d_Model_dump_11 rfl (lv_at hl 2 rfl) ?_
    refine lv_sipush (v := nI 4096) hx hb d_Model_dump_12 (by decide +kernel) ?_
    have hFc := mb_free hS hA
    refine va_calli (va_runS (As := [.int p0, .int p1, .int (nI 4096)]) (rest := []) ⟨hx, hb, hml, hown, hts⟩ (c_Model_in l H.size p0 p1 4096 (by decide)) (cwS 3 hts g_Model_dump_Model_in rfl rfl rfl (by decide +kernel) ⟨Nat.le_of_ble_eq_true rfl, Nat.le_of_ble_eq_true rfl⟩) ⟨fun a U g mk q => q, fun U hU hW => ⟨rfl, congrArg Array.size hU⟩⟩ rfl rfl hl.1 rfl (lv_room (Nat.le_of_ble_eq_true rfl)) d_Model_dump_15 ⟨Nat.zero_le _, Nat.zero_le _⟩) hS (fun q _ h => hFc q h) hFc (fun r1 u9 t9 H locs ht9 hvm9 hw hB9 hz9 hk9 hS => ?_)
    have hP := mb_keep hP hk9
    refine lv_if_eq (tgt := 35) hx hb d_Model_dump_18 (by decide) (fun c2 => ?_) (fun c2 => ?_)
    · have z1 := mb_no hw c2
      refine lv_iconst (v := nI 0) hx hb d_Model_dump_35 (by decide) ?_
      exact W.zret (v := nI 0) (ty := .boolean) hx hb hr (by decide) (fun t ht hW => ⟨⟨nI 0, (mem, row, n), rfl, (by rw [mb_dump_f (u := (mem, row, n)) (fun h => z1 h.2.1)]; exact ⟨rfl, rfl⟩), by rw [ht]; exact hP, va_K.moved hW.alike hK, hD⟩, hS.F ht⟩) hS.2.2 d_Model_dump_36
    · have z1 := mb_yes hw c2
      have hcl : (nI n).toNatClampNeg = n := nI_clamp (by omega)
      refine lv_aload_n hx hb d_Model_dump_21 rfl (lv_at hl 0 rfl) ?_
      refine va_get (D := (dC, dI)) (ci := 2) (v := .int (nI n)) (C := R_Model) (T := F_Model) (N := 4) hx hb hts i_Model_dump_Model hown hK hP 0 rfl rfl 3 (by decide) (hts (.fieldLink R_Model 21 "MemoryBankModel" "size" "I") (by decide +kernel)) (fun _ h9 => h9) rfl d_Model_dump_22 ?_
      refine lv_iload_n hx hb d_Model_dump_25 rfl (lv_at hl 2 rfl) ?_
      refine lv_sipush (v := nI 512) hx hb d_Model_dump_26 (by decide +kernel) ?_
      have hFc := mb_free hS hA
      refine va_calli (va_runS (As := [.int (nI n), .int p1, .int (nI 512)]) (rest := []) ⟨hx, hb, hml, hown, hts⟩ (c_Model_in l H.size (nI n) p1 512 (by decide)) (cwS 3 hts g_Model_dump_Model_in rfl rfl rfl (by decide +kernel) ⟨Nat.le_of_ble_eq_true rfl, Nat.le_of_ble_eq_true rfl⟩) ⟨fun a U g mk q => q, fun U hU hW => ⟨rfl, congrArg Array.size hU⟩⟩ rfl rfl hl.1 rfl (lv_room (Nat.le_of_ble_eq_true rfl)) d_Model_dump_29 ⟨Nat.zero_le _, Nat.zero_le _⟩) hS (fun q _ h => hFc q h) hFc (fun r2 u9 t9 H locs ht9 hvm9 hw hB9 hz9 hk9 hS => ?_)
      have hP := mb_keep hP hk9
      refine lv_if_ne (tgt := 37) hx hb d_Model_dump_32 (by decide) (fun c3 => ?_) (fun c3 => ?_)
      · have z2 := (mb_yes hw c3).2.2
        rw [hcl] at z2
        refine lv_iconst (v := nI 0) hx hb d_Model_dump_37 (by decide) ?_
        refine lv_istore_n (lv' := [(3, .int (nI 0)), (0, .ref h0), (1, .int p0), (2, .int p1)]) hx hb d_Model_dump_38 rfl hl (by decide) rfl (fun ls hl => ?_)
        have e0 := mb_nat z1.1
        have e1 := mb_nat z1.2.1
        have hl : lv_has ls 4 [(0, .ref h0), (1, .int (nI p0.toNatClampNeg)), (2, .int (nI p1.toNatClampNeg)), (3, .int (nI 0))] := by
          rw [← e0, ← e1]
          exact lv_sub hl [1, 2, 3, 0] rfl
        refine lp_Model_dump (iq := p0.toNatClampNeg) (iN := p1.toNatClampNeg) (mem := mem) (row := row) (n := n) hx hb hts hown hK hu1 z2 z1.2.2 (fun H locs ls hP hD hS => ?_) (p1.toNatClampNeg + 1) 0 (Nat.zero_le _) (by omega) H locs ls (by rw [mb_cpy_0]; exact hP) (by rw [mb_cpy_0]; exact hD) hS hl
        refine lv_iconst (v := nI 1) hx hb d_Model_dump_77 (by decide) ?_
        exact W.zret (v := nI 1) (ty := .boolean) hx hb hr (by decide) (fun t ht hW => ⟨⟨nI 1, (mem, va_cpy mem row p0.toNatClampNeg n p1.toNatClampNeg, n + p1.toNatClampNeg), rfl, (by rw [mb_dump_t (u := (mem, row, n)) ⟨c1, z1, z2⟩]; exact ⟨rfl, rfl⟩), by rw [ht]; exact hP, va_K.moved hW.alike hK, hD⟩, hS.F ht⟩) hS.2.2 d_Model_dump_78
      · have z2 := mb_no hw c3
        refine lv_iconst (v := nI 0) hx hb d_Model_dump_35 (by decide) ?_
        exact W.zret (v := nI 0) (ty := .boolean) hx hb hr (by decide) (fun t ht hW => ⟨⟨nI 0, (mem, row, n), rfl, (by rw [mb_dump_f (u := (mem, row, n)) (fun h => z2 ⟨nI_pos (by omega), z1.2.1, by rw [hcl]; exact h.2.2⟩)]; exact ⟨rfl, rfl⟩), by rw [ht]; exact hP, va_K.moved hW.alike hK, hD⟩, hS.F ht⟩) hS.2.2 d_Model_dump_36
set_option maxHeartbeats 4000000 in
set_option maxRecDepth 100000 in
/-- check(q, n) -/
theorem c_Model_check (l : Launch) (dC : Nat → ClassId) (dI : Nat → Nat → Nat) (sz : Nat) (h0 h1 h2 : Nat) (kM kR : ClassId) (u : mb_S) (hu : mb_ok u) (p0 p1 : Int32) : Met l y_Model_check w_Model_check ({ frames := 1, cells := 0, slots := 0, locals := 26 }) (va_Pc [.ref h0, .int p0, .int p1] (fun U => U.heap.size = sz ∧ va_P (dC, dI) classes (ws_Model h0 h1 h2 kM kR u) U.heap ∧ va_K (dC, dI) classes (ty_Model kM kR) U ∧ va_D (fun _ => True) (ws_Model h0 h1 h2 kM kR u))) (va_Qi (fun (r : Int32) (v : mb_S) => r = mb_check p0 p1 u ∧ v = u) (at_Model dC dI (va_A (ws_Model h0 h1 h2 kM kR u) sz) h0 h1 h2 kM kR) (va_A (ws_Model h0 h1 h2 kM kR u) sz)) 0 0 (va_A (ws_Model h0 h1 h2 kM kR u) sz) := by
  obtain ⟨mem, row, n⟩ := u
  obtain ⟨hu1, hu2, hu3⟩ := hu
  have hu1 : sb_Fit mem := hu1
  have hu2 : sb_Fit row := hu2
  have hu3 : n ≤ 512 := hu3
  refine Met.ofW (cc := b_Model_check) (maxL := 3) (ret := (some .int)) (by decide) rfl ?_
  intro p e s m args below meth c s₁ B hml hv
  obtain ⟨rfl, hsz, hP, hK, hD0⟩ := hv
  have hx := B.exec
  have hb := B.bytes
  have hr := B.returns
  have hts := atoms_spec (ws := w_Model_check) B.pre
  have hown : s.vm.findClass R_Model = some m.cls := findClass_of_methodNamed B.named
  have hlocks := B.notSynchronized
  subst hsz
  have hD := hD0.self (sz := s.heap.size)
  generalize hAe : va_A (ws_Model h0 h1 h2 kM kR (mem, row, n)) s.heap.size = A at hD ⊢
  have hA : ∀ q : Nat, s.heap.size ≤ q → A q := fun q h => by rw [← hAe]; exact Or.inr h
  have hS : va_S A s.heap s.heap [] := va_S.rf
  have hP : va_P (dC, dI) classes [(h0, .inr (2, [.int (nI 0), .ref h1, .ref h2, .int (nI n)])), (h1, .inl (kM, 4096, .inl mem)), (h2, .inl (kR, 512, .inl row))] s.heap := hP
  have hD : va_D A [(h0, .inr (2, [.int (nI 0), .ref h1, .ref h2, .int (nI n)])), (h1, .inl (kM, 4096, .inl mem)), (h2, .inl (kR, 512, .inl row))] := hD
  have hK : va_K (dC, dI) classes [(kM, .byte), (kR, .byte)] s := hK
  have hl := lv_entry ([.ref h0, .int p0, .int p1]) (n := 3) (Nat.le_of_ble_eq_true rfl)
  rw [lg_entry_eq]
  generalize (lg_sl ([.ref h0, .int p0, .int p1]) ++ List.replicate (3 - (lg_sl ([.ref h0, .int p0, .int p1])).length) Slot.unset).toArray = ls at hl ⊢
  have hl : lv_has ls 3 [(0, .ref h0), (1, .int p0), (2, .int p1)] := hl
  refine lv_aload_n hx hb d_Model_check_0 rfl (lv_at hl 0 rfl) ?_
  refine lv_iconst (v := nI 0) hx hb d_Model_check_1 (by decide) ?_
  refine va_put (D := (dC, dI)) (ci := 2) (v := .int (nI 0)) (ty := .int) (C := R_Model) (T := F_Model) (N := 4) hx hb hts i_Model_check_Model t_Model t_Model_ok n_Model hown hK hP hD hS 0 rfl rfl 0 (by decide) (hts (.fieldLink R_Model 16 "MemoryBankModel" "thrown" "I") (by decide +kernel)) (fun _ h9 => h9) rfl (by decide +kernel) rfl rfl (Nat.le_of_ble_eq_true rfl) d_Model_check_2 (fun H locs hP hD hS => ?_)
  have hP : va_P (dC, dI) classes [(h0, .inr (2, [.int (nI 0), .ref h1, .ref h2, .int (nI n)])), (h1, .inl (kM, 4096, .inl mem)), (h2, .inl (kR, 512, .inl row))] H := hP
  have hD : va_D A [(h0, .inr (2, [.int (nI 0), .ref h1, .ref h2, .int (nI n)])), (h1, .inl (kM, 4096, .inl mem)), (h2, .inl (kR, 512, .inl row))] := hD
  refine lv_iload_n hx hb d_Model_check_5 rfl (lv_at hl 1 rfl) ?_
  refine lv_iload_n hx hb d_Model_check_6 rfl (lv_at hl 2 rfl) ?_
  refine lv_sipush (v := nI 4096) hx hb d_Model_check_7 (by decide +kernel) ?_
  have hFc := mb_free hS hA
  refine va_calli (va_runS (As := [.int p0, .int p1, .int (nI 4096)]) (rest := []) ⟨hx, hb, hml, hown, hts⟩ (c_Model_in l H.size p0 p1 4096 (by decide)) (cwS 3 hts g_Model_check_Model_in rfl rfl rfl (by decide +kernel) ⟨Nat.le_of_ble_eq_true rfl, Nat.le_of_ble_eq_true rfl⟩) ⟨fun a U g mk q => q, fun U hU hW => ⟨rfl, congrArg Array.size hU⟩⟩ rfl rfl hl.1 rfl (lv_room (Nat.le_of_ble_eq_true rfl)) d_Model_check_10 ⟨Nat.zero_le _, Nat.zero_le _⟩) hS (fun q _ h => hFc q h) hFc (fun r1 u9 t9 H locs ht9 hvm9 hw hB9 hz9 hk9 hS => ?_)
  have hP := mb_keep hP hk9
  refine lv_if_eq (tgt := 28) hx hb d_Model_check_13 (by decide) (fun c1 => ?_) (fun c1 => ?_)
  · have z1 := mb_no hw c1
    refine lv_iconst (v := -1) hx hb d_Model_check_28 (by decide) ?_
    exact W.iret (v := (-1)) hx hb hr (fun t ht hW => ⟨⟨(-1), (mem, row, n), rfl, ⟨mb_check_f (u := (mem, row, n)) z1, rfl⟩, by rw [ht]; exact hP, va_K.moved hW.alike hK, hD⟩, hS.F ht⟩) hS.2.2 d_Model_check_29
  · have z1 := mb_yes hw c1
    refine lv_aload_n hx hb d_Model_check_16 rfl (lv_at hl 0 rfl) ?_
    refine va_get (D := (dC, dI)) (ci := 2) (v := .ref h1) (C := R_Model) (T := F_Model) (N := 4) hx hb hts i_Model_check_Model hown hK hP 0 rfl rfl 1 (by decide) (hts (.fieldLink R_Model 7 "MemoryBankModel" "memory" "[B") (by decide +kernel)) (fun _ h9 => h9) rfl d_Model_check_17 ?_
    refine lv_iload_n hx hb d_Model_check_20 rfl (lv_at hl 1 rfl) ?_
    refine lv_iload_n hx hb d_Model_check_21 rfl (lv_at hl 2 rfl) ?_
    have hFc := mb_free hS hA
    have hPc := hP.sub (ws' := [(h1, .inl (kM, 4096, .inl mem))]) [1] rfl
    have hKc := hK.sub (tys' := [(kM, .byte)]) [0] rfl
    refine va_calli (va_runS (As := [.ref h1, .int p0, .int p1]) (rest := []) ⟨hx, hb, hml, hown, hts⟩ (c_Model_checkOf l dC dI H.size h1 kM mem 4096 (by decide) p0 p1 (z1)) (cwS 3 hts g_Model_check_Model_checkOf rfl rfl rfl (by decide +kernel) ⟨Nat.le_of_ble_eq_true rfl, Nat.le_of_ble_eq_true rfl⟩) ⟨fun a U g mk q => by obtain ⟨q0, q1, qP, qK⟩ := q; exact ⟨q0, q1, qP, va_K.moved (u := U) (U := U.calling g mk a) (Vm.Alike.refl U.vm) qK⟩, fun U hU hW => ⟨rfl, by rw [hU], by rw [hU]; exact hPc, va_K.moved hW.alike hKc⟩⟩ rfl rfl hl.1 rfl (lv_room (Nat.le_of_ble_eq_true rfl)) d_Model_check_22 ⟨Nat.zero_le _, Nat.zero_le _⟩) hS (fun q _ h => hFc q h) hFc (fun r2 u9 t9 H locs ht9 hvm9 hw hB9 hz9 hk9 hS => ?_)
    have hP := mb_keep hP hk9
    refine lv_goto (tgt := 29) hx hb d_Model_check_25 (by decide) ?_
    exact W.iret (v := r2) hx hb hr (fun t ht hW => ⟨⟨r2, (mem, row, n), rfl, ⟨hw.trans (mb_check_t (u := (mem, row, n)) z1), rfl⟩, by rw [ht]; exact hP, va_K.moved hW.alike hK, hD⟩, hS.F ht⟩) hS.2.2 d_Model_check_29
set_option maxHeartbeats 4000000 in
set_option maxRecDepth 100000 in
/-- rowCheck(n) -/
theorem c_Model_rowCheck (l : Launch) (dC : Nat → ClassId) (dI : Nat → Nat → Nat) (sz : Nat) (h0 h1 h2 : Nat) (kM kR : ClassId) (u : mb_S) (hu : mb_ok u) (p0 : Int32) : Met l y_Model_rowCheck w_Model_rowCheck ({ frames := 1, cells := 0, slots := 0, locals := 26 }) (va_Pc [.ref h0, .int p0] (fun U => U.heap.size = sz ∧ va_P (dC, dI) classes (ws_Model h0 h1 h2 kM kR u) U.heap ∧ va_K (dC, dI) classes (ty_Model kM kR) U ∧ va_D (fun _ => True) (ws_Model h0 h1 h2 kM kR u))) (va_Qi (fun (r : Int32) (v : mb_S) => r = mb_rowCheck p0 u ∧ v = u) (at_Model dC dI (va_A (ws_Model h0 h1 h2 kM kR u) sz) h0 h1 h2 kM kR) (va_A (ws_Model h0 h1 h2 kM kR u) sz)) 0 0 (va_A (ws_Model h0 h1 h2 kM kR u) sz) := by
  obtain ⟨mem, row, n⟩ := u
  obtain ⟨hu1, hu2, hu3⟩ := hu
  have hu1 : sb_Fit mem := hu1
  have hu2 : sb_Fit row := hu2
  have hu3 : n ≤ 512 := hu3
  refine Met.ofW (cc := b_Model_rowCheck) (maxL := 2) (ret := (some .int)) (by decide) rfl ?_
  intro p e s m args below meth c s₁ B hml hv
  obtain ⟨rfl, hsz, hP, hK, hD0⟩ := hv
  have hx := B.exec
  have hb := B.bytes
  have hr := B.returns
  have hts := atoms_spec (ws := w_Model_rowCheck) B.pre
  have hown : s.vm.findClass R_Model = some m.cls := findClass_of_methodNamed B.named
  have hlocks := B.notSynchronized
  subst hsz
  have hD := hD0.self (sz := s.heap.size)
  generalize hAe : va_A (ws_Model h0 h1 h2 kM kR (mem, row, n)) s.heap.size = A at hD ⊢
  have hA : ∀ q : Nat, s.heap.size ≤ q → A q := fun q h => by rw [← hAe]; exact Or.inr h
  have hS : va_S A s.heap s.heap [] := va_S.rf
  have hP : va_P (dC, dI) classes [(h0, .inr (2, [.int (nI 0), .ref h1, .ref h2, .int (nI n)])), (h1, .inl (kM, 4096, .inl mem)), (h2, .inl (kR, 512, .inl row))] s.heap := hP
  have hD : va_D A [(h0, .inr (2, [.int (nI 0), .ref h1, .ref h2, .int (nI n)])), (h1, .inl (kM, 4096, .inl mem)), (h2, .inl (kR, 512, .inl row))] := hD
  have hK : va_K (dC, dI) classes [(kM, .byte), (kR, .byte)] s := hK
  have hl := lv_entry ([.ref h0, .int p0]) (n := 2) (Nat.le_of_ble_eq_true rfl)
  rw [lg_entry_eq]
  generalize (lg_sl ([.ref h0, .int p0]) ++ List.replicate (2 - (lg_sl ([.ref h0, .int p0])).length) Slot.unset).toArray = ls at hl ⊢
  have hl : lv_has ls 2 [(0, .ref h0), (1, .int p0)] := hl
  refine lv_aload_n hx hb d_Model_rowCheck_0 rfl (lv_at hl 0 rfl) ?_
  refine lv_iconst (v := nI 0) hx hb d_Model_rowCheck_1 (by decide) ?_
  refine va_put (D := (dC, dI)) (ci := 2) (v := .int (nI 0)) (ty := .int) (C := R_Model) (T := F_Model) (N := 4) hx hb hts i_Model_rowCheck_Model t_Model t_Model_ok n_Model hown hK hP hD hS 0 rfl rfl 0 (by decide) (hts (.fieldLink R_Model 16 "MemoryBankModel" "thrown" "I") (by decide +kernel)) (fun _ h9 => h9) rfl (by decide +kernel) rfl rfl (Nat.le_of_ble_eq_true rfl) d_Model_rowCheck_2 (fun H locs hP hD hS => ?_)
  have hP : va_P (dC, dI) classes [(h0, .inr (2, [.int (nI 0), .ref h1, .ref h2, .int (nI n)])), (h1, .inl (kM, 4096, .inl mem)), (h2, .inl (kR, 512, .inl row))] H := hP
  have hD : va_D A [(h0, .inr (2, [.int (nI 0), .ref h1, .ref h2, .int (nI n)])), (h1, .inl (kM, 4096, .inl mem)), (h2, .inl (kR, 512, .inl row))] := hD
  refine lv_iconst (v := nI 0) hx hb d_Model_rowCheck_5 (by decide) ?_
  refine lv_iload_n hx hb d_Model_rowCheck_6 rfl (lv_at hl 1 rfl) ?_
  refine lv_aload_n hx hb d_Model_rowCheck_7 rfl (lv_at hl 0 rfl) ?_
  refine va_get (D := (dC, dI)) (ci := 2) (v := .int (nI n)) (C := R_Model) (T := F_Model) (N := 4) hx hb hts i_Model_rowCheck_Model hown hK hP 0 rfl rfl 3 (by decide) (hts (.fieldLink R_Model 21 "MemoryBankModel" "size" "I") (by decide +kernel)) (fun _ h9 => h9) rfl d_Model_rowCheck_8 ?_
  have hFc := mb_free hS hA
  refine va_calli (va_runS (As := [.int (nI 0), .int p0, .int (nI n)]) (rest := []) ⟨hx, hb, hml, hown, hts⟩ (c_Model_in l H.size (nI 0) p0 n (by omega)) (cwS 3 hts g_Model_rowCheck_Model_in rfl rfl rfl (by decide +kernel) ⟨Nat.le_of_ble_eq_true rfl, Nat.le_of_ble_eq_true rfl⟩) ⟨fun a U g mk q => q, fun U hU hW => ⟨rfl, congrArg Array.size hU⟩⟩ rfl rfl hl.1 rfl (lv_room (Nat.le_of_ble_eq_true rfl)) d_Model_rowCheck_11 ⟨Nat.zero_le _, Nat.zero_le _⟩) hS (fun q _ h => hFc q h) hFc (fun r1 u9 t9 H locs ht9 hvm9 hw hB9 hz9 hk9 hS => ?_)
  have hP := mb_keep hP hk9
  refine lv_if_eq (tgt := 29) hx hb d_Model_rowCheck_14 (by decide) (fun c1 => ?_) (fun c1 => ?_)
  · have z1 := mb_no hw c1
    refine lv_iconst (v := -1) hx hb d_Model_rowCheck_29 (by decide) ?_
    exact W.iret (v := (-1)) hx hb hr (fun t ht hW => ⟨⟨(-1), (mem, row, n), rfl, ⟨mb_rowCheck_f (u := (mem, row, n)) (fun h => z1 (mb_in0 h.1 h.2)), rfl⟩, by rw [ht]; exact hP, va_K.moved hW.alike hK, hD⟩, hS.F ht⟩) hS.2.2 d_Model_rowCheck_30
  · have z1 := mb_yes hw c1
    have z2 : p0.toNatClampNeg ≤ n := by have := z1.2.2; rw [nI_clamp (by decide)] at this; omega
    refine lv_aload_n hx hb d_Model_rowCheck_17 rfl (lv_at hl 0 rfl) ?_
    refine va_get (D := (dC, dI)) (ci := 2) (v := .ref h2) (C := R_Model) (T := F_Model) (N := 4) hx hb hts i_Model_rowCheck_Model hown hK hP 0 rfl rfl 2 (by decide) (hts (.fieldLink R_Model 13 "MemoryBankModel" "row" "[B") (by decide +kernel)) (fun _ h9 => h9) rfl d_Model_rowCheck_18 ?_
    refine lv_iconst (v := nI 0) hx hb d_Model_rowCheck_21 (by decide) ?_
    refine lv_iload_n hx hb d_Model_rowCheck_22 rfl (lv_at hl 1 rfl) ?_
    have hFc := mb_free hS hA
    have hPc := hP.sub (ws' := [(h2, .inl (kR, 512, .inl row))]) [2] rfl
    have hKc := hK.sub (tys' := [(kR, .byte)]) [1] rfl
    refine va_calli (va_runS (As := [.ref h2, .int (nI 0), .int p0]) (rest := []) ⟨hx, hb, hml, hown, hts⟩ (c_Model_checkOf l dC dI H.size h2 kR row 512 (by decide) (nI 0) p0 (mb_in0 z1.2.1 (by omega))) (cwS 3 hts g_Model_rowCheck_Model_checkOf rfl rfl rfl (by decide +kernel) ⟨Nat.le_of_ble_eq_true rfl, Nat.le_of_ble_eq_true rfl⟩) ⟨fun a U g mk q => by obtain ⟨q0, q1, qP, qK⟩ := q; exact ⟨q0, q1, qP, va_K.moved (u := U) (U := U.calling g mk a) (Vm.Alike.refl U.vm) qK⟩, fun U hU hW => ⟨rfl, by rw [hU], by rw [hU]; exact hPc, va_K.moved hW.alike hKc⟩⟩ rfl rfl hl.1 rfl (lv_room (Nat.le_of_ble_eq_true rfl)) d_Model_rowCheck_23 ⟨Nat.zero_le _, Nat.zero_le _⟩) hS (fun q _ h => hFc q h) hFc (fun r2 u9 t9 H locs ht9 hvm9 hw hB9 hz9 hk9 hS => ?_)
    have hP := mb_keep hP hk9
    refine lv_goto (tgt := 30) hx hb d_Model_rowCheck_26 (by decide) ?_
    exact W.iret (v := r2) hx hb hr (fun t ht hW => ⟨⟨r2, (mem, row, n), rfl, ⟨hw.trans (mb_rowCheck_t (u := (mem, row, n)) ⟨z1.2.1, z2⟩), rfl⟩, by rw [ht]; exact hP, va_K.moved hW.alike hK, hD⟩, hS.F ht⟩) hS.2.2 d_Model_rowCheck_30
set_option maxHeartbeats 4000000 in
set_option maxRecDepth 100000 in
/-- seal() -/
theorem c_Model_seal (l : Launch) (dC : Nat → ClassId) (dI : Nat → Nat → Nat) (sz : Nat) (h0 h1 h2 : Nat) (kM kR : ClassId) (u : mb_S) (hu : mb_ok u)  : Met l y_Model_seal w_Model_seal ({ frames := 1, cells := 0, slots := 0, locals := 26 }) (va_Pc [.ref h0] (fun U => U.heap.size = sz ∧ va_P (dC, dI) classes (ws_Model h0 h1 h2 kM kR u) U.heap ∧ va_K (dC, dI) classes (ty_Model kM kR) U ∧ va_D (fun _ => True) (ws_Model h0 h1 h2 kM kR u))) (va_Qi (fun (r : Int32) (v : mb_S) => r = (mb_seal u).1 ∧ v = (mb_seal u).2) (at_Model dC dI (va_A (ws_Model h0 h1 h2 kM kR u) sz) h0 h1 h2 kM kR) (va_A (ws_Model h0 h1 h2 kM kR u) sz)) 0 0 (va_A (ws_Model h0 h1 h2 kM kR u) sz) := by
  obtain ⟨mem, row, n⟩ := u
  obtain ⟨hu1, hu2, hu3⟩ := hu
  have hu1 : sb_Fit mem := hu1
  have hu2 : sb_Fit row := hu2
  have hu3 : n ≤ 512 := hu3
  refine Met.ofW (cc := b_Model_seal) (maxL := 2) (ret := (some .boolean)) (by decide) rfl ?_
  intro p e s m args below meth c s₁ B hml hv
  obtain ⟨rfl, hsz, hP, hK, hD0⟩ := hv
  have hx := B.exec
  have hb := B.bytes
  have hr := B.returns
  have hts := atoms_spec (ws := w_Model_seal) B.pre
  have hown : s.vm.findClass R_Model = some m.cls := findClass_of_methodNamed B.named
  have hlocks := B.notSynchronized
  subst hsz
  have hD := hD0.self (sz := s.heap.size)
  generalize hAe : va_A (ws_Model h0 h1 h2 kM kR (mem, row, n)) s.heap.size = A at hD ⊢
  have hA : ∀ q : Nat, s.heap.size ≤ q → A q := fun q h => by rw [← hAe]; exact Or.inr h
  have hS : va_S A s.heap s.heap [] := va_S.rf
  have hP : va_P (dC, dI) classes [(h0, .inr (2, [.int (nI 0), .ref h1, .ref h2, .int (nI n)])), (h1, .inl (kM, 4096, .inl mem)), (h2, .inl (kR, 512, .inl row))] s.heap := hP
  have hD : va_D A [(h0, .inr (2, [.int (nI 0), .ref h1, .ref h2, .int (nI n)])), (h1, .inl (kM, 4096, .inl mem)), (h2, .inl (kR, 512, .inl row))] := hD
  have hK : va_K (dC, dI) classes [(kM, .byte), (kR, .byte)] s := hK
  have hl := lv_entry ([.ref h0]) (n := 2) (Nat.le_of_ble_eq_true rfl)
  rw [lg_entry_eq]
  generalize (lg_sl ([.ref h0]) ++ List.replicate (2 - (lg_sl ([.ref h0])).length) Slot.unset).toArray = ls at hl ⊢
  have hl : lv_has ls 2 [(0, .ref h0)] := hl
  refine lv_aload_n hx hb d_Model_seal_0 rfl (lv_at hl 0 rfl) ?_
  refine lv_iconst (v := nI 0) hx hb d_Model_seal_1 (by decide) ?_
  refine va_put (D := (dC, dI)) (ci := 2) (v := .int (nI 0)) (ty := .int) (C := R_Model) (T := F_Model) (N := 4) hx hb hts i_Model_seal_Model t_Model t_Model_ok n_Model hown hK hP hD hS 0 rfl rfl 0 (by decide) (hts (.fieldLink R_Model 16 "MemoryBankModel" "thrown" "I") (by decide +kernel)) (fun _ h9 => h9) rfl (by decide +kernel) rfl rfl (Nat.le_of_ble_eq_true rfl) d_Model_seal_2 (fun H locs hP hD hS => ?_)
  have hP : va_P (dC, dI) classes [(h0, .inr (2, [.int (nI 0), .ref h1, .ref h2, .int (nI n)])), (h1, .inl (kM, 4096, .inl mem)), (h2, .inl (kR, 512, .inl row))] H := hP
  have hD : va_D A [(h0, .inr (2, [.int (nI 0), .ref h1, .ref h2, .int (nI n)])), (h1, .inl (kM, 4096, .inl mem)), (h2, .inl (kR, 512, .inl row))] := hD
  refine lv_aload_n hx hb d_Model_seal_5 rfl (lv_at hl 0 rfl) ?_
  refine va_get (D := (dC, dI)) (ci := 2) (v := .int (nI n)) (C := R_Model) (T := F_Model) (N := 4) hx hb hts i_Model_seal_Model hown hK hP 0 rfl rfl 3 (by decide) (hts (.fieldLink R_Model 21 "MemoryBankModel" "size" "I") (by decide +kernel)) (fun _ h9 => h9) rfl d_Model_seal_6 ?_
  refine lv_sipush (v := nI 510) hx hb d_Model_seal_9 (by decide +kernel) ?_
  refine lv_icmp_le (tgt := 17) hx hb d_Model_seal_12 (by decide) (fun c1 => ?_) (fun c1 => ?_)
  · have z1 : n ≤ 510 := (nI_leI (by omega) (by omega)).mp c1
    have hcl : (nI n).toNatClampNeg = n := nI_clamp (by omega)
    refine lv_aload_n hx hb d_Model_seal_17 rfl (lv_at hl 0 rfl) ?_
    refine va_get (D := (dC, dI)) (ci := 2) (v := .ref h2) (C := R_Model) (T := F_Model) (N := 4) hx hb hts i_Model_seal_Model hown hK hP 0 rfl rfl 2 (by decide) (hts (.fieldLink R_Model 13 "MemoryBankModel" "row" "[B") (by decide +kernel)) (fun _ h9 => h9) rfl d_Model_seal_18 ?_
    refine lv_iconst (v := nI 0) hx hb d_Model_seal_21 (by decide) ?_
    refine lv_aload_n hx hb d_Model_seal_22 rfl (lv_at hl 0 rfl) ?_
    refine va_get (D := (dC, dI)) (ci := 2) (v := .int (nI n)) (C := R_Model) (T := F_Model) (N := 4) hx hb hts i_Model_seal_Model hown hK hP 0 rfl rfl 3 (by decide) (hts (.fieldLink R_Model 21 "MemoryBankModel" "size" "I") (by decide +kernel)) (fun _ h9 => h9) rfl d_Model_seal_23 ?_
    have hFc := mb_free hS hA
    have hPc := hP.sub (ws' := [(h2, .inl (kR, 512, .inl row))]) [2] rfl
    have hKc := hK.sub (tys' := [(kR, .byte)]) [1] rfl
    refine va_calli (va_runS (As := [.ref h2, .int (nI 0), .int (nI n)]) (rest := []) ⟨hx, hb, hml, hown, hts⟩ (c_Model_checkOf l dC dI H.size h2 kR row 512 (by decide) (nI 0) (nI n) (mb_in0 (nI_pos (by omega)) (by rw [hcl]; omega))) (cwS 3 hts g_Model_seal_Model_checkOf rfl rfl rfl (by decide +kernel) ⟨Nat.le_of_ble_eq_true rfl, Nat.le_of_ble_eq_true rfl⟩) ⟨fun a U g mk q => by obtain ⟨q0, q1, qP, qK⟩ := q; exact ⟨q0, q1, qP, va_K.moved (u := U) (U := U.calling g mk a) (Vm.Alike.refl U.vm) qK⟩, fun U hU hW => ⟨rfl, by rw [hU], by rw [hU]; exact hPc, va_K.moved hW.alike hKc⟩⟩ rfl rfl hl.1 rfl (lv_room (Nat.le_of_ble_eq_true rfl)) d_Model_seal_26 ⟨Nat.zero_le _, Nat.zero_le _⟩) hS (fun q _ h => hFc q h) hFc (fun r1 u9 t9 H locs ht9 hvm9 hw hB9 hz9 hk9 hS => ?_)
    have hP := mb_keep hP hk9
    rw [hcl, nI_clamp (by decide)] at hw
    have hc := mb_crc_lt row 0 n
    subst hw
    refine lv_istore_n (lv' := [(1, .int (nI (mb_crc row 0 n))), (0, .ref h0)]) hx hb d_Model_seal_29 rfl hl (by decide) rfl (fun ls hl => ?_)
    refine lv_aload_n hx hb d_Model_seal_30 rfl (lv_at hl 1 rfl) ?_
    refine va_get (D := (dC, dI)) (ci := 2) (v := .ref h2) (C := R_Model) (T := F_Model) (N := 4) hx hb hts i_Model_seal_Model hown hK hP 0 rfl rfl 2 (by decide) (hts (.fieldLink R_Model 13 "MemoryBankModel" "row" "[B") (by decide +kernel)) (fun _ h9 => h9) rfl d_Model_seal_31 ?_
    refine lv_aload_n hx hb d_Model_seal_34 rfl (lv_at hl 1 rfl) ?_
    refine va_get (D := (dC, dI)) (ci := 2) (v := .int (nI n)) (C := R_Model) (T := F_Model) (N := 4) hx hb hts i_Model_seal_Model hown hK hP 0 rfl rfl 3 (by decide) (hts (.fieldLink R_Model 21 "MemoryBankModel" "size" "I") (by decide +kernel)) (fun _ h9 => h9) rfl d_Model_seal_35 ?_
    refine lv_iload_n hx hb d_Model_seal_38 rfl (lv_at hl 0 rfl) ?_
    refine lv_bipush (v := nI 8) hx hb d_Model_seal_39 (by decide +kernel) ?_
    refine lv_ishr hx hb d_Model_seal_41 ?_
    refine mb_top (x := (nI (mb_crc row 0 n)) >>> ((nI 8) &&& 31)) (y := nI (mb_crc row 0 n / 256)) (mb_shr8 hc) ?_
    refine lv_i2b (v := (nI (mb_crc row 0 n / 256)).toInt8.toInt32) hx hb d_Model_seal_42 rfl ?_
    refine mb_bast (k := n) (n := 512) (f := row) (y := (nI (mb_crc row 0 n / 256)).toInt8.toInt32) (f2 := upd row n ((nI (mb_crc row 0 n / 256)).toInt8.toInt32)) hx hb hK hP hD hS 2 1 rfl rfl (by omega) (by decide) (pk_vb _) (rfl) d_Model_seal_43 (fun H locs hP hD hS => ?_)
    have hP : va_P (dC, dI) classes [(h0, .inr (2, [.int (nI 0), .ref h1, .ref h2, .int (nI n)])), (h1, .inl (kM, 4096, .inl mem)), (h2, .inl (kR, 512, .inl (upd row n ((nI (mb_crc row 0 n / 256)).toInt8.toInt32))))] H := hP
    have hD : va_D A [(h0, .inr (2, [.int (nI 0), .ref h1, .ref h2, .int (nI n)])), (h1, .inl (kM, 4096, .inl mem)), (h2, .inl (kR, 512, .inl (upd row n ((nI (mb_crc row 0 n / 256)).toInt8.toInt32))))] := hD
    refine lv_aload_n hx hb d_Model_seal_44 rfl (lv_at hl 1 rfl) ?_
    refine va_get (D := (dC, dI)) (ci := 2) (v := .ref h2) (C := R_Model) (T := F_Model) (N := 4) hx hb hts i_Model_seal_Model hown hK hP 0 rfl rfl 2 (by decide) (hts (.fieldLink R_Model 13 "MemoryBankModel" "row" "[B") (by decide +kernel)) (fun _ h9 => h9) rfl d_Model_seal_45 ?_
    refine lv_aload_n hx hb d_Model_seal_48 rfl (lv_at hl 1 rfl) ?_
    refine va_get (D := (dC, dI)) (ci := 2) (v := .int (nI n)) (C := R_Model) (T := F_Model) (N := 4) hx hb hts i_Model_seal_Model hown hK hP 0 rfl rfl 3 (by decide) (hts (.fieldLink R_Model 21 "MemoryBankModel" "size" "I") (by decide +kernel)) (fun _ h9 => h9) rfl d_Model_seal_49 ?_
    refine lv_iconst (v := nI 1) hx hb d_Model_seal_52 (by decide) ?_
    refine lv_iadd hx hb d_Model_seal_53 ?_
    refine mb_top (x := (nI n) + (nI 1)) (y := nI (n + 1)) (nI_1 n) ?_
    refine lv_iload_n hx hb d_Model_seal_54 rfl (lv_at hl 0 rfl) ?_
    refine lv_i2b (v := (nI (mb_crc row 0 n)).toInt8.toInt32) hx hb d_Model_seal_55 rfl ?_
    refine mb_bast (k := n + 1) (n := 512) (f := upd row n ((nI (mb_crc row 0 n / 256)).toInt8.toInt32)) (y := (nI (mb_crc row 0 n)).toInt8.toInt32) (f2 := upd (upd row n ((nI (mb_crc row 0 n / 256)).toInt8.toInt32)) (n + 1) ((nI (mb_crc row 0 n)).toInt8.toInt32)) hx hb hK hP hD hS 2 1 rfl rfl (by omega) (by decide) (pk_vb _) (rfl) d_Model_seal_56 (fun H locs hP hD hS => ?_)
    have hP : va_P (dC, dI) classes [(h0, .inr (2, [.int (nI 0), .ref h1, .ref h2, .int (nI n)])), (h1, .inl (kM, 4096, .inl mem)), (h2, .inl (kR, 512, .inl (upd (upd row n ((nI (mb_crc row 0 n / 256)).toInt8.toInt32)) (n + 1) ((nI (mb_crc row 0 n)).toInt8.toInt32))))] H := hP
    have hD : va_D A [(h0, .inr (2, [.int (nI 0), .ref h1, .ref h2, .int (nI n)])), (h1, .inl (kM, 4096, .inl mem)), (h2, .inl (kR, 512, .inl (upd (upd row n ((nI (mb_crc row 0 n / 256)).toInt8.toInt32)) (n + 1) ((nI (mb_crc row 0 n)).toInt8.toInt32))))] := hD
    refine lv_aload_n hx hb d_Model_seal_57 rfl (lv_at hl 1 rfl) ?_
    refine lv_dup hx hb d_Model_seal_58 rfl ?_
    refine va_get (D := (dC, dI)) (ci := 2) (v := .int (nI n)) (C := R_Model) (T := F_Model) (N := 4) hx hb hts i_Model_seal_Model hown hK hP 0 rfl rfl 3 (by decide) (hts (.fieldLink R_Model 21 "MemoryBankModel" "size" "I") (by decide +kernel)) (fun _ h9 => h9) rfl d_Model_seal_59 ?_
    refine lv_iconst (v := nI 2) hx hb d_Model_seal_62 (by decide) ?_
    refine lv_iadd hx hb d_Model_seal_63 ?_
    refine mb_top (x := (nI n) + (nI 2)) (y := nI (n + 2)) (nI_add n 2) ?_
    refine va_put (D := (dC, dI)) (ci := 2) (v := .int (nI (n + 2))) (ty := .int) (C := R_Model) (T := F_Model) (N := 4) hx hb hts i_Model_seal_Model t_Model t_Model_ok n_Model hown hK hP hD hS 0 rfl rfl 3 (by decide) (hts (.fieldLink R_Model 21 "MemoryBankModel" "size" "I") (by decide +kernel)) (fun _ h9 => h9) rfl (by decide +kernel) rfl rfl (Nat.le_of_ble_eq_true rfl) d_Model_seal_64 (fun H locs hP hD hS => ?_)
    have hP : va_P (dC, dI) classes [(h0, .inr (2, [.int (nI 0), .ref h1, .ref h2, .int (nI (n + 2))])), (h1, .inl (kM, 4096, .inl mem)), (h2, .inl (kR, 512, .inl (upd (upd row n ((nI (mb_crc row 0 n / 256)).toInt8.toInt32)) (n + 1) ((nI (mb_crc row 0 n)).toInt8.toInt32))))] H := hP
    have hD : va_D A [(h0, .inr (2, [.int (nI 0), .ref h1, .ref h2, .int (nI (n + 2))])), (h1, .inl (kM, 4096, .inl mem)), (h2, .inl (kR, 512, .inl (upd (upd row n ((nI (mb_crc row 0 n / 256)).toInt8.toInt32)) (n + 1) ((nI (mb_crc row 0 n)).toInt8.toInt32))))] := hD
    refine lv_iconst (v := nI 1) hx hb d_Model_seal_67 (by decide) ?_
    exact W.zret (v := nI 1) (ty := .boolean) hx hb hr (by decide) (fun t ht hW => ⟨⟨nI 1, (mem, upd (upd row n (nI (mb_crc row 0 n / 256)).toInt8.toInt32) (n + 1) (nI (mb_crc row 0 n)).toInt8.toInt32, n + 2), rfl, (by rw [mb_seal_t (u := (mem, row, n)) (Nat.not_lt.mpr z1)]; exact ⟨rfl, rfl⟩), by rw [ht]; exact hP, va_K.moved hW.alike hK, hD⟩, hS.F ht⟩) hS.2.2 d_Model_seal_68
  · have z1 : 510 < n := by have := mt (nI_leI (a := n) (b := 510) (by omega) (by omega)).mpr c1; omega
    refine lv_iconst (v := nI 0) hx hb d_Model_seal_15 (by decide) ?_
    exact W.zret (v := nI 0) (ty := .boolean) hx hb hr (by decide) (fun t ht hW => ⟨⟨nI 0, (mem, row, n), rfl, (by rw [mb_seal_f (u := (mem, row, n)) z1]; exact ⟨rfl, rfl⟩), by rw [ht]; exact hP, va_K.moved hW.alike hK, hD⟩, hS.F ht⟩) hS.2.2 d_Model_seal_16
end
section
/-! THE CLAIM OUT OF ONE WALK OF THE LAW'S BODY. Your part is whole_start (and what it stands on); all else here is the same for every law, but numbers. -/
def lw_P (b : Addr) (xs : List Int32) (args : Array Value) (s : State) : Prop := args = #[.ref b] ∧ s.IntsAt b xs ∧ xs.length ≤ 2048 ∧ (Jvm.Cond.and given_1 narrow_1).before args s = true
def lw_Q (_ : Array Value) (s : State) (o : Outcome) (t : State) : Prop := o = .returned (some (.int 1)) ∧ Framed s o t [] 8 9481
def lw_Z (below : List Frame) (a : Array Value) (s : State) : State → Prop := fun t => ∃ o, t.status = .running ∧ Ended t below o ∧ lw_Q a s o t
/-- the law's own end, with 1 on the stack, nothing written that was there before, its room as the claim has it -/
theorem lw_ret {p : Program} {l : Launch} {e : Env} {s : State} {m : MethodId} {below : List Frame} {meth : Method} {c : Code} {b : Nat} (hx : p.tables.exec = Jvm.exec) (hb : c.code = code) (hr : meth.sig.returnType = ret) (hlocks : meth.locks = false) {pc : Nat} {H : Heap} {ls : Array Slot} (hdg : decode code pc = .ok (.ireturn, 1)) : W p l e room_1 s m #[Value.ref b] below meth c H [] 8 9481 (lw_Z below #[Value.ref b] s) (F0 m pc ls [.int 1]) := by
  intro T hT X
  obtain ⟨fs, hret, hrun, hended, hW, hframe⟩ := X.leave (v := some (.int 1)) (hlocks := hlocks) (fun h => by rw [hr] at h; cases h)
  have hmeth' : T.vm.method? m = some meth := X.method'
  refine ⟨T.setFrames fs, ?_, .returned (some (.int 1)), hrun, hended, rfl, ⟨_, rfl⟩, hW, hframe⟩
  jvm_step X.here [X.here.top, hx, hb, hdg, hmeth', hr, ret, narrow_b1]
  (try refine ⟨rfl, ?_⟩); (try refine ⟨rfl, ?_⟩)
  first | (intro acts; rw [hret _ acts rfl rfl rfl]) | rw [hret _ _ rfl rfl rfl]
  exact Steps.refl _
/-- what holds at the law's entry: the machine, the code, the tables' words (any of lw_tbl by 'hts w (by decide +kernel)'), the script of L ints xs at the cell b, what the Statement gives of the start (any of its parts by flat_of_before) -/
def lw_At (p : Program) (s : State) (m : MethodId) (meth : Method) (c : Code) (b L : Nat) (xs : Nat → Int32) : Prop :=
  p.tables.exec = Jvm.exec ∧ c.code = code ∧ meth.sig.returnType = ret ∧ c.maxLocals = 4 ∧ s.vm.findClass R_law = some m.cls ∧ (∀ w ∈ lw_tbl, w.before #[Value.ref b] s = true) ∧ va_X b L xs s s.heap ∧ b < s.heap.size ∧ meth.locks = false ∧ (Jvm.Cond.and given_1 narrow_1).before #[Value.ref b] s = true
section MBL
variable {p : Program} {l : Launch} {e : Env} {R : Room} {s : State} {m : MethodId} {args : Array Value} {below : List Frame} {meth : Method} {c : Code} {H : Heap} {locs : List Loc} {cells slots : Nat} {Q : State → Prop}
variable {cc : ByteArray} {pc : Nat} {ls : Array Slot} {rest : List Value} {A : Nat → Prop} {H0 : Heap}
/-- one int of the script, at a place that is a natural -/
theorem mb_sld (hexec : p.tables.exec = Jvm.exec) (hb : c.code = cc) {b L : Nat} {xs : Nat → Int32} (hX : va_X b L xs s H0) (hbl : b < H0.size) (hbA : ¬ A b) (hS : va_S A H0 H locs) {k : Nat} (hk : k < L) (hL : L ≤ 2048) (hdg : decode cc pc = .ok (.iaload, 1))
    (kk : W p l e R s m args below meth c H locs cells slots Q (F0 m (pc + 1) ls (.int (xs k) :: rest))) : W p l e R s m args below meth c H locs cells slots Q (F0 m pc ls (.int (nI k) :: .ref b :: rest)) := by
  refine va_sld hexec hb hX hbl hbA hS (vp_in_nI hk (by omega)) hdg ?_
  rw [nI_clamp (by omega)]
  exact kk
end MBL
theorem mb_l4 {L i : Nat} (hL : L ≤ 2048) (hi : i ≤ L) (h : ¬ nI L - nI 4 < nI i) : i + 4 ≤ L := by
  rw [Int32.lt_iff_toInt_lt, pk_sub_toInt (by omega) (by omega), nI_toInt (by omega)] at h
  omega
abbrev ws_Law (h0 h1 h2 h3 h4 g0 g1 g2 : Nat) (kC kM kR jM jR : ClassId) (tab : Nat → Int32) (u : mb_S) : va_W := [(h0, .inr (1, [.ref h1, .ref h3, .ref h4, .int (nI u.2.2)])), (h1, .inr (0, [.ref h2])), (h2, .inl (kC, 256, .inl tab)), (h3, .inl (kM, 4096, .inl u.1)), (h4, .inl (kR, 512, .inl u.2.1)), (g0, .inr (2, [.int (nI 0), .ref g1, .ref g2, .int (nI u.2.2)])), (g1, .inl (jM, 4096, .inl u.1)), (g2, .inl (jR, 512, .inl u.2.1))]
abbrev ty_Law (kC kM kR jM jR : ClassId) : List (ClassId × FieldType) := [(kC, .char), (kM, .byte), (kR, .byte), (jM, .byte), (jR, .byte)]
set_option maxHeartbeats 4000000 in
set_option maxRecDepth 100000 in
/-- case 0: put -/
theorem law_0 {p : Program} {l : Launch} {e : Env} {s : State} {m : MethodId} {below : List Frame} {meth : Method} {c : Code} {dC : Nat → ClassId} {dI : Nat → Nat → Nat} {b L : Nat} {xs : Nat → Int32} {h0 h1 h2 h3 h4 g0 g1 g2 : Nat} {kC kM kR jM jR : ClassId} {tab : Nat → Int32} (hL : L ≤ 2048) (C0 : lw_At p s m meth c b L xs) (hT : mb_okT tab) (hK : va_K (dC, dI) classes (ty_Law kC kM kR jM jR) s) {i : Nat} (hi : i + 4 ≤ L) {u : mb_S} (hu : mb_ok u) {H : Heap} {locs : List Loc} {ls : Array Slot} (hP : va_P (dC, dI) classes (ws_Law h0 h1 h2 h3 h4 g0 g1 g2 kC kM kR jM jR tab u) H) (hD : va_D (fun q : Nat => s.heap.size ≤ q) (ws_Law h0 h1 h2 h3 h4 g0 g1 g2 kC kM kR jM jR tab u)) (hS : va_S (fun q : Nat => s.heap.size ≤ q) s.heap H locs) (hl : lv_has ls 4 [(0, .ref b), (1, .ref h0), (2, .ref g0), (3, .int (nI i))])
    (kk : ∀ (v : mb_S) (H : Heap) (locs : List Loc), mb_ok v → va_P (dC, dI) classes (ws_Law h0 h1 h2 h3 h4 g0 g1 g2 kC kM kR jM jR tab v) H → va_D (fun q : Nat => s.heap.size ≤ q) (ws_Law h0 h1 h2 h3 h4 g0 g1 g2 kC kM kR jM jR tab v) → va_S (fun q : Nat => s.heap.size ≤ q) s.heap H locs → W p l e room_1 s m #[Value.ref b] below meth c H locs 8 9481 (lw_Z below #[Value.ref b] s) (F0 m 338 ls [])) : W p l e room_1 s m #[Value.ref b] below meth c H locs 8 9481 (lw_Z below #[Value.ref b] s) (F0 m 88 ls []) := by
  obtain ⟨hx, hb, hr, hml, hown, hts, hX, hbl, hlocks, hgv⟩ := C0
  have hA : ∀ q : Nat, s.heap.size ≤ q → (fun q : Nat => s.heap.size ≤ q) q := fun _ h => h
  have hbA : ¬ (fun q : Nat => s.heap.size ≤ q) b := Nat.not_le.mpr hbl
  have hcc : 8 + 0 ≤ 8 := Nat.le_refl 8
  have hss : 9481 + 0 ≤ 9481 := Nat.le_refl 9481
  refine lv_aload_n hx hb d_law_88 rfl (lv_at hl 1 rfl) ?_
  refine lv_aload_n hx hb d_law_89 rfl (lv_at hl 0 rfl) ?_
  refine lv_iload_n hx hb d_law_90 rfl (lv_at hl 3 rfl) ?_
  refine lv_iconst (v := nI 1) hx hb d_law_91 (by decide) ?_
  refine lv_iadd hx hb d_law_92 ?_
  refine mb_top (x := (nI i) + (nI 1)) (y := nI (i + 1)) (nI_add i 1) ?_
  refine mb_sld (k := i + 1) hx hb hX hbl hbA hS (by omega) hL d_law_93 ?_
  have hPc := hP.sub (ws' := (ws_Bank h0 h1 h2 h3 h4 kC kM kR tab u)) [0, 1, 2, 3, 4] rfl
  have hKc := hK.sub (tys' := ty_Bank kC kM kR) [0, 1, 2] rfl
  have hDc := hD.sub (ws' := (ws_Bank h0 h1 h2 h3 h4 kC kM kR tab u)) [0, 1, 2, 3, 4] (by decide) rfl
  have hFc := va_free (wc := (ws_Bank h0 h1 h2 h3 h4 kC kM kR tab u)) hD hS hA [0, 1, 2, 3, 4] rfl
  refine va_calli (va_runV (As := [.int (xs (i + 1))]) (rest := []) ⟨hx, hb, hml, hown, hts⟩ (c_Bank_put l dC dI H.size h0 h1 h2 h3 h4 kC kM kR tab u hu (xs (i + 1))) (cwV 1 hts g_law_Bank_put rfl rfl rfl (by decide +kernel) ⟨Nat.le_of_ble_eq_true rfl, Nat.le_of_ble_eq_true rfl⟩) ⟨fun a U g mk q => by obtain ⟨q0, q1, qP, qK, qD⟩ := q; exact ⟨q0, q1, qP, va_K.moved (u := U) (U := U.calling g mk a) (Vm.Alike.refl U.vm) qK, qD⟩, va_recv hKc hPc (ci := 1) (q0 := 0) rfl rfl, fun U hU hW => ⟨rfl, by rw [hU], by rw [hU]; exact hPc, va_K.moved hW.alike hKc, hDc.weaken (fun _ _ _ _ => trivial)⟩⟩ rfl rfl hl.1 rfl (lv_room (Nat.le_of_ble_eq_true rfl)) d_law_94 ⟨hcc, hss⟩) hS (fun q _ h => hFc q h) hFc (fun r1 v1 t9 H locs ht9 hvm9 hw1 hB hz9 hk9 hS => ?_)
  obtain ⟨hP1, hK1, hD1⟩ := hB
  rw [ht9] at hP1
  obtain ⟨hw1, hv1⟩ := hw1
  obtain ⟨hP, hD⟩ := va_join (wr := (ws_Model g0 g1 g2 jM jR u)) (w1 := (ws_Bank h0 h1 h2 h3 h4 kC kM kR tab v1)) hP hD [0, 1, 2, 3, 4] [5, 6, 7] rfl rfl (by decide) (by decide) hk9 hFc hP1 hD1
  refine W.widen (k := 8) (n := 9481) (Nat.le_refl 8) (Nat.le_refl 9481) ?_
  refine lv_aload_n hx hb d_law_97 rfl (lv_at hl 2 rfl) ?_
  refine lv_aload_n hx hb d_law_98 rfl (lv_at hl 0 rfl) ?_
  refine lv_iload_n hx hb d_law_99 rfl (lv_at hl 3 rfl) ?_
  refine lv_iconst (v := nI 1) hx hb d_law_100 (by decide) ?_
  refine lv_iadd hx hb d_law_101 ?_
  refine mb_top (x := (nI i) + (nI 1)) (y := nI (i + 1)) (nI_add i 1) ?_
  refine mb_sld (k := i + 1) hx hb hX hbl hbA hS (by omega) hL d_law_102 ?_
  have hPc := hP.sub (ws' := (ws_Model g0 g1 g2 jM jR u)) [0, 1, 2] rfl
  have hDc := hD.sub (ws' := (ws_Model g0 g1 g2 jM jR u)) [0, 1, 2] (by decide) rfl
  have hKc := hK.sub (tys' := ty_Model jM jR) [3, 4] rfl
  have hFc := va_free (wc := (ws_Model g0 g1 g2 jM jR u)) hD hS hA [0, 1, 2] rfl
  refine va_calli (va_runV (As := [.int (xs (i + 1))]) (rest := [.int r1]) ⟨hx, hb, hml, hown, hts⟩ (c_Model_put l dC dI H.size g0 g1 g2 jM jR u hu (xs (i + 1))) (cwV 1 hts g_law_Model_put rfl rfl rfl (by decide +kernel) ⟨Nat.le_of_ble_eq_true rfl, Nat.le_of_ble_eq_true rfl⟩) ⟨fun a U g mk q => by obtain ⟨q0, q1, qP, qK, qD⟩ := q; exact ⟨q0, q1, qP, va_K.moved (u := U) (U := U.calling g mk a) (Vm.Alike.refl U.vm) qK, qD⟩, va_recv hKc hPc (ci := 2) (q0 := 0) rfl rfl, fun U hU hW => ⟨rfl, by rw [hU], by rw [hU]; exact hPc, va_K.moved hW.alike hKc, hDc.weaken (fun _ _ _ _ => trivial)⟩⟩ rfl rfl hl.1 rfl (lv_room (Nat.le_of_ble_eq_true rfl)) d_law_103 ⟨hcc, hss⟩) hS (fun q _ h => hFc q h) hFc (fun r2 v2 t9 H locs ht9 hvm9 hw2 hB hz9 hk9 hS => ?_)
  obtain ⟨hP1, hK1, hD1⟩ := hB
  rw [ht9] at hP1
  obtain ⟨hw2, hv2⟩ := hw2
  obtain ⟨hP, hD⟩ := va_join (wr := (ws_Bank h0 h1 h2 h3 h4 kC kM kR tab v1)) (w1 := (ws_Model g0 g1 g2 jM jR v2)) hP hD [0, 1, 2] [3, 4, 5, 6, 7] rfl rfl (by decide) (by decide) hk9 hFc hP1 hD1
  refine W.widen (k := 8) (n := 9481) (Nat.le_refl 8) (Nat.le_refl 9481) ?_
  refine lv_icmp_eq (tgt := 338) hx hb d_law_106 (by decide) (fun c1 => ?_) (fun c1 => ?_)
  · subst hv1
    subst hv2
    exact kk _ H locs (mb_ok_put hu (xs (i + 1))) hP hD hS
  · exact absurd (hw1.trans hw2.symm) c1
set_option maxHeartbeats 4000000 in
set_option maxRecDepth 100000 in
/-- case 1: cut -/
theorem law_1 {p : Program} {l : Launch} {e : Env} {s : State} {m : MethodId} {below : List Frame} {meth : Method} {c : Code} {dC : Nat → ClassId} {dI : Nat → Nat → Nat} {b L : Nat} {xs : Nat → Int32} {h0 h1 h2 h3 h4 g0 g1 g2 : Nat} {kC kM kR jM jR : ClassId} {tab : Nat → Int32} (hL : L ≤ 2048) (C0 : lw_At p s m meth c b L xs) (hT : mb_okT tab) (hK : va_K (dC, dI) classes (ty_Law kC kM kR jM jR) s) {i : Nat} (hi : i + 4 ≤ L) {u : mb_S} (hu : mb_ok u) {H : Heap} {locs : List Loc} {ls : Array Slot} (hP : va_P (dC, dI) classes (ws_Law h0 h1 h2 h3 h4 g0 g1 g2 kC kM kR jM jR tab u) H) (hD : va_D (fun q : Nat => s.heap.size ≤ q) (ws_Law h0 h1 h2 h3 h4 g0 g1 g2 kC kM kR jM jR tab u)) (hS : va_S (fun q : Nat => s.heap.size ≤ q) s.heap H locs) (hl : lv_has ls 4 [(0, .ref b), (1, .ref h0), (2, .ref g0), (3, .int (nI i))])
    (kk : ∀ (v : mb_S) (H : Heap) (locs : List Loc), mb_ok v → va_P (dC, dI) classes (ws_Law h0 h1 h2 h3 h4 g0 g1 g2 kC kM kR jM jR tab v) H → va_D (fun q : Nat => s.heap.size ≤ q) (ws_Law h0 h1 h2 h3 h4 g0 g1 g2 kC kM kR jM jR tab v) → va_S (fun q : Nat => s.heap.size ≤ q) s.heap H locs → W p l e room_1 s m #[Value.ref b] below meth c H locs 8 9481 (lw_Z below #[Value.ref b] s) (F0 m 338 ls [])) : W p l e room_1 s m #[Value.ref b] below meth c H locs 8 9481 (lw_Z below #[Value.ref b] s) (F0 m 111 ls []) := by
  obtain ⟨hx, hb, hr, hml, hown, hts, hX, hbl, hlocks, hgv⟩ := C0
  have hA : ∀ q : Nat, s.heap.size ≤ q → (fun q : Nat => s.heap.size ≤ q) q := fun _ h => h
  have hbA : ¬ (fun q : Nat => s.heap.size ≤ q) b := Nat.not_le.mpr hbl
  have hcc : 8 + 0 ≤ 8 := Nat.le_refl 8
  have hss : 9481 + 0 ≤ 9481 := Nat.le_refl 9481
  refine lv_aload_n hx hb d_law_111 rfl (lv_at hl 1 rfl) ?_
  refine lv_aload_n hx hb d_law_112 rfl (lv_at hl 0 rfl) ?_
  refine lv_iload_n hx hb d_law_113 rfl (lv_at hl 3 rfl) ?_
  refine lv_iconst (v := nI 1) hx hb d_law_114 (by decide) ?_
  refine lv_iadd hx hb d_law_115 ?_
  refine mb_top (x := (nI i) + (nI 1)) (y := nI (i + 1)) (nI_add i 1) ?_
  refine mb_sld (k := i + 1) hx hb hX hbl hbA hS (by omega) hL d_law_116 ?_
  have hPc := hP.sub (ws' := (ws_Bank h0 h1 h2 h3 h4 kC kM kR tab u)) [0, 1, 2, 3, 4] rfl
  have hKc := hK.sub (tys' := ty_Bank kC kM kR) [0, 1, 2] rfl
  have hDc := hD.sub (ws' := (ws_Bank h0 h1 h2 h3 h4 kC kM kR tab u)) [0, 1, 2, 3, 4] (by decide) rfl
  have hFc := va_free (wc := (ws_Bank h0 h1 h2 h3 h4 kC kM kR tab u)) hD hS hA [0, 1, 2, 3, 4] rfl
  refine va_calli (va_runV (As := [.int (xs (i + 1))]) (rest := []) ⟨hx, hb, hml, hown, hts⟩ (c_Bank_cut l dC dI H.size h0 h1 h2 h3 h4 kC kM kR tab u hu (xs (i + 1))) (cwV 1 hts g_law_Bank_cut rfl rfl rfl (by decide +kernel) ⟨Nat.le_of_ble_eq_true rfl, Nat.le_of_ble_eq_true rfl⟩) ⟨fun a U g mk q => by obtain ⟨q0, q1, qP, qK, qD⟩ := q; exact ⟨q0, q1, qP, va_K.moved (u := U) (U := U.calling g mk a) (Vm.Alike.refl U.vm) qK, qD⟩, va_recv hKc hPc (ci := 1) (q0 := 0) rfl rfl, fun U hU hW => ⟨rfl, by rw [hU], by rw [hU]; exact hPc, va_K.moved hW.alike hKc, hDc.weaken (fun _ _ _ _ => trivial)⟩⟩ rfl rfl hl.1 rfl (lv_room (Nat.le_of_ble_eq_true rfl)) d_law_117 ⟨hcc, hss⟩) hS (fun q _ h => hFc q h) hFc (fun r1 v1 t9 H locs ht9 hvm9 hw1 hB hz9 hk9 hS => ?_)
  obtain ⟨hP1, hK1, hD1⟩ := hB
  rw [ht9] at hP1
  obtain ⟨hw1, hv1⟩ := hw1
  obtain ⟨hP, hD⟩ := va_join (wr := (ws_Model g0 g1 g2 jM jR u)) (w1 := (ws_Bank h0 h1 h2 h3 h4 kC kM kR tab v1)) hP hD [0, 1, 2, 3, 4] [5, 6, 7] rfl rfl (by decide) (by decide) hk9 hFc hP1 hD1
  refine W.widen (k := 8) (n := 9481) (Nat.le_refl 8) (Nat.le_refl 9481) ?_
  refine lv_aload_n hx hb d_law_120 rfl (lv_at hl 2 rfl) ?_
  refine lv_aload_n hx hb d_law_121 rfl (lv_at hl 0 rfl) ?_
  refine lv_iload_n hx hb d_law_122 rfl (lv_at hl 3 rfl) ?_
  refine lv_iconst (v := nI 1) hx hb d_law_123 (by decide) ?_
  refine lv_iadd hx hb d_law_124 ?_
  refine mb_top (x := (nI i) + (nI 1)) (y := nI (i + 1)) (nI_add i 1) ?_
  refine mb_sld (k := i + 1) hx hb hX hbl hbA hS (by omega) hL d_law_125 ?_
  have hPc := hP.sub (ws' := (ws_Model g0 g1 g2 jM jR u)) [0, 1, 2] rfl
  have hDc := hD.sub (ws' := (ws_Model g0 g1 g2 jM jR u)) [0, 1, 2] (by decide) rfl
  have hKc := hK.sub (tys' := ty_Model jM jR) [3, 4] rfl
  have hFc := va_free (wc := (ws_Model g0 g1 g2 jM jR u)) hD hS hA [0, 1, 2] rfl
  refine va_calli (va_runV (As := [.int (xs (i + 1))]) (rest := [.int r1]) ⟨hx, hb, hml, hown, hts⟩ (c_Model_cut l dC dI H.size g0 g1 g2 jM jR u hu (xs (i + 1))) (cwV 1 hts g_law_Model_cut rfl rfl rfl (by decide +kernel) ⟨Nat.le_of_ble_eq_true rfl, Nat.le_of_ble_eq_true rfl⟩) ⟨fun a U g mk q => by obtain ⟨q0, q1, qP, qK, qD⟩ := q; exact ⟨q0, q1, qP, va_K.moved (u := U) (U := U.calling g mk a) (Vm.Alike.refl U.vm) qK, qD⟩, va_recv hKc hPc (ci := 2) (q0 := 0) rfl rfl, fun U hU hW => ⟨rfl, by rw [hU], by rw [hU]; exact hPc, va_K.moved hW.alike hKc, hDc.weaken (fun _ _ _ _ => trivial)⟩⟩ rfl rfl hl.1 rfl (lv_room (Nat.le_of_ble_eq_true rfl)) d_law_126 ⟨hcc, hss⟩) hS (fun q _ h => hFc q h) hFc (fun r2 v2 t9 H locs ht9 hvm9 hw2 hB hz9 hk9 hS => ?_)
  obtain ⟨hP1, hK1, hD1⟩ := hB
  rw [ht9] at hP1
  obtain ⟨hw2, hv2⟩ := hw2
  obtain ⟨hP, hD⟩ := va_join (wr := (ws_Bank h0 h1 h2 h3 h4 kC kM kR tab v1)) (w1 := (ws_Model g0 g1 g2 jM jR v2)) hP hD [0, 1, 2] [3, 4, 5, 6, 7] rfl rfl (by decide) (by decide) hk9 hFc hP1 hD1
  refine W.widen (k := 8) (n := 9481) (Nat.le_refl 8) (Nat.le_refl 9481) ?_
  refine lv_icmp_eq (tgt := 338) hx hb d_law_129 (by decide) (fun c1 => ?_) (fun c1 => ?_)
  · subst hv1
    subst hv2
    exact kk _ H locs (mb_ok_cut hu (xs (i + 1))) hP hD hS
  · exact absurd (hw1.trans hw2.symm) c1
set_option maxHeartbeats 4000000 in
set_option maxRecDepth 100000 in
/-- case 2: size -/
theorem law_2 {p : Program} {l : Launch} {e : Env} {s : State} {m : MethodId} {below : List Frame} {meth : Method} {c : Code} {dC : Nat → ClassId} {dI : Nat → Nat → Nat} {b L : Nat} {xs : Nat → Int32} {h0 h1 h2 h3 h4 g0 g1 g2 : Nat} {kC kM kR jM jR : ClassId} {tab : Nat → Int32} (hL : L ≤ 2048) (C0 : lw_At p s m meth c b L xs) (hT : mb_okT tab) (hK : va_K (dC, dI) classes (ty_Law kC kM kR jM jR) s) {i : Nat} (hi : i + 4 ≤ L) {u : mb_S} (hu : mb_ok u) {H : Heap} {locs : List Loc} {ls : Array Slot} (hP : va_P (dC, dI) classes (ws_Law h0 h1 h2 h3 h4 g0 g1 g2 kC kM kR jM jR tab u) H) (hD : va_D (fun q : Nat => s.heap.size ≤ q) (ws_Law h0 h1 h2 h3 h4 g0 g1 g2 kC kM kR jM jR tab u)) (hS : va_S (fun q : Nat => s.heap.size ≤ q) s.heap H locs) (hl : lv_has ls 4 [(0, .ref b), (1, .ref h0), (2, .ref g0), (3, .int (nI i))])
    (kk : ∀ (v : mb_S) (H : Heap) (locs : List Loc), mb_ok v → va_P (dC, dI) classes (ws_Law h0 h1 h2 h3 h4 g0 g1 g2 kC kM kR jM jR tab v) H → va_D (fun q : Nat => s.heap.size ≤ q) (ws_Law h0 h1 h2 h3 h4 g0 g1 g2 kC kM kR jM jR tab v) → va_S (fun q : Nat => s.heap.size ≤ q) s.heap H locs → W p l e room_1 s m #[Value.ref b] below meth c H locs 8 9481 (lw_Z below #[Value.ref b] s) (F0 m 338 ls [])) : W p l e room_1 s m #[Value.ref b] below meth c H locs 8 9481 (lw_Z below #[Value.ref b] s) (F0 m 134 ls []) := by
  obtain ⟨hx, hb, hr, hml, hown, hts, hX, hbl, hlocks, hgv⟩ := C0
  have hA : ∀ q : Nat, s.heap.size ≤ q → (fun q : Nat => s.heap.size ≤ q) q := fun _ h => h
  have hbA : ¬ (fun q : Nat => s.heap.size ≤ q) b := Nat.not_le.mpr hbl
  have hcc : 8 + 0 ≤ 8 := Nat.le_refl 8
  have hss : 9481 + 0 ≤ 9481 := Nat.le_refl 9481
  refine lv_aload_n hx hb d_law_134 rfl (lv_at hl 1 rfl) ?_
  have hPc := hP.sub (ws' := (ws_Bank h0 h1 h2 h3 h4 kC kM kR tab u)) [0, 1, 2, 3, 4] rfl
  have hKc := hK.sub (tys' := ty_Bank kC kM kR) [0, 1, 2] rfl
  have hFc := mb_free hS hA
  refine va_calli (va_runV (As := []) (rest := []) ⟨hx, hb, hml, hown, hts⟩ (c_Bank_size l dC dI H.size h0 h1 h2 h3 h4 kC kM kR tab u ) (cwV 0 hts g_law_Bank_size rfl rfl rfl (by decide +kernel) ⟨Nat.le_of_ble_eq_true rfl, Nat.le_of_ble_eq_true rfl⟩) ⟨fun a U g mk q => by obtain ⟨q0, q1, qP, qK⟩ := q; exact ⟨q0, q1, qP, va_K.moved (u := U) (U := U.calling g mk a) (Vm.Alike.refl U.vm) qK⟩, va_recv hKc hPc (ci := 1) (q0 := 0) rfl rfl, fun U hU hW => ⟨rfl, by rw [hU], by rw [hU]; exact hPc, va_K.moved hW.alike hKc⟩⟩ rfl rfl hl.1 rfl (lv_room (Nat.le_of_ble_eq_true rfl)) d_law_135 ⟨hcc, hss⟩) hS (fun q _ h => hFc q h) hFc (fun r1 v1 t9 H locs ht9 hvm9 hw1 hB hz9 hk9 hS => ?_)
  have hP := mb_keep hP hk9
  refine W.widen (k := 8) (n := 9481) (Nat.le_refl 8) (Nat.le_refl 9481) ?_
  refine lv_aload_n hx hb d_law_138 rfl (lv_at hl 2 rfl) ?_
  have hPc := hP.sub (ws' := (ws_Model g0 g1 g2 jM jR u)) [5, 6, 7] rfl
  have hDc := hD.sub (ws' := (ws_Model g0 g1 g2 jM jR u)) [5, 6, 7] (by decide) rfl
  have hKc := hK.sub (tys' := ty_Model jM jR) [3, 4] rfl
  have hFc := va_free (wc := (ws_Model g0 g1 g2 jM jR u)) hD hS hA [5, 6, 7] rfl
  refine va_calli (va_runV (As := []) (rest := [.int r1]) ⟨hx, hb, hml, hown, hts⟩ (c_Model_size l dC dI H.size g0 g1 g2 jM jR u hu ) (cwV 0 hts g_law_Model_size rfl rfl rfl (by decide +kernel) ⟨Nat.le_of_ble_eq_true rfl, Nat.le_of_ble_eq_true rfl⟩) ⟨fun a U g mk q => by obtain ⟨q0, q1, qP, qK, qD⟩ := q; exact ⟨q0, q1, qP, va_K.moved (u := U) (U := U.calling g mk a) (Vm.Alike.refl U.vm) qK, qD⟩, va_recv hKc hPc (ci := 2) (q0 := 0) rfl rfl, fun U hU hW => ⟨rfl, by rw [hU], by rw [hU]; exact hPc, va_K.moved hW.alike hKc, hDc.weaken (fun _ _ _ _ => trivial)⟩⟩ rfl rfl hl.1 rfl (lv_room (Nat.le_of_ble_eq_true rfl)) d_law_139 ⟨hcc, hss⟩) hS (fun q _ h => hFc q h) hFc (fun r2 v2 t9 H locs ht9 hvm9 hw2 hB hz9 hk9 hS => ?_)
  obtain ⟨hP1, hK1, hD1⟩ := hB
  rw [ht9] at hP1
  obtain ⟨hw2, hv2⟩ := hw2
  obtain ⟨hP, hD⟩ := va_join (wr := (ws_Bank h0 h1 h2 h3 h4 kC kM kR tab u)) (w1 := (ws_Model g0 g1 g2 jM jR v2)) hP hD [5, 6, 7] [0, 1, 2, 3, 4] rfl rfl (by decide) (by decide) hk9 hFc hP1 hD1
  refine W.widen (k := 8) (n := 9481) (Nat.le_refl 8) (Nat.le_refl 9481) ?_
  refine lv_icmp_eq (tgt := 338) hx hb d_law_142 (by decide) (fun c1 => ?_) (fun c1 => ?_)
  · subst hv2
    exact kk _ H locs hu hP hD hS
  · exact absurd (hw1.trans hw2.symm) c1
set_option maxHeartbeats 4000000 in
set_option maxRecDepth 100000 in
/-- case 3: rowAt -/
theorem law_3 {p : Program} {l : Launch} {e : Env} {s : State} {m : MethodId} {below : List Frame} {meth : Method} {c : Code} {dC : Nat → ClassId} {dI : Nat → Nat → Nat} {b L : Nat} {xs : Nat → Int32} {h0 h1 h2 h3 h4 g0 g1 g2 : Nat} {kC kM kR jM jR : ClassId} {tab : Nat → Int32} (hL : L ≤ 2048) (C0 : lw_At p s m meth c b L xs) (hT : mb_okT tab) (hK : va_K (dC, dI) classes (ty_Law kC kM kR jM jR) s) {i : Nat} (hi : i + 4 ≤ L) {u : mb_S} (hu : mb_ok u) {H : Heap} {locs : List Loc} {ls : Array Slot} (hP : va_P (dC, dI) classes (ws_Law h0 h1 h2 h3 h4 g0 g1 g2 kC kM kR jM jR tab u) H) (hD : va_D (fun q : Nat => s.heap.size ≤ q) (ws_Law h0 h1 h2 h3 h4 g0 g1 g2 kC kM kR jM jR tab u)) (hS : va_S (fun q : Nat => s.heap.size ≤ q) s.heap H locs) (hl : lv_has ls 4 [(0, .ref b), (1, .ref h0), (2, .ref g0), (3, .int (nI i))])
    (kk : ∀ (v : mb_S) (H : Heap) (locs : List Loc), mb_ok v → va_P (dC, dI) classes (ws_Law h0 h1 h2 h3 h4 g0 g1 g2 kC kM kR jM jR tab v) H → va_D (fun q : Nat => s.heap.size ≤ q) (ws_Law h0 h1 h2 h3 h4 g0 g1 g2 kC kM kR jM jR tab v) → va_S (fun q : Nat => s.heap.size ≤ q) s.heap H locs → W p l e room_1 s m #[Value.ref b] below meth c H locs 8 9481 (lw_Z below #[Value.ref b] s) (F0 m 338 ls [])) : W p l e room_1 s m #[Value.ref b] below meth c H locs 8 9481 (lw_Z below #[Value.ref b] s) (F0 m 147 ls []) := by
  obtain ⟨hx, hb, hr, hml, hown, hts, hX, hbl, hlocks, hgv⟩ := C0
  have hA : ∀ q : Nat, s.heap.size ≤ q → (fun q : Nat => s.heap.size ≤ q) q := fun _ h => h
  have hbA : ¬ (fun q : Nat => s.heap.size ≤ q) b := Nat.not_le.mpr hbl
  have hcc : 8 + 0 ≤ 8 := Nat.le_refl 8
  have hss : 9481 + 0 ≤ 9481 := Nat.le_refl 9481
  refine lv_aload_n hx hb d_law_147 rfl (lv_at hl 1 rfl) ?_
  refine lv_aload_n hx hb d_law_148 rfl (lv_at hl 0 rfl) ?_
  refine lv_iload_n hx hb d_law_149 rfl (lv_at hl 3 rfl) ?_
  refine lv_iconst (v := nI 1) hx hb d_law_150 (by decide) ?_
  refine lv_iadd hx hb d_law_151 ?_
  refine mb_top (x := (nI i) + (nI 1)) (y := nI (i + 1)) (nI_add i 1) ?_
  refine mb_sld (k := i + 1) hx hb hX hbl hbA hS (by omega) hL d_law_152 ?_
  have hPc := hP.sub (ws' := (ws_Bank h0 h1 h2 h3 h4 kC kM kR tab u)) [0, 1, 2, 3, 4] rfl
  have hKc := hK.sub (tys' := ty_Bank kC kM kR) [0, 1, 2] rfl
  have hFc := mb_free hS hA
  refine va_calli (va_runV (As := [.int (xs (i + 1))]) (rest := []) ⟨hx, hb, hml, hown, hts⟩ (c_Bank_rowAt l dC dI H.size h0 h1 h2 h3 h4 kC kM kR tab u hu (xs (i + 1))) (cwV 1 hts g_law_Bank_rowAt rfl rfl rfl (by decide +kernel) ⟨Nat.le_of_ble_eq_true rfl, Nat.le_of_ble_eq_true rfl⟩) ⟨fun a U g mk q => by obtain ⟨q0, q1, qP, qK⟩ := q; exact ⟨q0, q1, qP, va_K.moved (u := U) (U := U.calling g mk a) (Vm.Alike.refl U.vm) qK⟩, va_recv hKc hPc (ci := 1) (q0 := 0) rfl rfl, fun U hU hW => ⟨rfl, by rw [hU], by rw [hU]; exact hPc, va_K.moved hW.alike hKc⟩⟩ rfl rfl hl.1 rfl (lv_room (Nat.le_of_ble_eq_true rfl)) d_law_153 ⟨hcc, hss⟩) hS (fun q _ h => hFc q h) hFc (fun r1 v1 t9 H locs ht9 hvm9 hw1 hB hz9 hk9 hS => ?_)
  have hP := mb_keep hP hk9
  refine W.widen (k := 8) (n := 9481) (Nat.le_refl 8) (Nat.le_refl 9481) ?_
  refine lv_aload_n hx hb d_law_156 rfl (lv_at hl 2 rfl) ?_
  refine lv_aload_n hx hb d_law_157 rfl (lv_at hl 0 rfl) ?_
  refine lv_iload_n hx hb d_law_158 rfl (lv_at hl 3 rfl) ?_
  refine lv_iconst (v := nI 1) hx hb d_law_159 (by decide) ?_
  refine lv_iadd hx hb d_law_160 ?_
  refine mb_top (x := (nI i) + (nI 1)) (y := nI (i + 1)) (nI_add i 1) ?_
  refine mb_sld (k := i + 1) hx hb hX hbl hbA hS (by omega) hL d_law_161 ?_
  have hPc := hP.sub (ws' := (ws_Model g0 g1 g2 jM jR u)) [5, 6, 7] rfl
  have hDc := hD.sub (ws' := (ws_Model g0 g1 g2 jM jR u)) [5, 6, 7] (by decide) rfl
  have hKc := hK.sub (tys' := ty_Model jM jR) [3, 4] rfl
  have hFc := va_free (wc := (ws_Model g0 g1 g2 jM jR u)) hD hS hA [5, 6, 7] rfl
  refine va_calli (va_runV (As := [.int (xs (i + 1))]) (rest := [.int r1]) ⟨hx, hb, hml, hown, hts⟩ (c_Model_rowAt l dC dI H.size g0 g1 g2 jM jR u hu (xs (i + 1))) (cwV 1 hts g_law_Model_rowAt rfl rfl rfl (by decide +kernel) ⟨Nat.le_of_ble_eq_true rfl, Nat.le_of_ble_eq_true rfl⟩) ⟨fun a U g mk q => by obtain ⟨q0, q1, qP, qK, qD⟩ := q; exact ⟨q0, q1, qP, va_K.moved (u := U) (U := U.calling g mk a) (Vm.Alike.refl U.vm) qK, qD⟩, va_recv hKc hPc (ci := 2) (q0 := 0) rfl rfl, fun U hU hW => ⟨rfl, by rw [hU], by rw [hU]; exact hPc, va_K.moved hW.alike hKc, hDc.weaken (fun _ _ _ _ => trivial)⟩⟩ rfl rfl hl.1 rfl (lv_room (Nat.le_of_ble_eq_true rfl)) d_law_162 ⟨hcc, hss⟩) hS (fun q _ h => hFc q h) hFc (fun r2 v2 t9 H locs ht9 hvm9 hw2 hB hz9 hk9 hS => ?_)
  obtain ⟨hP1, hK1, hD1⟩ := hB
  rw [ht9] at hP1
  obtain ⟨hw2, hv2⟩ := hw2
  obtain ⟨hP, hD⟩ := va_join (wr := (ws_Bank h0 h1 h2 h3 h4 kC kM kR tab u)) (w1 := (ws_Model g0 g1 g2 jM jR v2)) hP hD [5, 6, 7] [0, 1, 2, 3, 4] rfl rfl (by decide) (by decide) hk9 hFc hP1 hD1
  refine W.widen (k := 8) (n := 9481) (Nat.le_refl 8) (Nat.le_refl 9481) ?_
  refine lv_icmp_eq (tgt := 338) hx hb d_law_165 (by decide) (fun c1 => ?_) (fun c1 => ?_)
  · subst hv2
    exact kk _ H locs hu hP hD hS
  · exact absurd (hw1.trans hw2.symm) c1
set_option maxHeartbeats 4000000 in
set_option maxRecDepth 100000 in
/-- case 4: load -/
theorem law_4 {p : Program} {l : Launch} {e : Env} {s : State} {m : MethodId} {below : List Frame} {meth : Method} {c : Code} {dC : Nat → ClassId} {dI : Nat → Nat → Nat} {b L : Nat} {xs : Nat → Int32} {h0 h1 h2 h3 h4 g0 g1 g2 : Nat} {kC kM kR jM jR : ClassId} {tab : Nat → Int32} (hL : L ≤ 2048) (C0 : lw_At p s m meth c b L xs) (hT : mb_okT tab) (hK : va_K (dC, dI) classes (ty_Law kC kM kR jM jR) s) {i : Nat} (hi : i + 4 ≤ L) {u : mb_S} (hu : mb_ok u) {H : Heap} {locs : List Loc} {ls : Array Slot} (hP : va_P (dC, dI) classes (ws_Law h0 h1 h2 h3 h4 g0 g1 g2 kC kM kR jM jR tab u) H) (hD : va_D (fun q : Nat => s.heap.size ≤ q) (ws_Law h0 h1 h2 h3 h4 g0 g1 g2 kC kM kR jM jR tab u)) (hS : va_S (fun q : Nat => s.heap.size ≤ q) s.heap H locs) (hl : lv_has ls 4 [(0, .ref b), (1, .ref h0), (2, .ref g0), (3, .int (nI i))])
    (kk : ∀ (v : mb_S) (H : Heap) (locs : List Loc), mb_ok v → va_P (dC, dI) classes (ws_Law h0 h1 h2 h3 h4 g0 g1 g2 kC kM kR jM jR tab v) H → va_D (fun q : Nat => s.heap.size ≤ q) (ws_Law h0 h1 h2 h3 h4 g0 g1 g2 kC kM kR jM jR tab v) → va_S (fun q : Nat => s.heap.size ≤ q) s.heap H locs → W p l e room_1 s m #[Value.ref b] below meth c H locs 8 9481 (lw_Z below #[Value.ref b] s) (F0 m 338 ls [])) : W p l e room_1 s m #[Value.ref b] below meth c H locs 8 9481 (lw_Z below #[Value.ref b] s) (F0 m 170 ls []) := by
  obtain ⟨hx, hb, hr, hml, hown, hts, hX, hbl, hlocks, hgv⟩ := C0
  have hA : ∀ q : Nat, s.heap.size ≤ q → (fun q : Nat => s.heap.size ≤ q) q := fun _ h => h
  have hbA : ¬ (fun q : Nat => s.heap.size ≤ q) b := Nat.not_le.mpr hbl
  have hcc : 8 + 0 ≤ 8 := Nat.le_refl 8
  have hss : 9481 + 0 ≤ 9481 := Nat.le_refl 9481
  refine lv_aload_n hx hb d_law_170 rfl (lv_at hl 1 rfl) ?_
  refine lv_aload_n hx hb d_law_171 rfl (lv_at hl 0 rfl) ?_
  refine lv_iload_n hx hb d_law_172 rfl (lv_at hl 3 rfl) ?_
  refine lv_iconst (v := nI 1) hx hb d_law_173 (by decide) ?_
  refine lv_iadd hx hb d_law_174 ?_
  refine mb_top (x := (nI i) + (nI 1)) (y := nI (i + 1)) (nI_add i 1) ?_
  refine mb_sld (k := i + 1) hx hb hX hbl hbA hS (by omega) hL d_law_175 ?_
  refine lv_aload_n hx hb d_law_176 rfl (lv_at hl 0 rfl) ?_
  refine lv_iload_n hx hb d_law_177 rfl (lv_at hl 3 rfl) ?_
  refine lv_iconst (v := nI 2) hx hb d_law_178 (by decide) ?_
  refine lv_iadd hx hb d_law_179 ?_
  refine mb_top (x := (nI i) + (nI 2)) (y := nI (i + 2)) (nI_add i 2) ?_
  refine mb_sld (k := i + 2) hx hb hX hbl hbA hS (by omega) hL d_law_180 ?_
  refine lv_aload_n hx hb d_law_181 rfl (lv_at hl 0 rfl) ?_
  refine lv_iload_n hx hb d_law_182 rfl (lv_at hl 3 rfl) ?_
  refine lv_iconst (v := nI 3) hx hb d_law_183 (by decide) ?_
  refine lv_iadd hx hb d_law_184 ?_
  refine mb_top (x := (nI i) + (nI 3)) (y := nI (i + 3)) (nI_add i 3) ?_
  refine mb_sld (k := i + 3) hx hb hX hbl hbA hS (by omega) hL d_law_185 ?_
  have hPc := hP.sub (ws' := (ws_Bank h0 h1 h2 h3 h4 kC kM kR tab u)) [0, 1, 2, 3, 4] rfl
  have hKc := hK.sub (tys' := ty_Bank kC kM kR) [0, 1, 2] rfl
  have hDc := hD.sub (ws' := (ws_Bank h0 h1 h2 h3 h4 kC kM kR tab u)) [0, 1, 2, 3, 4] (by decide) rfl
  have hFc := va_free (wc := (ws_Bank h0 h1 h2 h3 h4 kC kM kR tab u)) hD hS hA [0, 1, 2, 3, 4] rfl
  refine va_calli (va_runV (As := [.int (xs (i + 1)), .int (xs (i + 2)), .int (xs (i + 3))]) (rest := []) ⟨hx, hb, hml, hown, hts⟩ (c_Bank_load l dC dI H.size h0 h1 h2 h3 h4 kC kM kR tab u hu (xs (i + 1)) (xs (i + 2)) (xs (i + 3))) (cwV 3 hts g_law_Bank_load rfl rfl rfl (by decide +kernel) ⟨Nat.le_of_ble_eq_true rfl, Nat.le_of_ble_eq_true rfl⟩) ⟨fun a U g mk q => by obtain ⟨q0, q1, qP, qK, qD⟩ := q; exact ⟨q0, q1, qP, va_K.moved (u := U) (U := U.calling g mk a) (Vm.Alike.refl U.vm) qK, qD⟩, va_recv hKc hPc (ci := 1) (q0 := 0) rfl rfl, fun U hU hW => ⟨rfl, by rw [hU], by rw [hU]; exact hPc, va_K.moved hW.alike hKc, hDc.weaken (fun _ _ _ _ => trivial)⟩⟩ rfl rfl hl.1 rfl (lv_room (Nat.le_of_ble_eq_true rfl)) d_law_186 ⟨hcc, hss⟩) hS (fun q _ h => hFc q h) hFc (fun r1 v1 t9 H locs ht9 hvm9 hw1 hB hz9 hk9 hS => ?_)
  obtain ⟨hP1, hK1, hD1⟩ := hB
  rw [ht9] at hP1
  obtain ⟨hw1, hv1⟩ := hw1
  obtain ⟨hP, hD⟩ := va_join (wr := (ws_Model g0 g1 g2 jM jR u)) (w1 := (ws_Bank h0 h1 h2 h3 h4 kC kM kR tab v1)) hP hD [0, 1, 2, 3, 4] [5, 6, 7] rfl rfl (by decide) (by decide) hk9 hFc hP1 hD1
  refine W.widen (k := 8) (n := 9481) (Nat.le_refl 8) (Nat.le_refl 9481) ?_
  refine lv_aload_n hx hb d_law_189 rfl (lv_at hl 2 rfl) ?_
  refine lv_aload_n hx hb d_law_190 rfl (lv_at hl 0 rfl) ?_
  refine lv_iload_n hx hb d_law_191 rfl (lv_at hl 3 rfl) ?_
  refine lv_iconst (v := nI 1) hx hb d_law_192 (by decide) ?_
  refine lv_iadd hx hb d_law_193 ?_
  refine mb_top (x := (nI i) + (nI 1)) (y := nI (i + 1)) (nI_add i 1) ?_
  refine mb_sld (k := i + 1) hx hb hX hbl hbA hS (by omega) hL d_law_194 ?_
  refine lv_aload_n hx hb d_law_195 rfl (lv_at hl 0 rfl) ?_
  refine lv_iload_n hx hb d_law_196 rfl (lv_at hl 3 rfl) ?_
  refine lv_iconst (v := nI 2) hx hb d_law_197 (by decide) ?_
  refine lv_iadd hx hb d_law_198 ?_
  refine mb_top (x := (nI i) + (nI 2)) (y := nI (i + 2)) (nI_add i 2) ?_
  refine mb_sld (k := i + 2) hx hb hX hbl hbA hS (by omega) hL d_law_199 ?_
  refine lv_aload_n hx hb d_law_200 rfl (lv_at hl 0 rfl) ?_
  refine lv_iload_n hx hb d_law_201 rfl (lv_at hl 3 rfl) ?_
  refine lv_iconst (v := nI 3) hx hb d_law_202 (by decide) ?_
  refine lv_iadd hx hb d_law_203 ?_
  refine mb_top (x := (nI i) + (nI 3)) (y := nI (i + 3)) (nI_add i 3) ?_
  refine mb_sld (k := i + 3) hx hb hX hbl hbA hS (by omega) hL d_law_204 ?_
  have hPc := hP.sub (ws' := (ws_Model g0 g1 g2 jM jR u)) [0, 1, 2] rfl
  have hDc := hD.sub (ws' := (ws_Model g0 g1 g2 jM jR u)) [0, 1, 2] (by decide) rfl
  have hKc := hK.sub (tys' := ty_Model jM jR) [3, 4] rfl
  have hFc := va_free (wc := (ws_Model g0 g1 g2 jM jR u)) hD hS hA [0, 1, 2] rfl
  refine va_calli (va_runV (As := [.int (xs (i + 1)), .int (xs (i + 2)), .int (xs (i + 3))]) (rest := [.int r1]) ⟨hx, hb, hml, hown, hts⟩ (c_Model_load l dC dI H.size g0 g1 g2 jM jR u hu (xs (i + 1)) (xs (i + 2)) (xs (i + 3))) (cwV 3 hts g_law_Model_load rfl rfl rfl (by decide +kernel) ⟨Nat.le_of_ble_eq_true rfl, Nat.le_of_ble_eq_true rfl⟩) ⟨fun a U g mk q => by obtain ⟨q0, q1, qP, qK, qD⟩ := q; exact ⟨q0, q1, qP, va_K.moved (u := U) (U := U.calling g mk a) (Vm.Alike.refl U.vm) qK, qD⟩, va_recv hKc hPc (ci := 2) (q0 := 0) rfl rfl, fun U hU hW => ⟨rfl, by rw [hU], by rw [hU]; exact hPc, va_K.moved hW.alike hKc, hDc.weaken (fun _ _ _ _ => trivial)⟩⟩ rfl rfl hl.1 rfl (lv_room (Nat.le_of_ble_eq_true rfl)) d_law_205 ⟨hcc, hss⟩) hS (fun q _ h => hFc q h) hFc (fun r2 v2 t9 H locs ht9 hvm9 hw2 hB hz9 hk9 hS => ?_)
  obtain ⟨hP1, hK1, hD1⟩ := hB
  rw [ht9] at hP1
  obtain ⟨hw2, hv2⟩ := hw2
  obtain ⟨hP, hD⟩ := va_join (wr := (ws_Bank h0 h1 h2 h3 h4 kC kM kR tab v1)) (w1 := (ws_Model g0 g1 g2 jM jR v2)) hP hD [0, 1, 2] [3, 4, 5, 6, 7] rfl rfl (by decide) (by decide) hk9 hFc hP1 hD1
  refine W.widen (k := 8) (n := 9481) (Nat.le_refl 8) (Nat.le_refl 9481) ?_
  refine lv_icmp_eq (tgt := 338) hx hb d_law_208 (by decide) (fun c1 => ?_) (fun c1 => ?_)
  · subst hv1
    subst hv2
    exact kk _ H locs (mb_ok_load hu (xs (i + 1)) (xs (i + 2)) (xs (i + 3))) hP hD hS
  · exact absurd (hw1.trans hw2.symm) c1
set_option maxHeartbeats 4000000 in
set_option maxRecDepth 100000 in
/-- case 5: dump -/
theorem law_5 {p : Program} {l : Launch} {e : Env} {s : State} {m : MethodId} {below : List Frame} {meth : Method} {c : Code} {dC : Nat → ClassId} {dI : Nat → Nat → Nat} {b L : Nat} {xs : Nat → Int32} {h0 h1 h2 h3 h4 g0 g1 g2 : Nat} {kC kM kR jM jR : ClassId} {tab : Nat → Int32} (hL : L ≤ 2048) (C0 : lw_At p s m meth c b L xs) (hT : mb_okT tab) (hK : va_K (dC, dI) classes (ty_Law kC kM kR jM jR) s) {i : Nat} (hi : i + 4 ≤ L) {u : mb_S} (hu : mb_ok u) {H : Heap} {locs : List Loc} {ls : Array Slot} (hP : va_P (dC, dI) classes (ws_Law h0 h1 h2 h3 h4 g0 g1 g2 kC kM kR jM jR tab u) H) (hD : va_D (fun q : Nat => s.heap.size ≤ q) (ws_Law h0 h1 h2 h3 h4 g0 g1 g2 kC kM kR jM jR tab u)) (hS : va_S (fun q : Nat => s.heap.size ≤ q) s.heap H locs) (hl : lv_has ls 4 [(0, .ref b), (1, .ref h0), (2, .ref g0), (3, .int (nI i))])
    (kk : ∀ (v : mb_S) (H : Heap) (locs : List Loc), mb_ok v → va_P (dC, dI) classes (ws_Law h0 h1 h2 h3 h4 g0 g1 g2 kC kM kR jM jR tab v) H → va_D (fun q : Nat => s.heap.size ≤ q) (ws_Law h0 h1 h2 h3 h4 g0 g1 g2 kC kM kR jM jR tab v) → va_S (fun q : Nat => s.heap.size ≤ q) s.heap H locs → W p l e room_1 s m #[Value.ref b] below meth c H locs 8 9481 (lw_Z below #[Value.ref b] s) (F0 m 338 ls [])) : W p l e room_1 s m #[Value.ref b] below meth c H locs 8 9481 (lw_Z below #[Value.ref b] s) (F0 m 213 ls []) := by
  obtain ⟨hx, hb, hr, hml, hown, hts, hX, hbl, hlocks, hgv⟩ := C0
  have hA : ∀ q : Nat, s.heap.size ≤ q → (fun q : Nat => s.heap.size ≤ q) q := fun _ h => h
  have hbA : ¬ (fun q : Nat => s.heap.size ≤ q) b := Nat.not_le.mpr hbl
  have hcc : 8 + 0 ≤ 8 := Nat.le_refl 8
  have hss : 9481 + 0 ≤ 9481 := Nat.le_refl 9481
  refine lv_aload_n hx hb d_law_213 rfl (lv_at hl 1 rfl) ?_
  refine lv_aload_n hx hb d_law_214 rfl (lv_at hl 0 rfl) ?_
  refine lv_iload_n hx hb d_law_215 rfl (lv_at hl 3 rfl) ?_
  refine lv_iconst (v := nI 1) hx hb d_law_216 (by decide) ?_
  refine lv_iadd hx hb d_law_217 ?_
  refine mb_top (x := (nI i) + (nI 1)) (y := nI (i + 1)) (nI_add i 1) ?_
  refine mb_sld (k := i + 1) hx hb hX hbl hbA hS (by omega) hL d_law_218 ?_
  refine lv_aload_n hx hb d_law_219 rfl (lv_at hl 0 rfl) ?_
  refine lv_iload_n hx hb d_law_220 rfl (lv_at hl 3 rfl) ?_
  refine lv_iconst (v := nI 2) hx hb d_law_221 (by decide) ?_
  refine lv_iadd hx hb d_law_222 ?_
  refine mb_top (x := (nI i) + (nI 2)) (y := nI (i + 2)) (nI_add i 2) ?_
  refine mb_sld (k := i + 2) hx hb hX hbl hbA hS (by omega) hL d_law_223 ?_
  have hPc := hP.sub (ws' := (ws_Bank h0 h1 h2 h3 h4 kC kM kR tab u)) [0, 1, 2, 3, 4] rfl
  have hKc := hK.sub (tys' := ty_Bank kC kM kR) [0, 1, 2] rfl
  have hDc := hD.sub (ws' := (ws_Bank h0 h1 h2 h3 h4 kC kM kR tab u)) [0, 1, 2, 3, 4] (by decide) rfl
  have hFc := va_free (wc := (ws_Bank h0 h1 h2 h3 h4 kC kM kR tab u)) hD hS hA [0, 1, 2, 3, 4] rfl
  refine va_calli (va_runV (As := [.int (xs (i + 1)), .int (xs (i + 2))]) (rest := []) ⟨hx, hb, hml, hown, hts⟩ (c_Bank_dump l dC dI H.size h0 h1 h2 h3 h4 kC kM kR tab u hu (xs (i + 1)) (xs (i + 2))) (cwV 2 hts g_law_Bank_dump rfl rfl rfl (by decide +kernel) ⟨Nat.le_of_ble_eq_true rfl, Nat.le_of_ble_eq_true rfl⟩) ⟨fun a U g mk q => by obtain ⟨q0, q1, qP, qK, qD⟩ := q; exact ⟨q0, q1, qP, va_K.moved (u := U) (U := U.calling g mk a) (Vm.Alike.refl U.vm) qK, qD⟩, va_recv hKc hPc (ci := 1) (q0 := 0) rfl rfl, fun U hU hW => ⟨rfl, by rw [hU], by rw [hU]; exact hPc, va_K.moved hW.alike hKc, hDc.weaken (fun _ _ _ _ => trivial)⟩⟩ rfl rfl hl.1 rfl (lv_room (Nat.le_of_ble_eq_true rfl)) d_law_224 ⟨hcc, hss⟩) hS (fun q _ h => hFc q h) hFc (fun r1 v1 t9 H locs ht9 hvm9 hw1 hB hz9 hk9 hS => ?_)
  obtain ⟨hP1, hK1, hD1⟩ := hB
  rw [ht9] at hP1
  obtain ⟨hw1, hv1⟩ := hw1
  obtain ⟨hP, hD⟩ := va_join (wr := (ws_Model g0 g1 g2 jM jR u)) (w1 := (ws_Bank h0 h1 h2 h3 h4 kC kM kR tab v1)) hP hD [0, 1, 2, 3, 4] [5, 6, 7] rfl rfl (by decide) (by decide) hk9 hFc hP1 hD1
  refine W.widen (k := 8) (n := 9481) (Nat.le_refl 8) (Nat.le_refl 9481) ?_
  refine lv_aload_n hx hb d_law_227 rfl (lv_at hl 2 rfl) ?_
  refine lv_aload_n hx hb d_law_228 rfl (lv_at hl 0 rfl) ?_
  refine lv_iload_n hx hb d_law_229 rfl (lv_at hl 3 rfl) ?_
  refine lv_iconst (v := nI 1) hx hb d_law_230 (by decide) ?_
  refine lv_iadd hx hb d_law_231 ?_
  refine mb_top (x := (nI i) + (nI 1)) (y := nI (i + 1)) (nI_add i 1) ?_
  refine mb_sld (k := i + 1) hx hb hX hbl hbA hS (by omega) hL d_law_232 ?_
  refine lv_aload_n hx hb d_law_233 rfl (lv_at hl 0 rfl) ?_
  refine lv_iload_n hx hb d_law_234 rfl (lv_at hl 3 rfl) ?_
  refine lv_iconst (v := nI 2) hx hb d_law_235 (by decide) ?_
  refine lv_iadd hx hb d_law_236 ?_
  refine mb_top (x := (nI i) + (nI 2)) (y := nI (i + 2)) (nI_add i 2) ?_
  refine mb_sld (k := i + 2) hx hb hX hbl hbA hS (by omega) hL d_law_237 ?_
  have hPc := hP.sub (ws' := (ws_Model g0 g1 g2 jM jR u)) [0, 1, 2] rfl
  have hDc := hD.sub (ws' := (ws_Model g0 g1 g2 jM jR u)) [0, 1, 2] (by decide) rfl
  have hKc := hK.sub (tys' := ty_Model jM jR) [3, 4] rfl
  have hFc := va_free (wc := (ws_Model g0 g1 g2 jM jR u)) hD hS hA [0, 1, 2] rfl
  refine va_calli (va_runV (As := [.int (xs (i + 1)), .int (xs (i + 2))]) (rest := [.int r1]) ⟨hx, hb, hml, hown, hts⟩ (c_Model_dump l dC dI H.size g0 g1 g2 jM jR u hu (xs (i + 1)) (xs (i + 2))) (cwV 2 hts g_law_Model_dump rfl rfl rfl (by decide +kernel) ⟨Nat.le_of_ble_eq_true rfl, Nat.le_of_ble_eq_true rfl⟩) ⟨fun a U g mk q => by obtain ⟨q0, q1, qP, qK, qD⟩ := q; exact ⟨q0, q1, qP, va_K.moved (u := U) (U := U.calling g mk a) (Vm.Alike.refl U.vm) qK, qD⟩, va_recv hKc hPc (ci := 2) (q0 := 0) rfl rfl, fun U hU hW => ⟨rfl, by rw [hU], by rw [hU]; exact hPc, va_K.moved hW.alike hKc, hDc.weaken (fun _ _ _ _ => trivial)⟩⟩ rfl rfl hl.1 rfl (lv_room (Nat.le_of_ble_eq_true rfl)) d_law_238 ⟨hcc, hss⟩) hS (fun q _ h => hFc q h) hFc (fun r2 v2 t9 H locs ht9 hvm9 hw2 hB hz9 hk9 hS => ?_)
  obtain ⟨hP1, hK1, hD1⟩ := hB
  rw [ht9] at hP1
  obtain ⟨hw2, hv2⟩ := hw2
  obtain ⟨hP, hD⟩ := va_join (wr := (ws_Bank h0 h1 h2 h3 h4 kC kM kR tab v1)) (w1 := (ws_Model g0 g1 g2 jM jR v2)) hP hD [0, 1, 2] [3, 4, 5, 6, 7] rfl rfl (by decide) (by decide) hk9 hFc hP1 hD1
  refine W.widen (k := 8) (n := 9481) (Nat.le_refl 8) (Nat.le_refl 9481) ?_
  refine lv_icmp_eq (tgt := 338) hx hb d_law_241 (by decide) (fun c1 => ?_) (fun c1 => ?_)
  · subst hv1
    subst hv2
    exact kk _ H locs (mb_ok_dump hu (xs (i + 1)) (xs (i + 2))) hP hD hS
  · exact absurd (hw1.trans hw2.symm) c1
set_option maxHeartbeats 4000000 in
set_option maxRecDepth 100000 in
/-- case 6: check -/
theorem law_6 {p : Program} {l : Launch} {e : Env} {s : State} {m : MethodId} {below : List Frame} {meth : Method} {c : Code} {dC : Nat → ClassId} {dI : Nat → Nat → Nat} {b L : Nat} {xs : Nat → Int32} {h0 h1 h2 h3 h4 g0 g1 g2 : Nat} {kC kM kR jM jR : ClassId} {tab : Nat → Int32} (hL : L ≤ 2048) (C0 : lw_At p s m meth c b L xs) (hT : mb_okT tab) (hK : va_K (dC, dI) classes (ty_Law kC kM kR jM jR) s) {i : Nat} (hi : i + 4 ≤ L) {u : mb_S} (hu : mb_ok u) {H : Heap} {locs : List Loc} {ls : Array Slot} (hP : va_P (dC, dI) classes (ws_Law h0 h1 h2 h3 h4 g0 g1 g2 kC kM kR jM jR tab u) H) (hD : va_D (fun q : Nat => s.heap.size ≤ q) (ws_Law h0 h1 h2 h3 h4 g0 g1 g2 kC kM kR jM jR tab u)) (hS : va_S (fun q : Nat => s.heap.size ≤ q) s.heap H locs) (hl : lv_has ls 4 [(0, .ref b), (1, .ref h0), (2, .ref g0), (3, .int (nI i))])
    (kk : ∀ (v : mb_S) (H : Heap) (locs : List Loc), mb_ok v → va_P (dC, dI) classes (ws_Law h0 h1 h2 h3 h4 g0 g1 g2 kC kM kR jM jR tab v) H → va_D (fun q : Nat => s.heap.size ≤ q) (ws_Law h0 h1 h2 h3 h4 g0 g1 g2 kC kM kR jM jR tab v) → va_S (fun q : Nat => s.heap.size ≤ q) s.heap H locs → W p l e room_1 s m #[Value.ref b] below meth c H locs 8 9481 (lw_Z below #[Value.ref b] s) (F0 m 338 ls [])) : W p l e room_1 s m #[Value.ref b] below meth c H locs 8 9481 (lw_Z below #[Value.ref b] s) (F0 m 246 ls []) := by
  obtain ⟨hx, hb, hr, hml, hown, hts, hX, hbl, hlocks, hgv⟩ := C0
  have hA : ∀ q : Nat, s.heap.size ≤ q → (fun q : Nat => s.heap.size ≤ q) q := fun _ h => h
  have hbA : ¬ (fun q : Nat => s.heap.size ≤ q) b := Nat.not_le.mpr hbl
  have hcc : 8 + 0 ≤ 8 := Nat.le_refl 8
  have hss : 9481 + 0 ≤ 9481 := Nat.le_refl 9481
  refine lv_aload_n hx hb d_law_246 rfl (lv_at hl 1 rfl) ?_
  refine lv_aload_n hx hb d_law_247 rfl (lv_at hl 0 rfl) ?_
  refine lv_iload_n hx hb d_law_248 rfl (lv_at hl 3 rfl) ?_
  refine lv_iconst (v := nI 1) hx hb d_law_249 (by decide) ?_
  refine lv_iadd hx hb d_law_250 ?_
  refine mb_top (x := (nI i) + (nI 1)) (y := nI (i + 1)) (nI_add i 1) ?_
  refine mb_sld (k := i + 1) hx hb hX hbl hbA hS (by omega) hL d_law_251 ?_
  refine lv_aload_n hx hb d_law_252 rfl (lv_at hl 0 rfl) ?_
  refine lv_iload_n hx hb d_law_253 rfl (lv_at hl 3 rfl) ?_
  refine lv_iconst (v := nI 2) hx hb d_law_254 (by decide) ?_
  refine lv_iadd hx hb d_law_255 ?_
  refine mb_top (x := (nI i) + (nI 2)) (y := nI (i + 2)) (nI_add i 2) ?_
  refine mb_sld (k := i + 2) hx hb hX hbl hbA hS (by omega) hL d_law_256 ?_
  have hPc := hP.sub (ws' := (ws_Bank h0 h1 h2 h3 h4 kC kM kR tab u)) [0, 1, 2, 3, 4] rfl
  have hKc := hK.sub (tys' := ty_Bank kC kM kR) [0, 1, 2] rfl
  have hFc := mb_free hS hA
  refine va_calli (va_runV (As := [.int (xs (i + 1)), .int (xs (i + 2))]) (rest := []) ⟨hx, hb, hml, hown, hts⟩ (c_Bank_check l dC dI H.size h0 h1 h2 h3 h4 kC kM kR tab u hT (xs (i + 1)) (xs (i + 2))) (cwV 2 hts g_law_Bank_check rfl rfl rfl (by decide +kernel) ⟨Nat.le_of_ble_eq_true rfl, Nat.le_of_ble_eq_true rfl⟩) ⟨fun a U g mk q => by obtain ⟨q0, q1, qP, qK⟩ := q; exact ⟨q0, q1, qP, va_K.moved (u := U) (U := U.calling g mk a) (Vm.Alike.refl U.vm) qK⟩, va_recv hKc hPc (ci := 1) (q0 := 0) rfl rfl, fun U hU hW => ⟨rfl, by rw [hU], by rw [hU]; exact hPc, va_K.moved hW.alike hKc⟩⟩ rfl rfl hl.1 rfl (lv_room (Nat.le_of_ble_eq_true rfl)) d_law_257 ⟨hcc, hss⟩) hS (fun q _ h => hFc q h) hFc (fun r1 v1 t9 H locs ht9 hvm9 hw1 hB hz9 hk9 hS => ?_)
  have hP := mb_keep hP hk9
  refine W.widen (k := 8) (n := 9481) (Nat.le_refl 8) (Nat.le_refl 9481) ?_
  refine lv_aload_n hx hb d_law_260 rfl (lv_at hl 2 rfl) ?_
  refine lv_aload_n hx hb d_law_261 rfl (lv_at hl 0 rfl) ?_
  refine lv_iload_n hx hb d_law_262 rfl (lv_at hl 3 rfl) ?_
  refine lv_iconst (v := nI 1) hx hb d_law_263 (by decide) ?_
  refine lv_iadd hx hb d_law_264 ?_
  refine mb_top (x := (nI i) + (nI 1)) (y := nI (i + 1)) (nI_add i 1) ?_
  refine mb_sld (k := i + 1) hx hb hX hbl hbA hS (by omega) hL d_law_265 ?_
  refine lv_aload_n hx hb d_law_266 rfl (lv_at hl 0 rfl) ?_
  refine lv_iload_n hx hb d_law_267 rfl (lv_at hl 3 rfl) ?_
  refine lv_iconst (v := nI 2) hx hb d_law_268 (by decide) ?_
  refine lv_iadd hx hb d_law_269 ?_
  refine mb_top (x := (nI i) + (nI 2)) (y := nI (i + 2)) (nI_add i 2) ?_
  refine mb_sld (k := i + 2) hx hb hX hbl hbA hS (by omega) hL d_law_270 ?_
  have hPc := hP.sub (ws' := (ws_Model g0 g1 g2 jM jR u)) [5, 6, 7] rfl
  have hDc := hD.sub (ws' := (ws_Model g0 g1 g2 jM jR u)) [5, 6, 7] (by decide) rfl
  have hKc := hK.sub (tys' := ty_Model jM jR) [3, 4] rfl
  have hFc := va_free (wc := (ws_Model g0 g1 g2 jM jR u)) hD hS hA [5, 6, 7] rfl
  refine va_calli (va_runV (As := [.int (xs (i + 1)), .int (xs (i + 2))]) (rest := [.int r1]) ⟨hx, hb, hml, hown, hts⟩ (c_Model_check l dC dI H.size g0 g1 g2 jM jR u hu (xs (i + 1)) (xs (i + 2))) (cwV 2 hts g_law_Model_check rfl rfl rfl (by decide +kernel) ⟨Nat.le_of_ble_eq_true rfl, Nat.le_of_ble_eq_true rfl⟩) ⟨fun a U g mk q => by obtain ⟨q0, q1, qP, qK, qD⟩ := q; exact ⟨q0, q1, qP, va_K.moved (u := U) (U := U.calling g mk a) (Vm.Alike.refl U.vm) qK, qD⟩, va_recv hKc hPc (ci := 2) (q0 := 0) rfl rfl, fun U hU hW => ⟨rfl, by rw [hU], by rw [hU]; exact hPc, va_K.moved hW.alike hKc, hDc.weaken (fun _ _ _ _ => trivial)⟩⟩ rfl rfl hl.1 rfl (lv_room (Nat.le_of_ble_eq_true rfl)) d_law_271 ⟨hcc, hss⟩) hS (fun q _ h => hFc q h) hFc (fun r2 v2 t9 H locs ht9 hvm9 hw2 hB hz9 hk9 hS => ?_)
  obtain ⟨hP1, hK1, hD1⟩ := hB
  rw [ht9] at hP1
  obtain ⟨hw2, hv2⟩ := hw2
  obtain ⟨hP, hD⟩ := va_join (wr := (ws_Bank h0 h1 h2 h3 h4 kC kM kR tab u)) (w1 := (ws_Model g0 g1 g2 jM jR v2)) hP hD [5, 6, 7] [0, 1, 2, 3, 4] rfl rfl (by decide) (by decide) hk9 hFc hP1 hD1
  refine W.widen (k := 8) (n := 9481) (Nat.le_refl 8) (Nat.le_refl 9481) ?_
  refine lv_icmp_eq (tgt := 338) hx hb d_law_274 (by decide) (fun c1 => ?_) (fun c1 => ?_)
  · subst hv2
    exact kk _ H locs hu hP hD hS
  · exact absurd (hw1.trans hw2.symm) c1
set_option maxHeartbeats 4000000 in
set_option maxRecDepth 100000 in
/-- case 7: rowCheck -/
theorem law_7 {p : Program} {l : Launch} {e : Env} {s : State} {m : MethodId} {below : List Frame} {meth : Method} {c : Code} {dC : Nat → ClassId} {dI : Nat → Nat → Nat} {b L : Nat} {xs : Nat → Int32} {h0 h1 h2 h3 h4 g0 g1 g2 : Nat} {kC kM kR jM jR : ClassId} {tab : Nat → Int32} (hL : L ≤ 2048) (C0 : lw_At p s m meth c b L xs) (hT : mb_okT tab) (hK : va_K (dC, dI) classes (ty_Law kC kM kR jM jR) s) {i : Nat} (hi : i + 4 ≤ L) {u : mb_S} (hu : mb_ok u) {H : Heap} {locs : List Loc} {ls : Array Slot} (hP : va_P (dC, dI) classes (ws_Law h0 h1 h2 h3 h4 g0 g1 g2 kC kM kR jM jR tab u) H) (hD : va_D (fun q : Nat => s.heap.size ≤ q) (ws_Law h0 h1 h2 h3 h4 g0 g1 g2 kC kM kR jM jR tab u)) (hS : va_S (fun q : Nat => s.heap.size ≤ q) s.heap H locs) (hl : lv_has ls 4 [(0, .ref b), (1, .ref h0), (2, .ref g0), (3, .int (nI i))])
    (kk : ∀ (v : mb_S) (H : Heap) (locs : List Loc), mb_ok v → va_P (dC, dI) classes (ws_Law h0 h1 h2 h3 h4 g0 g1 g2 kC kM kR jM jR tab v) H → va_D (fun q : Nat => s.heap.size ≤ q) (ws_Law h0 h1 h2 h3 h4 g0 g1 g2 kC kM kR jM jR tab v) → va_S (fun q : Nat => s.heap.size ≤ q) s.heap H locs → W p l e room_1 s m #[Value.ref b] below meth c H locs 8 9481 (lw_Z below #[Value.ref b] s) (F0 m 338 ls [])) : W p l e room_1 s m #[Value.ref b] below meth c H locs 8 9481 (lw_Z below #[Value.ref b] s) (F0 m 279 ls []) := by
  obtain ⟨hx, hb, hr, hml, hown, hts, hX, hbl, hlocks, hgv⟩ := C0
  have hA : ∀ q : Nat, s.heap.size ≤ q → (fun q : Nat => s.heap.size ≤ q) q := fun _ h => h
  have hbA : ¬ (fun q : Nat => s.heap.size ≤ q) b := Nat.not_le.mpr hbl
  have hcc : 8 + 0 ≤ 8 := Nat.le_refl 8
  have hss : 9481 + 0 ≤ 9481 := Nat.le_refl 9481
  refine lv_aload_n hx hb d_law_279 rfl (lv_at hl 1 rfl) ?_
  refine lv_aload_n hx hb d_law_280 rfl (lv_at hl 0 rfl) ?_
  refine lv_iload_n hx hb d_law_281 rfl (lv_at hl 3 rfl) ?_
  refine lv_iconst (v := nI 1) hx hb d_law_282 (by decide) ?_
  refine lv_iadd hx hb d_law_283 ?_
  refine mb_top (x := (nI i) + (nI 1)) (y := nI (i + 1)) (nI_add i 1) ?_
  refine mb_sld (k := i + 1) hx hb hX hbl hbA hS (by omega) hL d_law_284 ?_
  have hPc := hP.sub (ws' := (ws_Bank h0 h1 h2 h3 h4 kC kM kR tab u)) [0, 1, 2, 3, 4] rfl
  have hKc := hK.sub (tys' := ty_Bank kC kM kR) [0, 1, 2] rfl
  have hFc := mb_free hS hA
  refine va_calli (va_runV (As := [.int (xs (i + 1))]) (rest := []) ⟨hx, hb, hml, hown, hts⟩ (c_Bank_rowCheck l dC dI H.size h0 h1 h2 h3 h4 kC kM kR tab u hu hT (xs (i + 1))) (cwV 1 hts g_law_Bank_rowCheck rfl rfl rfl (by decide +kernel) ⟨Nat.le_of_ble_eq_true rfl, Nat.le_of_ble_eq_true rfl⟩) ⟨fun a U g mk q => by obtain ⟨q0, q1, qP, qK⟩ := q; exact ⟨q0, q1, qP, va_K.moved (u := U) (U := U.calling g mk a) (Vm.Alike.refl U.vm) qK⟩, va_recv hKc hPc (ci := 1) (q0 := 0) rfl rfl, fun U hU hW => ⟨rfl, by rw [hU], by rw [hU]; exact hPc, va_K.moved hW.alike hKc⟩⟩ rfl rfl hl.1 rfl (lv_room (Nat.le_of_ble_eq_true rfl)) d_law_285 ⟨hcc, hss⟩) hS (fun q _ h => hFc q h) hFc (fun r1 v1 t9 H locs ht9 hvm9 hw1 hB hz9 hk9 hS => ?_)
  have hP := mb_keep hP hk9
  refine W.widen (k := 8) (n := 9481) (Nat.le_refl 8) (Nat.le_refl 9481) ?_
  refine lv_aload_n hx hb d_law_288 rfl (lv_at hl 2 rfl) ?_
  refine lv_aload_n hx hb d_law_289 rfl (lv_at hl 0 rfl) ?_
  refine lv_iload_n hx hb d_law_290 rfl (lv_at hl 3 rfl) ?_
  refine lv_iconst (v := nI 1) hx hb d_law_291 (by decide) ?_
  refine lv_iadd hx hb d_law_292 ?_
  refine mb_top (x := (nI i) + (nI 1)) (y := nI (i + 1)) (nI_add i 1) ?_
  refine mb_sld (k := i + 1) hx hb hX hbl hbA hS (by omega) hL d_law_293 ?_
  have hPc := hP.sub (ws' := (ws_Model g0 g1 g2 jM jR u)) [5, 6, 7] rfl
  have hDc := hD.sub (ws' := (ws_Model g0 g1 g2 jM jR u)) [5, 6, 7] (by decide) rfl
  have hKc := hK.sub (tys' := ty_Model jM jR) [3, 4] rfl
  have hFc := va_free (wc := (ws_Model g0 g1 g2 jM jR u)) hD hS hA [5, 6, 7] rfl
  refine va_calli (va_runV (As := [.int (xs (i + 1))]) (rest := [.int r1]) ⟨hx, hb, hml, hown, hts⟩ (c_Model_rowCheck l dC dI H.size g0 g1 g2 jM jR u hu (xs (i + 1))) (cwV 1 hts g_law_Model_rowCheck rfl rfl rfl (by decide +kernel) ⟨Nat.le_of_ble_eq_true rfl, Nat.le_of_ble_eq_true rfl⟩) ⟨fun a U g mk q => by obtain ⟨q0, q1, qP, qK, qD⟩ := q; exact ⟨q0, q1, qP, va_K.moved (u := U) (U := U.calling g mk a) (Vm.Alike.refl U.vm) qK, qD⟩, va_recv hKc hPc (ci := 2) (q0 := 0) rfl rfl, fun U hU hW => ⟨rfl, by rw [hU], by rw [hU]; exact hPc, va_K.moved hW.alike hKc, hDc.weaken (fun _ _ _ _ => trivial)⟩⟩ rfl rfl hl.1 rfl (lv_room (Nat.le_of_ble_eq_true rfl)) d_law_294 ⟨hcc, hss⟩) hS (fun q _ h => hFc q h) hFc (fun r2 v2 t9 H locs ht9 hvm9 hw2 hB hz9 hk9 hS => ?_)
  obtain ⟨hP1, hK1, hD1⟩ := hB
  rw [ht9] at hP1
  obtain ⟨hw2, hv2⟩ := hw2
  obtain ⟨hP, hD⟩ := va_join (wr := (ws_Bank h0 h1 h2 h3 h4 kC kM kR tab u)) (w1 := (ws_Model g0 g1 g2 jM jR v2)) hP hD [5, 6, 7] [0, 1, 2, 3, 4] rfl rfl (by decide) (by decide) hk9 hFc hP1 hD1
  refine W.widen (k := 8) (n := 9481) (Nat.le_refl 8) (Nat.le_refl 9481) ?_
  refine lv_icmp_eq (tgt := 338) hx hb d_law_297 (by decide) (fun c1 => ?_) (fun c1 => ?_)
  · subst hv2
    exact kk _ H locs hu hP hD hS
  · exact absurd (hw1.trans hw2.symm) c1
set_option maxHeartbeats 4000000 in
set_option maxRecDepth 100000 in
/-- case 8: seal -/
theorem law_8 {p : Program} {l : Launch} {e : Env} {s : State} {m : MethodId} {below : List Frame} {meth : Method} {c : Code} {dC : Nat → ClassId} {dI : Nat → Nat → Nat} {b L : Nat} {xs : Nat → Int32} {h0 h1 h2 h3 h4 g0 g1 g2 : Nat} {kC kM kR jM jR : ClassId} {tab : Nat → Int32} (hL : L ≤ 2048) (C0 : lw_At p s m meth c b L xs) (hT : mb_okT tab) (hK : va_K (dC, dI) classes (ty_Law kC kM kR jM jR) s) {i : Nat} (hi : i + 4 ≤ L) {u : mb_S} (hu : mb_ok u) {H : Heap} {locs : List Loc} {ls : Array Slot} (hP : va_P (dC, dI) classes (ws_Law h0 h1 h2 h3 h4 g0 g1 g2 kC kM kR jM jR tab u) H) (hD : va_D (fun q : Nat => s.heap.size ≤ q) (ws_Law h0 h1 h2 h3 h4 g0 g1 g2 kC kM kR jM jR tab u)) (hS : va_S (fun q : Nat => s.heap.size ≤ q) s.heap H locs) (hl : lv_has ls 4 [(0, .ref b), (1, .ref h0), (2, .ref g0), (3, .int (nI i))])
    (kk : ∀ (v : mb_S) (H : Heap) (locs : List Loc), mb_ok v → va_P (dC, dI) classes (ws_Law h0 h1 h2 h3 h4 g0 g1 g2 kC kM kR jM jR tab v) H → va_D (fun q : Nat => s.heap.size ≤ q) (ws_Law h0 h1 h2 h3 h4 g0 g1 g2 kC kM kR jM jR tab v) → va_S (fun q : Nat => s.heap.size ≤ q) s.heap H locs → W p l e room_1 s m #[Value.ref b] below meth c H locs 8 9481 (lw_Z below #[Value.ref b] s) (F0 m 338 ls [])) : W p l e room_1 s m #[Value.ref b] below meth c H locs 8 9481 (lw_Z below #[Value.ref b] s) (F0 m 302 ls []) := by
  obtain ⟨hx, hb, hr, hml, hown, hts, hX, hbl, hlocks, hgv⟩ := C0
  have hA : ∀ q : Nat, s.heap.size ≤ q → (fun q : Nat => s.heap.size ≤ q) q := fun _ h => h
  have hbA : ¬ (fun q : Nat => s.heap.size ≤ q) b := Nat.not_le.mpr hbl
  have hcc : 8 + 0 ≤ 8 := Nat.le_refl 8
  have hss : 9481 + 0 ≤ 9481 := Nat.le_refl 9481
  refine lv_aload_n hx hb d_law_302 rfl (lv_at hl 1 rfl) ?_
  have hPc := hP.sub (ws' := (ws_Bank h0 h1 h2 h3 h4 kC kM kR tab u)) [0, 1, 2, 3, 4] rfl
  have hKc := hK.sub (tys' := ty_Bank kC kM kR) [0, 1, 2] rfl
  have hDc := hD.sub (ws' := (ws_Bank h0 h1 h2 h3 h4 kC kM kR tab u)) [0, 1, 2, 3, 4] (by decide) rfl
  have hFc := va_free (wc := (ws_Bank h0 h1 h2 h3 h4 kC kM kR tab u)) hD hS hA [0, 1, 2, 3, 4] rfl
  refine va_calli (va_runV (As := []) (rest := []) ⟨hx, hb, hml, hown, hts⟩ (c_Bank_seal l dC dI H.size h0 h1 h2 h3 h4 kC kM kR tab u hu hT ) (cwV 0 hts g_law_Bank_seal rfl rfl rfl (by decide +kernel) ⟨Nat.le_of_ble_eq_true rfl, Nat.le_of_ble_eq_true rfl⟩) ⟨fun a U g mk q => by obtain ⟨q0, q1, qP, qK, qD⟩ := q; exact ⟨q0, q1, qP, va_K.moved (u := U) (U := U.calling g mk a) (Vm.Alike.refl U.vm) qK, qD⟩, va_recv hKc hPc (ci := 1) (q0 := 0) rfl rfl, fun U hU hW => ⟨rfl, by rw [hU], by rw [hU]; exact hPc, va_K.moved hW.alike hKc, hDc.weaken (fun _ _ _ _ => trivial)⟩⟩ rfl rfl hl.1 rfl (lv_room (Nat.le_of_ble_eq_true rfl)) d_law_303 ⟨hcc, hss⟩) hS (fun q _ h => hFc q h) hFc (fun r1 v1 t9 H locs ht9 hvm9 hw1 hB hz9 hk9 hS => ?_)
  obtain ⟨hP1, hK1, hD1⟩ := hB
  rw [ht9] at hP1
  obtain ⟨hw1, hv1⟩ := hw1
  obtain ⟨hP, hD⟩ := va_join (wr := (ws_Model g0 g1 g2 jM jR u)) (w1 := (ws_Bank h0 h1 h2 h3 h4 kC kM kR tab v1)) hP hD [0, 1, 2, 3, 4] [5, 6, 7] rfl rfl (by decide) (by decide) hk9 hFc hP1 hD1
  refine W.widen (k := 8) (n := 9481) (Nat.le_refl 8) (Nat.le_refl 9481) ?_
  refine lv_aload_n hx hb d_law_306 rfl (lv_at hl 2 rfl) ?_
  have hPc := hP.sub (ws' := (ws_Model g0 g1 g2 jM jR u)) [0, 1, 2] rfl
  have hDc := hD.sub (ws' := (ws_Model g0 g1 g2 jM jR u)) [0, 1, 2] (by decide) rfl
  have hKc := hK.sub (tys' := ty_Model jM jR) [3, 4] rfl
  have hFc := va_free (wc := (ws_Model g0 g1 g2 jM jR u)) hD hS hA [0, 1, 2] rfl
  refine va_calli (va_runV (As := []) (rest := [.int r1]) ⟨hx, hb, hml, hown, hts⟩ (c_Model_seal l dC dI H.size g0 g1 g2 jM jR u hu ) (cwV 0 hts g_law_Model_seal rfl rfl rfl (by decide +kernel) ⟨Nat.le_of_ble_eq_true rfl, Nat.le_of_ble_eq_true rfl⟩) ⟨fun a U g mk q => by obtain ⟨q0, q1, qP, qK, qD⟩ := q; exact ⟨q0, q1, qP, va_K.moved (u := U) (U := U.calling g mk a) (Vm.Alike.refl U.vm) qK, qD⟩, va_recv hKc hPc (ci := 2) (q0 := 0) rfl rfl, fun U hU hW => ⟨rfl, by rw [hU], by rw [hU]; exact hPc, va_K.moved hW.alike hKc, hDc.weaken (fun _ _ _ _ => trivial)⟩⟩ rfl rfl hl.1 rfl (lv_room (Nat.le_of_ble_eq_true rfl)) d_law_307 ⟨hcc, hss⟩) hS (fun q _ h => hFc q h) hFc (fun r2 v2 t9 H locs ht9 hvm9 hw2 hB hz9 hk9 hS => ?_)
  obtain ⟨hP1, hK1, hD1⟩ := hB
  rw [ht9] at hP1
  obtain ⟨hw2, hv2⟩ := hw2
  obtain ⟨hP, hD⟩ := va_join (wr := (ws_Bank h0 h1 h2 h3 h4 kC kM kR tab v1)) (w1 := (ws_Model g0 g1 g2 jM jR v2)) hP hD [0, 1, 2] [3, 4, 5, 6, 7] rfl rfl (by decide) (by decide) hk9 hFc hP1 hD1
  refine W.widen (k := 8) (n := 9481) (Nat.le_refl 8) (Nat.le_refl 9481) ?_
  refine lv_icmp_eq (tgt := 338) hx hb d_law_310 (by decide) (fun c1 => ?_) (fun c1 => ?_)
  · subst hv1
    subst hv2
    exact kk _ H locs (mb_ok_seal hu) hP hD hS
  · exact absurd (hw1.trans hw2.symm) c1
set_option maxHeartbeats 4000000 in
set_option maxRecDepth 100000 in
/-- case 9: at -/
theorem law_9 {p : Program} {l : Launch} {e : Env} {s : State} {m : MethodId} {below : List Frame} {meth : Method} {c : Code} {dC : Nat → ClassId} {dI : Nat → Nat → Nat} {b L : Nat} {xs : Nat → Int32} {h0 h1 h2 h3 h4 g0 g1 g2 : Nat} {kC kM kR jM jR : ClassId} {tab : Nat → Int32} (hL : L ≤ 2048) (C0 : lw_At p s m meth c b L xs) (hT : mb_okT tab) (hK : va_K (dC, dI) classes (ty_Law kC kM kR jM jR) s) {i : Nat} (hi : i + 4 ≤ L) {u : mb_S} (hu : mb_ok u) {H : Heap} {locs : List Loc} {ls : Array Slot} (hP : va_P (dC, dI) classes (ws_Law h0 h1 h2 h3 h4 g0 g1 g2 kC kM kR jM jR tab u) H) (hD : va_D (fun q : Nat => s.heap.size ≤ q) (ws_Law h0 h1 h2 h3 h4 g0 g1 g2 kC kM kR jM jR tab u)) (hS : va_S (fun q : Nat => s.heap.size ≤ q) s.heap H locs) (hl : lv_has ls 4 [(0, .ref b), (1, .ref h0), (2, .ref g0), (3, .int (nI i))])
    (kk : ∀ (v : mb_S) (H : Heap) (locs : List Loc), mb_ok v → va_P (dC, dI) classes (ws_Law h0 h1 h2 h3 h4 g0 g1 g2 kC kM kR jM jR tab v) H → va_D (fun q : Nat => s.heap.size ≤ q) (ws_Law h0 h1 h2 h3 h4 g0 g1 g2 kC kM kR jM jR tab v) → va_S (fun q : Nat => s.heap.size ≤ q) s.heap H locs → W p l e room_1 s m #[Value.ref b] below meth c H locs 8 9481 (lw_Z below #[Value.ref b] s) (F0 m 338 ls [])) : W p l e room_1 s m #[Value.ref b] below meth c H locs 8 9481 (lw_Z below #[Value.ref b] s) (F0 m 315 ls []) := by
  obtain ⟨hx, hb, hr, hml, hown, hts, hX, hbl, hlocks, hgv⟩ := C0
  have hA : ∀ q : Nat, s.heap.size ≤ q → (fun q : Nat => s.heap.size ≤ q) q := fun _ h => h
  have hbA : ¬ (fun q : Nat => s.heap.size ≤ q) b := Nat.not_le.mpr hbl
  have hcc : 8 + 0 ≤ 8 := Nat.le_refl 8
  have hss : 9481 + 0 ≤ 9481 := Nat.le_refl 9481
  refine lv_aload_n hx hb d_law_315 rfl (lv_at hl 1 rfl) ?_
  refine lv_aload_n hx hb d_law_316 rfl (lv_at hl 0 rfl) ?_
  refine lv_iload_n hx hb d_law_317 rfl (lv_at hl 3 rfl) ?_
  refine lv_iconst (v := nI 1) hx hb d_law_318 (by decide) ?_
  refine lv_iadd hx hb d_law_319 ?_
  refine mb_top (x := (nI i) + (nI 1)) (y := nI (i + 1)) (nI_add i 1) ?_
  refine mb_sld (k := i + 1) hx hb hX hbl hbA hS (by omega) hL d_law_320 ?_
  have hPc := hP.sub (ws' := (ws_Bank h0 h1 h2 h3 h4 kC kM kR tab u)) [0, 1, 2, 3, 4] rfl
  have hKc := hK.sub (tys' := ty_Bank kC kM kR) [0, 1, 2] rfl
  have hFc := mb_free hS hA
  refine va_calli (va_runV (As := [.int (xs (i + 1))]) (rest := []) ⟨hx, hb, hml, hown, hts⟩ (c_Bank_at l dC dI H.size h0 h1 h2 h3 h4 kC kM kR tab u (xs (i + 1))) (cwV 1 hts g_law_Bank_at rfl rfl rfl (by decide +kernel) ⟨Nat.le_of_ble_eq_true rfl, Nat.le_of_ble_eq_true rfl⟩) ⟨fun a U g mk q => by obtain ⟨q0, q1, qP, qK⟩ := q; exact ⟨q0, q1, qP, va_K.moved (u := U) (U := U.calling g mk a) (Vm.Alike.refl U.vm) qK⟩, va_recv hKc hPc (ci := 1) (q0 := 0) rfl rfl, fun U hU hW => ⟨rfl, by rw [hU], by rw [hU]; exact hPc, va_K.moved hW.alike hKc⟩⟩ rfl rfl hl.1 rfl (lv_room (Nat.le_of_ble_eq_true rfl)) d_law_321 ⟨hcc, hss⟩) hS (fun q _ h => hFc q h) hFc (fun r1 v1 t9 H locs ht9 hvm9 hw1 hB hz9 hk9 hS => ?_)
  have hP := mb_keep hP hk9
  refine W.widen (k := 8) (n := 9481) (Nat.le_refl 8) (Nat.le_refl 9481) ?_
  refine lv_aload_n hx hb d_law_324 rfl (lv_at hl 2 rfl) ?_
  refine lv_aload_n hx hb d_law_325 rfl (lv_at hl 0 rfl) ?_
  refine lv_iload_n hx hb d_law_326 rfl (lv_at hl 3 rfl) ?_
  refine lv_iconst (v := nI 1) hx hb d_law_327 (by decide) ?_
  refine lv_iadd hx hb d_law_328 ?_
  refine mb_top (x := (nI i) + (nI 1)) (y := nI (i + 1)) (nI_add i 1) ?_
  refine mb_sld (k := i + 1) hx hb hX hbl hbA hS (by omega) hL d_law_329 ?_
  have hPc := hP.sub (ws' := (ws_Model g0 g1 g2 jM jR u)) [5, 6, 7] rfl
  have hDc := hD.sub (ws' := (ws_Model g0 g1 g2 jM jR u)) [5, 6, 7] (by decide) rfl
  have hKc := hK.sub (tys' := ty_Model jM jR) [3, 4] rfl
  have hFc := va_free (wc := (ws_Model g0 g1 g2 jM jR u)) hD hS hA [5, 6, 7] rfl
  refine va_calli (va_runV (As := [.int (xs (i + 1))]) (rest := [.int r1]) ⟨hx, hb, hml, hown, hts⟩ (c_Model_at l dC dI H.size g0 g1 g2 jM jR u hu (xs (i + 1))) (cwV 1 hts g_law_Model_at rfl rfl rfl (by decide +kernel) ⟨Nat.le_of_ble_eq_true rfl, Nat.le_of_ble_eq_true rfl⟩) ⟨fun a U g mk q => by obtain ⟨q0, q1, qP, qK, qD⟩ := q; exact ⟨q0, q1, qP, va_K.moved (u := U) (U := U.calling g mk a) (Vm.Alike.refl U.vm) qK, qD⟩, va_recv hKc hPc (ci := 2) (q0 := 0) rfl rfl, fun U hU hW => ⟨rfl, by rw [hU], by rw [hU]; exact hPc, va_K.moved hW.alike hKc, hDc.weaken (fun _ _ _ _ => trivial)⟩⟩ rfl rfl hl.1 rfl (lv_room (Nat.le_of_ble_eq_true rfl)) d_law_330 ⟨hcc, hss⟩) hS (fun q _ h => hFc q h) hFc (fun r2 v2 t9 H locs ht9 hvm9 hw2 hB hz9 hk9 hS => ?_)
  obtain ⟨hP1, hK1, hD1⟩ := hB
  rw [ht9] at hP1
  obtain ⟨hw2, hv2⟩ := hw2
  obtain ⟨hP, hD⟩ := va_join (wr := (ws_Bank h0 h1 h2 h3 h4 kC kM kR tab u)) (w1 := (ws_Model g0 g1 g2 jM jR v2)) hP hD [5, 6, 7] [0, 1, 2, 3, 4] rfl rfl (by decide) (by decide) hk9 hFc hP1 hD1
  refine W.widen (k := 8) (n := 9481) (Nat.le_refl 8) (Nat.le_refl 9481) ?_
  refine lv_icmp_eq (tgt := 338) hx hb d_law_333 (by decide) (fun c1 => ?_) (fun c1 => ?_)
  · subst hv2
    exact kk _ H locs hu hP hD hS
  · exact absurd (hw1.trans hw2.symm) c1
end
section
set_option maxHeartbeats 4000000 in
set_option maxRecDepth 100000 in
/-- THE LAW'S LOOP: at its head, with i ints read, both hold the same state -/
theorem law_loop {p : Program} {l : Launch} {e : Env} {s : State} {m : MethodId} {below : List Frame} {meth : Method} {c : Code} {dC : Nat → ClassId} {dI : Nat → Nat → Nat} {b L : Nat} {xs : Nat → Int32} {h0 h1 h2 h3 h4 g0 g1 g2 : Nat} {kC kM kR jM jR : ClassId} {tab : Nat → Int32} (hL : L ≤ 2048) (C0 : lw_At p s m meth c b L xs) (hT : mb_okT tab) (hK : va_K (dC, dI) classes (ty_Law kC kM kR jM jR) s) :
    ∀ (n i : Nat), i ≤ L → L < i + n → ∀ (u : mb_S), mb_ok u → ∀ (H : Heap) (locs : List Loc) (ls : Array Slot), va_P (dC, dI) classes (ws_Law h0 h1 h2 h3 h4 g0 g1 g2 kC kM kR jM jR tab u) H → va_D (fun q : Nat => s.heap.size ≤ q) (ws_Law h0 h1 h2 h3 h4 g0 g1 g2 kC kM kR jM jR tab u) → va_S (fun q : Nat => s.heap.size ≤ q) s.heap H locs → lv_has ls 4 [(0, .ref b), (1, .ref h0), (2, .ref g0), (3, .int (nI i))] → W p l e room_1 s m #[Value.ref b] below meth c H locs 8 9481 (lw_Z below #[Value.ref b] s) (F0 m 18 ls []) := by
  obtain ⟨hx, hb, hr, hml, hown, hts, hX, hbl, hlocks, hgv⟩ := id C0
  have hbA : ¬ (fun q : Nat => s.heap.size ≤ q) b := Nat.not_le.mpr hbl
  intro n
  induction n with
  | zero => intro i z1 z2; exact absurd z2 (by omega)
  | succ n ih =>
    intro i hi hd u hu H locs ls hP hD hS hl
    refine lv_iload_n hx hb d_law_18 rfl (lv_at hl 3 rfl) ?_
    refine lv_aload_n hx hb d_law_19 rfl (lv_at hl 0 rfl) ?_
    refine va_slen hx hb hX hbl hbA hS d_law_20 ?_
    refine lv_iconst (v := nI 4) hx hb d_law_21 (by decide) ?_
    refine lv_isub hx hb d_law_22 ?_
    refine lv_icmp_gt (tgt := 344) hx hb d_law_23 (by decide) (fun c1 => ?_) (fun c1 => ?_)
    · refine lv_iconst (v := nI 1) hx hb d_law_344 (by decide) ?_
      refine va_forget (fun q hq => hS.2.2 q hq) ?_
      exact lw_ret hx hb hr hlocks d_law_345
    · have hi4 : i + 4 ≤ L := mb_l4 hL hi c1
      have next : ∀ (v : mb_S) (H : Heap) (locs : List Loc), mb_ok v → va_P (dC, dI) classes (ws_Law h0 h1 h2 h3 h4 g0 g1 g2 kC kM kR jM jR tab v) H → va_D (fun q : Nat => s.heap.size ≤ q) (ws_Law h0 h1 h2 h3 h4 g0 g1 g2 kC kM kR jM jR tab v) → va_S (fun q : Nat => s.heap.size ≤ q) s.heap H locs → W p l e room_1 s m #[Value.ref b] below meth c H locs 8 9481 (lw_Z below #[Value.ref b] s) (F0 m 338 ls []) := by
        intro v H locs hv hP hD hS
        refine lv_iinc (v := nI (i + 4)) (lv' := [(3, .int (nI (i + 4))), (0, .ref b), (1, .ref h0), (2, .ref g0)]) hx hb d_law_338 hl (k := 3) rfl (nI_add i 4) (by decide) rfl (fun ls hl => ?_)
        refine lv_goto (tgt := 18) hx hb d_law_341 (by decide) ?_
        exact ih (i + 4) hi4 (by omega) v hv H locs ls hP hD hS (lv_sub hl [1, 2, 3, 0] rfl)
      refine lv_aload_n hx hb d_law_26 rfl (lv_at hl 0 rfl) ?_
      refine lv_iload_n hx hb d_law_27 rfl (lv_at hl 3 rfl) ?_
      refine mb_sld (k := i) hx hb hX hbl hbA hS (by omega) hL d_law_28 ?_
      refine lv_bipush (v := nI 15) hx hb d_law_29 (by decide +kernel) ?_
      refine lv_iand hx hb d_law_31 ?_
      obtain ⟨j, hj, ej⟩ := pk_andE (xs i) (m := nI 15) 4 (by decide)
      refine mb_top (x := (xs i) &&& (nI 15)) (y := nI j) (ej) ?_
      rcases (show j = 0 ∨ j = 1 ∨ j = 2 ∨ j = 3 ∨ j = 4 ∨ j = 5 ∨ j = 6 ∨ j = 7 ∨ j = 8 ∨ j = 9 ∨ 10 ≤ j by omega) with rfl | rfl | rfl | rfl | rfl | rfl | rfl | rfl | rfl | rfl | hj2
      · refine lv_tableIn (off := 56) (tgt := 88) hx hb d_law_32 (by decide) (by decide) rfl (by decide) ?_
        exact law_0 hL C0 hT hK hi4 hu hP hD hS hl next
      · refine lv_tableIn (off := 79) (tgt := 111) hx hb d_law_32 (by decide) (by decide) rfl (by decide) ?_
        exact law_1 hL C0 hT hK hi4 hu hP hD hS hl next
      · refine lv_tableIn (off := 102) (tgt := 134) hx hb d_law_32 (by decide) (by decide) rfl (by decide) ?_
        exact law_2 hL C0 hT hK hi4 hu hP hD hS hl next
      · refine lv_tableIn (off := 115) (tgt := 147) hx hb d_law_32 (by decide) (by decide) rfl (by decide) ?_
        exact law_3 hL C0 hT hK hi4 hu hP hD hS hl next
      · refine lv_tableIn (off := 138) (tgt := 170) hx hb d_law_32 (by decide) (by decide) rfl (by decide) ?_
        exact law_4 hL C0 hT hK hi4 hu hP hD hS hl next
      · refine lv_tableIn (off := 181) (tgt := 213) hx hb d_law_32 (by decide) (by decide) rfl (by decide) ?_
        exact law_5 hL C0 hT hK hi4 hu hP hD hS hl next
      · refine lv_tableIn (off := 214) (tgt := 246) hx hb d_law_32 (by decide) (by decide) rfl (by decide) ?_
        exact law_6 hL C0 hT hK hi4 hu hP hD hS hl next
      · refine lv_tableIn (off := 247) (tgt := 279) hx hb d_law_32 (by decide) (by decide) rfl (by decide) ?_
        exact law_7 hL C0 hT hK hi4 hu hP hD hS hl next
      · refine lv_tableIn (off := 270) (tgt := 302) hx hb d_law_32 (by decide) (by decide) rfl (by decide) ?_
        exact law_8 hL C0 hT hK hi4 hu hP hD hS hl next
      · refine lv_tableIn (off := 283) (tgt := 315) hx hb d_law_32 (by decide) (by decide) rfl (by decide) ?_
        exact law_9 hL C0 hT hK hi4 hu hP hD hS hl next
      · refine lv_tableOut (tgt := 338) hx hb d_law_32 (Or.inr (by rw [nI_toInt (by omega)]; omega)) (by decide) ?_
        exact next u H locs hu hP hD hS
set_option maxHeartbeats 4000000 in
set_option maxRecDepth 100000 in
/-- THE LAW, from its entry -/
theorem whole_start {p : Program} {e : Env} {s : State} {m : MethodId} {below : List Frame} {meth : Method} {c : Code} (l : Launch) {b L : Nat} {xs : Nat → Int32} (hL : L ≤ 2048) (C0 : lw_At p s m meth c b L xs) : W p l e room_1 s m #[Value.ref b] below meth c s.heap [] 0 0 (lw_Z below #[Value.ref b] s) (entryFrame m ([Value.ref b] : List Value).toArray 4) := by
  obtain ⟨hx, hb, hr, hml, hown, hts, hX, hbl, hlocks, hgv⟩ := id C0
  have hA : ∀ q : Nat, s.heap.size ≤ q → (fun q : Nat => s.heap.size ≤ q) q := fun _ h => h
  obtain ⟨c0, iS0, hKn0⟩ := u_known (C := R_Sums) (T := F_Sums) (N := 1) (n := 1) hts i_Sums (hts (.instantiable R_Sums 1) (by decide +kernel))
  obtain ⟨c1, iS1, hKn1⟩ := u_known (C := R_Bank) (T := F_Bank) (N := 4) (n := 4) hts i_Bank (hts (.instantiable R_Bank 4) (by decide +kernel))
  obtain ⟨c2, iS2, hKn2⟩ := u_known (C := R_Model) (T := F_Model) (N := 4) (n := 4) hts i_Model (hts (.instantiable R_Model 4) (by decide +kernel))
  obtain ⟨dC, dI, hKc⟩ : ∃ (dC : Nat → ClassId) (dI : Nat → Nat → Nat), ∀ (k : Nat) (q : vw_C), classes[k]? = some q → u_Kn s q.1 q.2.1 q.2.2 (dC k) (dI k) := by
    refine ⟨fun k => if k = 0 then c0 else if k = 1 then c1 else c2, fun k => if k = 0 then iS0 else if k = 1 then iS1 else iS2, ?_⟩
    intro k q hq
    match k, hq with
    | 0, hq => cases hq; exact hKn0
    | 1, hq => cases hq; exact hKn1
    | 2, hq => cases hq; exact hKn2
    | k + 3, hq => simp [classes] at hq
  have hS : va_S (fun q : Nat => s.heap.size ≤ q) s.heap s.heap [] := va_S.rf
  have hK : va_K (dC, dI) classes [] s := ⟨hKc, fun k q h => by simp at h⟩
  have hP : va_P (dC, dI) classes [] s.heap := fun k q h => by simp at h
  have hD : va_D (fun q : Nat => s.heap.size ≤ q) [] := ⟨fun i j p q h => by simp at h, fun k q h => by simp at h⟩
  have hl := lv_entry ([.ref b]) (n := 4) (Nat.le_of_ble_eq_true rfl)
  rw [lg_entry_eq]
  generalize (lg_sl ([.ref b]) ++ List.replicate (4 - (lg_sl ([.ref b])).length) Slot.unset).toArray = ls at hl ⊢
  have hl : lv_has ls 4 [(0, .ref b)] := hl
  have hc9 : 0 + 1 ≤ 8 := by decide
  have hs9 : 0 + 4 ≤ 9481 := by decide
  refine va_new (ci := 1) (fs := [.null, .null, .null, .int 0]) (C := R_Bank) (T := F_Bank) (N := 4) hx hb hts i_Bank t_Bank t_Bank_ok hown (hts (.classLink R_law 7 R_Bank) (by decide +kernel)) (hts (.instantiable R_Bank 4) (by decide +kernel)) (hts (.initialized R_Bank) (by decide +kernel)) hK hP hD hS hA rfl (fun j hj => by rcases (show j = 0 ∨ j = 1 ∨ j = 2 ∨ j = 3 by omega) with rfl | rfl | rfl | rfl <;> rfl) hc9 hs9 d_law_0 (fun h0 H hP hD hS => ?_)
  have hP : va_P (dC, dI) classes [(h0, .inr (1, [.null, .null, .null, .int 0]))] H := hP
  have hD : va_D (fun q : Nat => s.heap.size ≤ q) [(h0, .inr (1, [.null, .null, .null, .int 0]))] := hD
  refine W.widen (k := 1) (n := 4) (by omega) (by omega) ?_
  refine lv_dup hx hb d_law_3 rfl ?_
  have hPc := hP.sub (ws' := [(h0, .inr (1, [.null, .null, .null, .int 0]))]) [0] rfl
  have hDc := hD.sub (ws' := [(h0, .inr (1, [.null, .null, .null, .int 0]))]) [0] (by decide) rfl
  have hKc := hK.sub (tys' := []) [] rfl
  have hFc := va_free (wc := [(h0, .inr (1, [.null, .null, .null, .int 0]))]) hD hS hA [0] rfl
  have hkc : 1 + 4 ≤ 8 := by decide
  have hks : 4 + 4865 ≤ 9481 := by decide
  refine va_callv (va_runI (As := []) (rest := [.ref h0]) ⟨hx, hb, hml, hown, hts⟩ (c_Bank_init l dC dI H.size h0) (cwI 0 hts g_law_Bank_init rfl rfl rfl (hts (.initialized R_Bank) (by decide +kernel)) (hts (.methodLink R_law 9 y_Bank_init) (by decide +kernel)) (hts (.instanceMethod y_Bank_init) (by decide +kernel)) rfl (by decide +kernel) ⟨Nat.le_of_ble_eq_true rfl, Nat.le_of_ble_eq_true rfl⟩) ⟨fun a U g mk q => by obtain ⟨q0, q1, qP, qK, qD⟩ := q; exact ⟨q0, q1, qP, va_K.moved (u := U) (U := U.calling g mk a) (Vm.Alike.refl U.vm) qK, qD⟩, fun U hU hW => ⟨rfl, by rw [hU], by rw [hU]; exact hPc, va_K.moved hW.alike hKc, hDc.weaken (fun _ _ _ _ => trivial)⟩⟩ rfl rfl hl.1 rfl (lv_room (Nat.le_of_ble_eq_true rfl)) d_law_4 ⟨hkc, hks⟩) hS (fun q _ h => hFc q h) hFc (fun tab t9 H locs ht9 hvm9 hT hB hz9 hk9 hS => ?_)
  obtain ⟨h1, h2, h3, h4, kC, kM, kR, hP1, hK1, hD1⟩ := hB
  rw [ht9] at hP1
  obtain ⟨hP, hD⟩ := va_join (wr := []) (w1 := ws_Bank h0 h1 h2 h3 h4 kC kM kR tab (fun _ => 0, fun _ => 0, 0)) hP hD [0] [] rfl rfl (by decide) (by decide) hk9 hFc hP1 hD1
  refine W.widen (k := 5) (n := 4869) (by omega) (by omega) ?_
  have hK : va_K (dC, dI) classes (ty_Bank kC kM kR) s := va_K.moved hvm9.symm hK1
  have hP : va_P (dC, dI) classes [(h0, .inr (1, [.ref h1, .ref h3, .ref h4, .int (nI 0)])), (h1, .inr (0, [.ref h2])), (h2, .inl (kC, 256, .inl tab)), (h3, .inl (kM, 4096, .inl (fun _ => 0))), (h4, .inl (kR, 512, .inl (fun _ => 0)))] H := hP
  have hD : va_D (fun q : Nat => s.heap.size ≤ q) [(h0, .inr (1, [.ref h1, .ref h3, .ref h4, .int (nI 0)])), (h1, .inr (0, [.ref h2])), (h2, .inl (kC, 256, .inl tab)), (h3, .inl (kM, 4096, .inl (fun _ => 0))), (h4, .inl (kR, 512, .inl (fun _ => 0)))] := hD
  refine lv_astore_n (lv' := [(1, .ref h0), (0, .ref b)]) hx hb d_law_7 rfl hl (by decide) rfl (fun ls hl => ?_)
  have hc9 : 5 + 1 ≤ 8 := by decide
  have hs9 : 4869 + 4 ≤ 9481 := by decide
  refine va_new (ci := 2) (fs := [.int 0, .null, .null, .int 0]) (C := R_Model) (T := F_Model) (N := 4) hx hb hts i_Model t_Model t_Model_ok hown (hts (.classLink R_law 10 R_Model) (by decide +kernel)) (hts (.instantiable R_Model 4) (by decide +kernel)) (hts (.initialized R_Model) (by decide +kernel)) hK hP hD hS hA rfl (fun j hj => by rcases (show j = 0 ∨ j = 1 ∨ j = 2 ∨ j = 3 by omega) with rfl | rfl | rfl | rfl <;> rfl) hc9 hs9 d_law_8 (fun g0 H hP hD hS => ?_)
  have hP : va_P (dC, dI) classes [(h0, .inr (1, [.ref h1, .ref h3, .ref h4, .int (nI 0)])), (h1, .inr (0, [.ref h2])), (h2, .inl (kC, 256, .inl tab)), (h3, .inl (kM, 4096, .inl (fun _ => 0))), (h4, .inl (kR, 512, .inl (fun _ => 0))), (g0, .inr (2, [.int 0, .null, .null, .int 0]))] H := hP
  have hD : va_D (fun q : Nat => s.heap.size ≤ q) [(h0, .inr (1, [.ref h1, .ref h3, .ref h4, .int (nI 0)])), (h1, .inr (0, [.ref h2])), (h2, .inl (kC, 256, .inl tab)), (h3, .inl (kM, 4096, .inl (fun _ => 0))), (h4, .inl (kR, 512, .inl (fun _ => 0))), (g0, .inr (2, [.int 0, .null, .null, .int 0]))] := hD
  refine W.widen (k := 6) (n := 4873) (by omega) (by omega) ?_
  refine lv_dup hx hb d_law_11 rfl ?_
  have hPc := hP.sub (ws' := [(g0, .inr (2, [.int 0, .null, .null, .int 0]))]) [5] rfl
  have hDc := hD.sub (ws' := [(g0, .inr (2, [.int 0, .null, .null, .int 0]))]) [5] (by decide) rfl
  have hKc := hK.sub (tys' := []) [] rfl
  have hFc := va_free (wc := [(g0, .inr (2, [.int 0, .null, .null, .int 0]))]) hD hS hA [5] rfl
  have hkc : 6 + 2 ≤ 8 := by decide
  have hks : 4873 + 4608 ≤ 9481 := by decide
  refine va_callv (va_runI (As := []) (rest := [.ref g0]) ⟨hx, hb, hml, hown, hts⟩ (c_Model_init l dC dI H.size g0) (cwI 0 hts g_law_Model_init rfl rfl rfl (hts (.initialized R_Model) (by decide +kernel)) (hts (.methodLink R_law 12 y_Model_init) (by decide +kernel)) (hts (.instanceMethod y_Model_init) (by decide +kernel)) rfl (by decide +kernel) ⟨Nat.le_of_ble_eq_true rfl, Nat.le_of_ble_eq_true rfl⟩) ⟨fun a U g mk q => by obtain ⟨q0, q1, qP, qK, qD⟩ := q; exact ⟨q0, q1, qP, va_K.moved (u := U) (U := U.calling g mk a) (Vm.Alike.refl U.vm) qK, qD⟩, fun U hU hW => ⟨rfl, by rw [hU], by rw [hU]; exact hPc, va_K.moved hW.alike hKc, hDc.weaken (fun _ _ _ _ => trivial)⟩⟩ rfl rfl hl.1 rfl (lv_room (Nat.le_of_ble_eq_true rfl)) d_law_12 ⟨hkc, hks⟩) hS (fun q _ h => hFc q h) hFc (fun u9 t9 H locs ht9 hvm9 hw9 hB hz9 hk9 hS => ?_)
  obtain ⟨g1, g2, jM, jR, hP1, hK1, hD1⟩ := hB
  rw [ht9] at hP1
  obtain ⟨hP, hD⟩ := va_join (wr := (ws_Bank h0 h1 h2 h3 h4 kC kM kR tab (fun _ => 0, fun _ => 0, 0))) (w1 := ws_Model g0 g1 g2 jM jR (fun _ => 0, fun _ => 0, 0)) hP hD [5] [0, 1, 2, 3, 4] rfl rfl (by decide) (by decide) hk9 hFc hP1 hD1
  refine W.widen (k := 8) (n := 9481) (by omega) (by omega) ?_
  have hK : va_K (dC, dI) classes (ty_Law kC kM kR jM jR) s := hK.app (va_K.moved hvm9.symm hK1)
  refine lv_astore_n (lv' := [(2, .ref g0), (1, .ref h0), (0, .ref b)]) hx hb d_law_15 rfl hl (by decide) rfl (fun ls hl => ?_)
  refine lv_iconst (v := nI 0) hx hb d_law_16 (by decide) ?_
  refine lv_istore_n (lv' := [(3, .int (nI 0)), (2, .ref g0), (1, .ref h0), (0, .ref b)]) hx hb d_law_17 rfl hl (by decide) rfl (fun ls hl => ?_)
  exact law_loop hL C0 hT hK (L + 1) 0 (Nat.zero_le L) (by omega) (fun _ => 0, fun _ => 0, 0) mb_ok_0 H locs ls hP hD hS (lv_sub hl [3, 2, 1, 0] rfl)
end
section
set_option maxHeartbeats 4000000 in
theorem lw_walk (l : Launch) (b : Addr) (xs : List Int32) : MetFree l x (headSpec (Jvm.Cond.code x code maxLocals ret :: tables_1) room_1) (lw_P b xs) (fun _ _ _ _ _ => True) lw_Q := by
  refine MetFree.of_bodyS (code := code) (maxLocals := maxLocals) (ret := ret) (by decide) ?_ ?_
  · intro args s m h hn
    obtain ⟨meth, c, h1, h2, h3, h4, h5, h6, -, -⟩ := Cond.code_spec hn (atoms_spec (ws := Jvm.Cond.code x code maxLocals ret :: tables_1) h _ List.mem_cons_self)
    exact ⟨meth, c, h1, h2, h3, h4, h5, h6⟩
  · intro p e s m args below meth c s₁ B hml0 hP _
    obtain ⟨rfl, hx, hbd, hgv⟩ := hP
    obtain ⟨scr, harrAt, hlist, hof, hsmall⟩ := hx
    obtain ⟨hcb, hkn, -, -⟩ := State.arrayAt?_spec harrAt
    have hown : s.vm.findClass R_law = some m.cls := findClass_of_methodNamed B.named
    have hts0 : ∀ c ∈ (Jvm.Cond.code x code maxLocals ret :: tables_1), c.before #[Value.ref b] s = true := atoms_spec (ws := Jvm.Cond.code x code maxLocals ret :: tables_1) B.pre
    have hts : ∀ w ∈ lw_tbl, w.before #[Value.ref b] s = true := k2_hts_sels lw_privs (fun w hw => hts0 w (List.mem_cons_of_mem _ hw)) lw_privs_ok
    have hml : c.maxLocals = 4 := B.maxLocals_eq (hts0 _ List.mem_cons_self)
    have X₀ : Stand p l e room_1 s m #[Value.ref b] below meth c s₁ [] 0 0 := Stand.of_body B
    have hh0 : s₁.heap = s.heap := by rw [B.state]; rfl
    have hsz : scr.slots.size = xs.length := by rw [← Array.length_toList, hlist, List.length_map]
    have hval : ∀ j : Nat, j < xs.length → scr.slots[j]? = some (.int (xs.getD j 0)) := fun j hj => by
      rw [← Array.getElem?_toList, hlist]
      simp [hj]
    have hbl : b < s.heap.size := (Array.getElem?_eq_some_iff.mp hcb).1
    have hX : va_X b xs.length (fun j => xs.getD j 0) s s.heap := ⟨scr, hcb, hof, hkn, hsz, hval⟩
    have K : W p l e room_1 s m #[Value.ref b] below meth c s₁.heap [] 0 0 (lw_Z below #[Value.ref b] s) (entryFrame m ([Value.ref b] : List Value).toArray 4) := by
      rw [hh0]
      exact whole_start l hbd ⟨B.exec, B.bytes, B.returns, hml, hown, hts, hX, hbl, B.notSynchronized, hgv⟩
    obtain ⟨t, a1, o, b1, b2, b3⟩ := K s₁ rfl X₀
    exact ⟨t, o, a1, b1, b2, b3⟩
theorem lw_pre_spec {args : Array Value} {s : State} (h : (Jvm.Cond.and given_1 narrow_1).before args s = true) (hr : rest_1_c.before args s = true) : ∃ (b : Addr) (xs : List Int32), lw_P b xs args s := by
  have hs := flat_of_before _ h
  have hq := flat_of_before _ hr
  have hc : (Cond.count 1).before args s = true := hs _ (by decide +kernel)
  have harr : (Cond.arrayOf (.arg 0) .int).before args s = true := hs _ (by decide +kernel)
  have hle : (Cond.le (.length (.arg 0)) (.int 2048)).before args s = true := hs _ (by decide +kernel)
  have hlen : (Cond.isInt (.length (.arg 0))).before args s = true := hq _ (by decide +kernel)
  have hall : (Cond.all (.arg 0) (.isInt (.elem (.arg 0) (.index 0)))).before args s = true := hq _ (by decide +kernel)
  obtain ⟨b, xs, hb, hx⟩ := State.ints_of_pre rfl harr hlen hall
  have hsm : xs.length < 2 ^ 31 := hx.choose_spec.2.2.2
  have hev : (Term.length (.arg 0)).eval args s none [] s = some (.int xs.length.toInt32) := hx.length_eval hb
  have hv := Cond.le_ints hev (show (Term.int 2048).eval args s none [] s = some (.int 2048) from rfl)
  have hd : xs.length.toInt32 ≤ 2048 := by
    simpa [Cond.before, Cond.holds, hv] using hle
  have hN : xs.length ≤ 2048 := (Int32.ofNat_le_ofNat hsm (by decide)).mp (show Int32.ofNat xs.length ≤ Int32.ofNat 2048 from hd)
  exact ⟨b, xs, Cond.one_arg hc (show args[0]? = some (.ref b) from hb), hx, hN, h⟩
theorem lw_comes (l : Launch) : Comes l x (Jvm.Cond.code x code maxLocals ret :: tables_1) room_1 (fun tb e args s => Calls_1 tb e args s ∧ rest_1 tb e args s ∧ Pre_1 tb e args s)
    (fun _ _ args s o t => lw_Q args s o t) := by
  intro p e ha hc hk s m args below hf hfit hheap happ hpre
  obtain ⟨b, xs, hP⟩ := lw_pre_spec hpre.2.2 hpre.2.1
  obtain ⟨k, o, h1, h2, h3, hQ⟩ := lw_walk l b xs p e ha hc hk s m args below hf ((Spec.applies_iff_loose hf).mp happ).1 hP trivial
  exact ⟨k, o, h1, h2, h3, hQ⟩
theorem lw_frame {s t : State} {o : Outcome} {args : Array Value} (h : Framed s o t [] 8 9481) :
    Framed s o t (fieldLocs frame_1_writes args s ++ arrayLocs frame_1_arrays args s ++ staticLocs frame_1_statics s) 8 9481 := h
theorem lw_limb (L : Cond) (hL : ∀ (args : Array Value) (s t : State), L.after args s (.returned (some (.int 1))) t = true) :
    ArmFor flags0 classFile x code maxLocals ret World_1 tables_1 room_1 Calls_1 rest_1 Pre_1
      (fun tb e a s o t => postC L tb e a s o t ∧ Framed s o t (fieldLocs frame_1_writes a s ++ arrayLocs frame_1_arrays a s ++ staticLocs frame_1_statics s) 8 9481) := by
  intro l _ _ _ p e ha hc hk s m args below hf hfit hheap happ hpre
  obtain ⟨k, o, h1, h2, h3, rfl, hF⟩ := lw_comes l p e ha hc hk s m args below hf hfit hheap happ hpre
  exact ⟨k, _, h1, h2, h3, hL args s _, lw_frame hF⟩
theorem i_vc : Claimed_1_1 ∧ Claimed_1_2 := ⟨lw_limb limb_1_1 (fun args s t => by simp [limb_1_1, Cond.after, Cond.holds, Cond.value]), lw_limb limb_1_2 (fun args s t => Cond.after_iff.mpr (by
  first | (rw [show limb_1_2 = Cond.eq .result (.int 1) from rfl, Cond.eq_ints (x := 1) (y := 1) rfl rfl]; simp; done) | (simp [limb_1_2, Cond.value, Term.eval]; done)))⟩
end
