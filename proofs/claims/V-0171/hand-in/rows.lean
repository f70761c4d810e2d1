section
/-! rows pasted from kit/rows (starting text): pk_us .. pk_shr, the bt family -/
theorem pk_us {f : Nat → Int32} {k : Nat} {x : Int32} : upd f k x k = x := if_pos rfl
theorem pk_un {f : Nat → Int32} {k j : Nat} {x : Int32} (h : j ≠ k) : upd f k x j = f j := if_neg h
theorem pk_tn {n : Nat} (h : n < 2 ^ 32) : (nI n).toBitVec.toNat = n := Nat.mod_eq_of_lt h
theorem pk_and (x : Int32) {m : Int32} (k : Nat) (hm : m.toBitVec.toNat = 2 ^ k - 1) : x &&& m = nI (x.toBitVec.toNat % 2 ^ k) := by
  apply Int32.toBitVec_inj.mp
  apply BitVec.eq_of_toNat_eq
  rw [Int32.toBitVec_and, BitVec.toNat_and, hm, Nat.and_two_pow_sub_one_eq_mod]
  show _ = (BitVec.ofNat 32 _).toNat
  rw [BitVec.toNat_ofNat]
  exact (Nat.mod_eq_of_lt (Nat.lt_of_le_of_lt (Nat.mod_le _ _) x.toBitVec.isLt)).symm
theorem pk_shl (a s : Int32) (k : Nat) (hs : (s.toBitVec.smod 32).toNat = k) : (a <<< s).toBitVec.toNat = a.toBitVec.toNat * 2 ^ k % 2 ^ 32 := by
  show (a.toBitVec <<< (s.toBitVec.smod 32).toNat).toNat = _
  rw [hs, BitVec.toNat_shiftLeft, Nat.shiftLeft_eq]
theorem pk_shr (a s : Int32) (k : Nat) (hs : (s.toBitVec.smod 32).toNat = k) : (a >>> s).toInt = a.toInt >>> k := by
  show (a.toBitVec.sshiftRight (s.toBitVec.smod 32).toNat).toInt = _
  rw [hs, BitVec.toInt_sshiftRight]
  rfl
/-! ===== Int32 by its bits: bt x i ===== -/
def bt (x : Int32) (i : Nat) : Bool := x.toBitVec.getLsbD i
theorem b_ext {x y : Int32} (h : ∀ i, i < 32 → bt x i = bt y i) : x = y := Int32.toBitVec_inj.mp (BitVec.eq_of_getLsbD_eq (fun i hi => h i hi))
theorem b_or (x y : Int32) (i : Nat) : bt (x ||| y) i = (bt x i || bt y i) := by unfold bt; rw [Int32.toBitVec_or, BitVec.getLsbD_or]
theorem b_and (x y : Int32) (i : Nat) : bt (x &&& y) i = (bt x i && bt y i) := by unfold bt; rw [Int32.toBitVec_and, BitVec.getLsbD_and]
theorem b_xor (x y : Int32) (i : Nat) : bt (x ^^^ y) i = (bt x i ^^ bt y i) := by unfold bt; rw [Int32.toBitVec_xor, BitVec.getLsbD_xor]
theorem b_big {x : Int32} {i : Nat} (h : 32 ≤ i) : bt x i = false := BitVec.getLsbD_of_ge _ _ h
theorem b_255 (i : Nat) : bt 255 i = decide (i < 8) := by
  rcases Nat.lt_or_ge i 32 with h | h
  · exact (by decide +kernel : ∀ i, i < 32 → bt 255 i = decide (i < 8)) i h
  · rw [b_big h, decide_eq_false (by omega)]
theorem b_65535 (i : Nat) : bt 65535 i = decide (i < 16) := by
  rcases Nat.lt_or_ge i 32 with h | h
  · exact (by decide +kernel : ∀ i, i < 32 → bt 65535 i = decide (i < 16)) i h
  · rw [b_big h, decide_eq_false (by omega)]
theorem b_m1 : ∀ i, i < 32 → bt (-1) i = true := by decide +kernel
theorem b_0 (i : Nat) : bt 0 i = false := BitVec.getLsbD_zero
theorem s_l : ∀ n, n < 32 → ((nI n &&& 31).toBitVec.smod 32).toNat = n := by decide +kernel
theorem s_u : ∀ n, n < 32 → (((nI n).toUInt32 &&& Int32.toUInt32 31).toBitVec % 32).toNat = n := by decide +kernel
theorem b_shl (n : Nat) (hn : n < 32) (x : Int32) {i : Nat} (hi : i < 32) : bt (x <<< (nI n &&& 31)) i = (decide (n ≤ i) && bt x (i - n)) := by
  unfold bt
  rw [Int32.toBitVec_shiftLeft]
  show (x.toBitVec <<< ((nI n &&& 31).toBitVec.smod 32).toNat).getLsbD i = _
  rw [s_l n hn, BitVec.getLsbD_shiftLeft]
  rcases Nat.lt_or_ge i n with h | h
  · simp [h, Nat.not_le.mpr h]
  · simp [hi, h, Nat.not_lt.mpr h]
theorem b_sshr (n : Nat) (hn : n < 32) (x : Int32) {i : Nat} (hi : i < 32) : bt (x >>> (nI n &&& 31)) i = if n + i < 32 then bt x (n + i) else bt x 31 := by
  unfold bt
  rw [Int32.toBitVec_shiftRight]
  show (x.toBitVec.sshiftRight ((nI n &&& 31).toBitVec.smod 32).toNat).getLsbD i = _
  rw [s_l n hn, BitVec.getLsbD_sshiftRight, BitVec.msb_eq_getLsbD_last]
  simp [hi]
end
section
/-! ===== whole numbers as Int32: iI ===== -/
def iI (n : Int) : Int32 := Int32.ofInt n
def bI (b : Bool) : Int32 := if b then 1 else 0
theorem ii_nI (n : Nat) : nI n = iI (n : Int) := Int32.ofInt_eq_ofNat.symm
theorem ii_add (a b : Int) : iI a + iI b = iI (a + b) := (Int32.ofInt_add a b).symm
theorem ii_sub (a b : Int) : iI a - iI b = iI (a - b) := (Int32.ofInt_sub a b).symm
theorem ii_mul (a b : Int) : iI a * iI b = iI (a * b) := (Int32.ofInt_mul a b).symm
theorem ii_neg (a : Int) : - iI a = iI (-a) := (Int32.ofInt_neg a).symm
theorem ii_0 : (0 : Int32) = iI 0 := rfl
theorem ii_1 : (1 : Int32) = iI 1 := rfl
theorem ii_m1 : (-1 : Int32) = iI (-1) := by decide
theorem ii_2 : (2 : Int32) = iI 2 := rfl
theorem ii_4 : (4 : Int32) = iI 4 := rfl
theorem ii_7 : (7 : Int32) = iI 7 := rfl
theorem ii_16 : (16 : Int32) = iI 16 := rfl
theorem ii_32 : (32 : Int32) = iI 32 := rfl
theorem ii_128 : (128 : Int32) = iI 128 := rfl
theorem ii_40 : (40 : Int32) = iI 40 := rfl
theorem ii_44 : (44 : Int32) = iI 44 := rfl
theorem ii_toInt {a : Int} (h : -1000000 ≤ a ∧ a ≤ 1000000) : (iI a).toInt = a := Int32.toInt_ofInt_of_le (by omega) (by omega)
theorem ii_of (x : Int32) : x = iI x.toInt := (Int32.ofInt_toInt x).symm
theorem ii_le {a b : Int} (h : -1000000 ≤ a ∧ a ≤ 1000000 ∧ -1000000 ≤ b ∧ b ≤ 1000000) : iI a ≤ iI b ↔ a ≤ b := by
  rw [Int32.le_iff_toInt_le, ii_toInt (by omega), ii_toInt (by omega)]
theorem ii_lt {a b : Int} (h : -1000000 ≤ a ∧ a ≤ 1000000 ∧ -1000000 ≤ b ∧ b ≤ 1000000) : iI a < iI b ↔ a < b := by
  rw [Int32.lt_iff_toInt_lt, ii_toInt (by omega), ii_toInt (by omega)]
theorem ii_eq {a b : Int} (h : -1000000 ≤ a ∧ a ≤ 1000000 ∧ -1000000 ≤ b ∧ b ≤ 1000000) : iI a = iI b ↔ a = b := by
  rw [← Int32.toInt_inj, ii_toInt (by omega), ii_toInt (by omega)]
theorem ii_clamp {a : Int} (h : 0 ≤ a ∧ a ≤ 1000000) : (iI a).toNatClampNeg = a.toNat := Int32.toNatClampNeg_ofInt_of_le (by omega) (by omega)
theorem ii_in {a : Int} {N : Nat} (h0 : 0 ≤ a) (h : a < N) (hN : a ≤ 1000000) : vp_in (iI a) N := by
  rw [vp_in_iff, ii_toInt (by omega)]
  exact ⟨h0, h⟩
theorem ii_div {a b : Int} (ha : -1000000 ≤ a ∧ a ≤ 1000000) (hb : -1000000 ≤ b ∧ b ≤ 1000000) : iI a / iI b = iI (a.tdiv b) := by
  apply Int32.toInt_inj.mp
  rw [Int32.toInt_div, ii_toInt ha, ii_toInt hb]
  exact (Int32.toInt_ofInt).symm
theorem ii_rem {a b : Int} (ha : -1000000 ≤ a ∧ a ≤ 1000000) (hb : -1000000 ≤ b ∧ b ≤ 1000000) : iI a - iI a / iI b * iI b = iI (a.tmod b) := by
  rw [ii_div ha hb, ii_mul, ii_sub, Int.tmod_def, Int.mul_comm]
theorem ii_rem0 {a b : Int} (ha : -1000000 ≤ a ∧ a ≤ 1000000) (hb : -1000000 ≤ b ∧ b ≤ 1000000) : iI a - iI a / iI b * iI b = 0 ↔ b ∣ a := by
  have h1 : (a.tmod b).natAbs ≤ a.natAbs := by
    rw [Int.natAbs_tmod]
    exact Nat.mod_le _ _
  rw [ii_rem ha hb, ii_0, ii_eq (by omega), Int.dvd_iff_tmod_eq_zero]
theorem ib_le {x y : Int32} {A B : Prop} (a b : Int) (f : a ≤ b → A) (g : b < a → B) (hx : x = iI a := by rfl) (hy : y = iI b := by rfl) (h : -1000000 ≤ a ∧ a ≤ 1000000 ∧ -1000000 ≤ b ∧ b ≤ 1000000 := by omega) : (x ≤ y → A) ∧ (¬ x ≤ y → B) := by
  subst hx hy
  rw [ii_le h]
  exact ⟨f, fun z => g (by omega)⟩
theorem ib_lt {x y : Int32} {A B : Prop} (a b : Int) (f : a < b → A) (g : b ≤ a → B) (hx : x = iI a := by rfl) (hy : y = iI b := by rfl) (h : -1000000 ≤ a ∧ a ≤ 1000000 ∧ -1000000 ≤ b ∧ b ≤ 1000000 := by omega) : (x < y → A) ∧ (¬ x < y → B) := by
  subst hx hy
  rw [ii_lt h]
  exact ⟨f, fun z => g (by omega)⟩
theorem ib_eq {x y : Int32} {A B : Prop} (a b : Int) (f : a = b → A) (g : a ≠ b → B) (hx : x = iI a := by rfl) (hy : y = iI b := by rfl) (h : -1000000 ≤ a ∧ a ≤ 1000000 ∧ -1000000 ≤ b ∧ b ≤ 1000000 := by omega) : (x = y → A) ∧ (¬ x = y → B) := by
  subst hx hy
  rw [ii_eq h]
  exact ⟨f, g⟩
theorem ib_dv {x y : Int32} {A B : Prop} (a b : Int) (f : b ∣ a → A) (g : ¬ b ∣ a → B) (hx : x = iI a := by rfl) (hy : y = iI b := by rfl) (h : -1000000 ≤ a ∧ a ≤ 1000000 ∧ -1000000 ≤ b ∧ b ≤ 1000000 := by omega) : ((x - x / y * y) = 0 → A) ∧ (¬ (x - x / y * y) = 0 → B) := by
  subst hx hy
  rw [ii_rem0 (by omega) (by omega)]
  exact ⟨f, g⟩
theorem ib_ne {x : Int32} (a : Int) (h0 : a ≠ 0) (hx : x = iI a := by rfl) (h : -1000000 ≤ a ∧ a ≤ 1000000 := by omega) : ¬ x = 0 := by
  subst hx
  rw [ii_0, ii_eq (by omega)]
  exact h0
theorem ib_b {x : Int32} {A B : Prop} (b : Bool) (f : b = false → A) (g : b = true → B) (hx : x = bI b := by rfl) : (x = 0 → A) ∧ (¬ x = 0 → B) := by
  subst hx
  cases b
  · exact ⟨fun _ => f rfl, fun h => absurd rfl h⟩
  · exact ⟨fun h => absurd h (by decide), fun _ => g rfl⟩
theorem ib_b1 {x : Int32} {A B : Prop} (b : Bool) (f : b = true → A) (g : b = false → B) (hx : x = bI b := by rfl) : (x = 1 → A) ∧ (¬ x = 1 → B) := by
  subst hx
  cases b
  · exact ⟨fun h => absurd h (by decide), fun _ => g rfl⟩
  · exact ⟨fun _ => f rfl, fun h => absurd rfl h⟩
theorem ib_nar (b : Bool) : narrow .boolean (.int (bI b)) = .int (bI b) := by cases b <;> rfl
theorem ib_vn (b : Bool) : vp_nar .boolean (bI b) = bI b := by cases b <;> rfl
/-! ===== the word: h = half of it (4, 8, 16) ===== -/
def hf (b : Int) : Int := if b = 3 then 4 else if b = 4 then 8 else 16
def wr (h n : Int) : Int := (n + h) % (2 * h) - h
theorem hf_c {b : Int} (h : b = 3 ∨ b = 4 ∨ b = 5) : (b = 3 ∧ hf b = 4) ∨ (b = 4 ∧ hf b = 8) ∨ (b = 5 ∧ hf b = 16) := by
  rcases h with rfl | rfl | rfl
  · exact Or.inl ⟨rfl, rfl⟩
  · exact Or.inr (Or.inl ⟨rfl, rfl⟩)
  · exact Or.inr (Or.inr ⟨rfl, rfl⟩)
theorem wr_in {h : Int} (n : Int) (hh : h = 4 ∨ h = 8 ∨ h = 16) : -h ≤ wr h n ∧ wr h n < h := by
  unfold wr
  rcases hh with rfl | rfl | rfl <;> omega
theorem wr_id {h n : Int} (hh : h = 4 ∨ h = 8 ∨ h = 16) (h1 : -h ≤ n) (h2 : n < h) : wr h n = n := by
  unfold wr
  rcases hh with rfl | rfl | rfl <;> omega
theorem wx_n (v : Int32) (w h P : Int) (hw : w * P = 4294967296) : (v.toInt + h) % w - h = ((v.toBitVec.toNat : Int) + h) % w - h := by
  have h3 : v.toInt = v.toBitVec.toInt := rfl
  have e3 : (2 ^ 32 : Nat) = 4294967296 := by decide
  rw [h3, BitVec.toInt_eq_toNat_cond, e3]
  split
  · rfl
  · rw [show ((v.toBitVec.toNat : Int) - ((4294967296 : Nat) : Int) + h) = (v.toBitVec.toNat : Int) + h + w * (-P) by rw [Int.mul_neg, hw]; omega, Int.add_mul_emod_self_left]
theorem wx_3 (v : Int32) : ((v <<< ((32 - iI 3) &&& 31)) >>> ((32 - iI 3) &&& 31)).toInt = (v.toInt + 4) % 8 - 4 := by
  have e : (((32 - iI 3) &&& 31 : Int32).toBitVec.smod 32).toNat = 29 := by decide
  have h1 := pk_shl v ((32 - iI 3) &&& 31) 29 e
  rw [pk_shr _ _ 29 e, Int.shiftRight_eq_div_pow]
  have h2 : (v <<< ((32 - iI 3) &&& 31)).toInt = (v <<< ((32 - iI 3) &&& 31)).toBitVec.toInt := rfl
  have e1 : ((2 ^ 29 : Nat) : Int) = 536870912 := by decide
  have e2 : (2 ^ 29 : Nat) = 536870912 := by decide
  have e3 : (2 ^ 32 : Nat) = 4294967296 := by decide
  rw [e2, e3, show (4294967296 : Nat) = 8 * 536870912 from rfl, Nat.mul_mod_mul_right] at h1
  rw [h2, BitVec.toInt_eq_toNat_cond, h1, e1, e3, wx_n v 8 4 536870912 (by decide)]
  have hq : v.toBitVec.toNat % 8 < 8 := Nat.mod_lt _ (by decide)
  have hr : ((v.toBitVec.toNat : Int) + 4) % 8 - 4 = if v.toBitVec.toNat % 8 < 4 then ((v.toBitVec.toNat % 8 : Nat) : Int) else ((v.toBitVec.toNat % 8 : Nat) : Int) - 8 := by
    split <;> omega
  rw [hr]
  generalize v.toBitVec.toNat % 8 = q at *
  exact (by decide : ∀ q, q < 8 → (if 2 * (q * 536870912) < 4294967296 then ((q * 536870912 : Nat) : Int) else ((q * 536870912 : Nat) : Int) - (4294967296 : Nat)) / 536870912 = if q < 4 then (q : Int) else (q : Int) - 8) q hq
theorem wx_4 (v : Int32) : ((v <<< ((32 - iI 4) &&& 31)) >>> ((32 - iI 4) &&& 31)).toInt = (v.toInt + 8) % 16 - 8 := by
  have e : (((32 - iI 4) &&& 31 : Int32).toBitVec.smod 32).toNat = 28 := by decide
  have h1 := pk_shl v ((32 - iI 4) &&& 31) 28 e
  rw [pk_shr _ _ 28 e, Int.shiftRight_eq_div_pow]
  have h2 : (v <<< ((32 - iI 4) &&& 31)).toInt = (v <<< ((32 - iI 4) &&& 31)).toBitVec.toInt := rfl
  have e1 : ((2 ^ 28 : Nat) : Int) = 268435456 := by decide
  have e2 : (2 ^ 28 : Nat) = 268435456 := by decide
  have e3 : (2 ^ 32 : Nat) = 4294967296 := by decide
  rw [e2, e3, show (4294967296 : Nat) = 16 * 268435456 from rfl, Nat.mul_mod_mul_right] at h1
  rw [h2, BitVec.toInt_eq_toNat_cond, h1, e1, e3, wx_n v 16 8 268435456 (by decide)]
  have hq : v.toBitVec.toNat % 16 < 16 := Nat.mod_lt _ (by decide)
  have hr : ((v.toBitVec.toNat : Int) + 8) % 16 - 8 = if v.toBitVec.toNat % 16 < 8 then ((v.toBitVec.toNat % 16 : Nat) : Int) else ((v.toBitVec.toNat % 16 : Nat) : Int) - 16 := by
    split <;> omega
  rw [hr]
  generalize v.toBitVec.toNat % 16 = q at *
  exact (by decide : ∀ q, q < 16 → (if 2 * (q * 268435456) < 4294967296 then ((q * 268435456 : Nat) : Int) else ((q * 268435456 : Nat) : Int) - (4294967296 : Nat)) / 268435456 = if q < 8 then (q : Int) else (q : Int) - 16) q hq
theorem wx_5 (v : Int32) : ((v <<< ((32 - iI 5) &&& 31)) >>> ((32 - iI 5) &&& 31)).toInt = (v.toInt + 16) % 32 - 16 := by
  have e : (((32 - iI 5) &&& 31 : Int32).toBitVec.smod 32).toNat = 27 := by decide
  have h1 := pk_shl v ((32 - iI 5) &&& 31) 27 e
  rw [pk_shr _ _ 27 e, Int.shiftRight_eq_div_pow]
  have h2 : (v <<< ((32 - iI 5) &&& 31)).toInt = (v <<< ((32 - iI 5) &&& 31)).toBitVec.toInt := rfl
  have e1 : ((2 ^ 27 : Nat) : Int) = 134217728 := by decide
  have e2 : (2 ^ 27 : Nat) = 134217728 := by decide
  have e3 : (2 ^ 32 : Nat) = 4294967296 := by decide
  rw [e2, e3, show (4294967296 : Nat) = 32 * 134217728 from rfl, Nat.mul_mod_mul_right] at h1
  rw [h2, BitVec.toInt_eq_toNat_cond, h1, e1, e3, wx_n v 32 16 134217728 (by decide)]
  have hq : v.toBitVec.toNat % 32 < 32 := Nat.mod_lt _ (by decide)
  have hr : ((v.toBitVec.toNat : Int) + 16) % 32 - 16 = if v.toBitVec.toNat % 32 < 16 then ((v.toBitVec.toNat % 32 : Nat) : Int) else ((v.toBitVec.toNat % 32 : Nat) : Int) - 32 := by
    split <;> omega
  rw [hr]
  generalize v.toBitVec.toNat % 32 = q at *
  exact (by decide : ∀ q, q < 32 → (if 2 * (q * 134217728) < 4294967296 then ((q * 134217728 : Nat) : Int) else ((q * 134217728 : Nat) : Int) - (4294967296 : Nat)) / 134217728 = if q < 16 then (q : Int) else (q : Int) - 32) q hq
theorem wx_w (v : Int32) {b : Int} (hb : b = 3 ∨ b = 4 ∨ b = 5) : (v <<< ((32 - iI b) &&& 31)) >>> ((32 - iI b) &&& 31) = iI (wr (hf b) v.toInt) := by
  apply Int32.toInt_inj.mp
  have hw := wr_in (h := hf b) v.toInt (by rcases hf_c hb with h | h | h <;> omega)
  rw [ii_toInt (by rcases hf_c hb with h | h | h <;> omega)]
  rcases hb with rfl | rfl | rfl
  · rw [wx_3]; rfl
  · rw [wx_4]; rfl
  · rw [wx_5]; rfl
theorem wy_a (v : Int32) (m : Int32) (k : Nat) (p : Int) (hm : m.toBitVec.toNat = 2 ^ k - 1) (hk : ((2 ^ k : Nat) : Int) = p) (hp : p = 8 ∨ p = 16 ∨ p = 32) : v &&& m = iI (v.toInt % p) := by
  rw [pk_and v k hm, ii_nI]
  apply congrArg iI
  have h3 : v.toInt = v.toBitVec.toInt := rfl
  rw [h3, BitVec.toInt_eq_toNat_cond]
  have h4 := v.toBitVec.isLt
  generalize v.toBitVec.toNat = n at *
  have e3 : (2 ^ 32 : Nat) = 4294967296 := by decide
  rw [Int.natCast_emod, hk, e3]
  rw [e3] at h4
  rcases hp with rfl | rfl | rfl <;> split <;> omega
theorem wy_m (v : Int32) {b : Int} (hb : b = 3 ∨ b = 4 ∨ b = 5) : v &&& (iI (hf b - 1) - iI (- hf b)) = iI (v.toInt % (2 * hf b)) := by
  rcases hb with rfl | rfl | rfl
  · exact wy_a v _ 3 8 (by decide) (by decide) (Or.inl rfl)
  · exact wy_a v _ 4 16 (by decide) (by decide) (Or.inr (Or.inl rfl))
  · exact wy_a v _ 5 32 (by decide) (by decide) (Or.inr (Or.inr rfl))
theorem ws_r {a b : Int} (hb : b = 3 ∨ b = 4 ∨ b = 5) (ha : -1000000 ≤ a ∧ a ≤ 1000000) : iI a >>> (iI b &&& 31) = iI (a / (2 * hf b)) := by
  apply Int32.toInt_inj.mp
  rcases hb with rfl | rfl | rfl
  · rw [pk_shr _ _ 3 (by decide), ii_toInt ha, Int.shiftRight_eq_div_pow]
    have e : hf 3 = 4 := rfl
    rw [e, ii_toInt (by omega)]; rfl
  · rw [pk_shr _ _ 4 (by decide), ii_toInt ha, Int.shiftRight_eq_div_pow]
    have e : hf 4 = 8 := rfl
    rw [e, ii_toInt (by omega)]; rfl
  · rw [pk_shr _ _ 5 (by decide), ii_toInt ha, Int.shiftRight_eq_div_pow]
    have e : hf 5 = 16 := rfl
    rw [e, ii_toInt (by omega)]; rfl
theorem ws_a (a : Int) (s : Int32) (k : Nat) (p : Nat) (hs : (s.toBitVec.smod 32).toNat = k) (hp : 2 ^ k = p) (h : p = 8 ∨ p = 16 ∨ p = 32) (ha : -10000 ≤ a ∧ a ≤ 10000) : iI a <<< s = iI (a * p) := by
  apply Int32.toInt_inj.mp
  have h1 := pk_shl (iI a) s k hs
  have h2 : (iI a <<< s).toInt = (iI a <<< s).toBitVec.toInt := rfl
  have h3 : (iI a).toInt = (iI a).toBitVec.toInt := rfl
  rw [ii_toInt (by omega), BitVec.toInt_eq_toNat_cond] at h3
  have e3 : (2 ^ 32 : Nat) = 4294967296 := by decide
  rw [h2, BitVec.toInt_eq_toNat_cond, h1, hp, ii_toInt (by rcases h with rfl | rfl | rfl <;> omega), e3]
  have h4 := (iI a).toBitVec.isLt
  rw [e3] at h3 h4
  generalize (iI a).toBitVec.toNat = n at *
  rcases h with rfl | rfl | rfl <;> (split at h3 <;> split <;> omega)
theorem ws_l {a b : Int} (hb : b = 3 ∨ b = 4 ∨ b = 5) (ha : -10000 ≤ a ∧ a ≤ 10000) : iI a <<< (iI b &&& 31) = iI (a * (2 * hf b)) := by
  rcases hb with rfl | rfl | rfl
  · exact ws_a a _ 3 8 (by decide) (by decide) (Or.inl rfl) ha
  · exact ws_a a _ 4 16 (by decide) (by decide) (Or.inr (Or.inl rfl)) ha
  · exact ws_a a _ 5 32 (by decide) (by decide) (Or.inr (Or.inr rfl)) ha
end
section
/-! ===== classes: (low, high, step); members, progressions, hulls ===== -/
abbrev cT : Type := Int × Int × Int
def cl_m (c : cT) (n : Int) : Prop := c.1 ≤ n ∧ n ≤ c.2.1 ∧ c.2.2 ∣ n - c.1
def cl_p (c : cT) : Prop := (c.1 = c.2.1 ∧ c.2.2 = 0) ∨ (c.1 < c.2.1 ∧ 0 < c.2.2 ∧ c.2.2 ∣ c.2.1 - c.1)
def cl_N (c : cT) (S : Int → Prop) : Prop := S c.1 ∧ S c.2.1 ∧ 0 ≤ c.2.2 ∧ (∀ n, S n → c.1 ≤ n ∧ n ≤ c.2.1) ∧ ∀ d : Int, d ∣ c.2.2 ↔ ∀ n, S n → d ∣ n - c.1
def cl_h (c : cT) (S : Int → Prop) : Prop := (c = (1, 0, 0) ∧ ∀ n, ¬ S n) ∨ cl_N c S
theorem dv_ge {s x : Int} (h : 0 < s) (hd : s ∣ x) (hx : -s < x) : 0 ≤ x := by
  obtain ⟨q, rfl⟩ := hd
  by_cases hq : 0 ≤ q
  · exact Int.mul_nonneg (by omega) hq
  · have h2 : s * q ≤ s * (-1) := Int.mul_le_mul_of_nonneg_left (by omega) (by omega)
    omega
theorem dv_0 {s x : Int} (hd : s ∣ x) (h0 : 0 ≤ x) (hx : x < s) : x = 0 := by
  by_cases h : 0 < x
  · have := Int.le_of_dvd h hd
    omega
  · omega
theorem dv_s {d a b c : Int} (h1 : d ∣ a - c) (h2 : d ∣ b - c) : d ∣ a - b := by
  have h := Int.dvd_sub h1 h2
  rwa [show a - c - (b - c) = a - b by omega] at h
theorem dv_t {d a b c : Int} (h1 : d ∣ a - b) (h2 : d ∣ b - c) : d ∣ a - c := by
  have h := Int.dvd_add h1 h2
  rwa [show a - b + (b - c) = a - c by omega] at h
theorem dv_y {d a b : Int} (h1 : d ∣ a - b) : d ∣ b - a := by
  have h := Int.dvd_neg.mpr h1
  rwa [show -(a - b) = b - a by omega] at h
theorem dv_z (d a : Int) : d ∣ a - a := by
  rw [Int.sub_self]
  exact Int.dvd_zero d
theorem dv_a (d a : Int) : d ∣ a + d - a := by
  rw [show a + d - a = d by omega]
  exact Int.dvd_refl d
theorem cl_hx {c : cT} {S T : Int → Prop} (h : cl_h c S) (e : ∀ n, S n ↔ T n) : cl_h c T := by
  have : S = T := funext fun n => propext (e n)
  rwa [← this]
theorem cl_Nx {c : cT} {S T : Int → Prop} (h : cl_N c S) (e : ∀ n, S n ↔ T n) : cl_N c T := by
  have : S = T := funext fun n => propext (e n)
  rwa [← this]
theorem cl_hm {c : cT} (h : cl_p c) : cl_N c (cl_m c) := by
  obtain ⟨lo, hi, st⟩ := c
  unfold cl_N cl_m
  unfold cl_p at h
  dsimp only at h ⊢
  rcases h with ⟨h1, h2⟩ | ⟨h1, h2, h3⟩
  · subst h1 h2
    refine ⟨⟨Int.le_refl _, Int.le_refl _, dv_z _ _⟩, ⟨Int.le_refl _, Int.le_refl _, dv_z _ _⟩, Int.le_refl _, fun n hn => ⟨hn.1, hn.2.1⟩, fun d => ⟨fun _ n hn => ?_, fun _ => Int.dvd_zero _⟩⟩
    have : n = lo := by omega
    rw [this]
    exact dv_z _ _
  · refine ⟨⟨Int.le_refl _, by omega, dv_z _ _⟩, ⟨by omega, Int.le_refl _, h3⟩, by omega, fun n hn => ⟨hn.1, hn.2.1⟩, fun d => ⟨fun hd n hn => Int.dvd_trans hd hn.2.2, fun hd => ?_⟩⟩
    have h4 := Int.le_of_dvd (by omega) h3
    have h5 := hd (lo + st) ⟨by omega, by omega, dv_a _ _⟩
    rwa [show lo + st - lo = st by omega] at h5
theorem cl_Np {c : cT} {S : Int → Prop} (h : cl_N c S) : cl_p c := by
  obtain ⟨lo, hi, st⟩ := c
  obtain ⟨h1, h2, h3, h4, h5⟩ := h
  unfold cl_p
  dsimp only at *
  have h6 := h4 _ h2
  by_cases h0 : st = 0
  · subst h0
    have := (h5 0).mp (Int.dvd_refl 0) _ h2
    rw [Int.zero_dvd] at this
    exact Or.inl ⟨by omega, rfl⟩
  · refine Or.inr ⟨?_, by omega, (h5 st).mp (Int.dvd_refl st) _ h2⟩
    by_cases h7 : lo < hi
    · exact h7
    · exfalso
      have h8 := (h5 0).mpr (fun n hn => by
        have := h4 n hn
        rw [show n - lo = 0 by omega]
        exact Int.dvd_zero 0)
      rw [Int.zero_dvd] at h8
      exact h0 h8
theorem cl_Nu {c c' : cT} {S : Int → Prop} (h : cl_N c S) (h' : cl_N c' S) : c = c' := by
  obtain ⟨lo, hi, st⟩ := c
  obtain ⟨lo', hi', st'⟩ := c'
  obtain ⟨h1, h2, h3, h4, h5⟩ := h
  obtain ⟨g1, g2, g3, g4, g5⟩ := h'
  dsimp only at *
  have e1 : lo = lo' := by have := h4 _ g1; have := g4 _ h1; omega
  have e2 : hi = hi' := by have := h4 _ g2; have := g4 _ h2; omega
  subst e1 e2
  have e3 : st ∣ st' := (g5 st).mpr ((h5 st).mp (Int.dvd_refl st))
  have e4 : st' ∣ st := (h5 st').mpr ((g5 st').mp (Int.dvd_refl st'))
  have e5 : st = st' := Int.dvd_antisymm h3 g3 e3 e4
  rw [e5]
theorem cl_hu {c c' : cT} {S : Int → Prop} (h : cl_h c S) (h' : cl_h c' S) : c = c' := by
  rcases h with ⟨h1, h2⟩ | h <;> rcases h' with ⟨g1, g2⟩ | g
  · rw [h1, g1]
  · exact absurd g.1 (h2 _)
  · exact absurd h.1 (g2 _)
  · exact cl_Nu h g
/-- canonical: empty, or a progression -/
def cl_n (c : cT) : Prop := c = (1, 0, 0) ∨ cl_p c
theorem cl_hn {c : cT} {S : Int → Prop} (h : cl_h c S) : cl_n c := by
  rcases h with h | h
  · exact Or.inl h.1
  · exact Or.inr (cl_Np h)
theorem cl_me {n : Int} (h : cl_m (1, 0, 0) n) : False := by
  obtain ⟨h1, h2, _⟩ := h
  dsimp only at h1 h2
  omega
theorem cl_nm {c : cT} (h : cl_n c) : cl_h c (cl_m c) := by
  rcases h with rfl | h
  · exact Or.inl ⟨rfl, fun n hn => cl_me hn⟩
  · exact Or.inr (cl_hm h)
theorem cl_pl {c : cT} (h : cl_p c) : c.1 ≤ c.2.1 := by
  rcases h with h | h <;> omega
theorem cl_ne {c : cT} (h : cl_n c) (hl : c.1 ≤ c.2.1) : cl_p c := by
  rcases h with rfl | h
  · dsimp only at hl
    omega
  · exact h
theorem cl_n0 {c : cT} (h : cl_n c) (hl : c.2.1 < c.1) : c = (1, 0, 0) := by
  rcases h with h | h
  · exact h
  · have := cl_pl h
    omega
theorem cl_hl {c : cT} {S : Int → Prop} (h : cl_h c S) (hl : c.1 ≤ c.2.1) : cl_N c S := by
  rcases h with ⟨rfl, _⟩ | h
  · dsimp only at hl
    omega
  · exact h
theorem cl_h0 {c : cT} {S : Int → Prop} (h : cl_h c S) (hl : c.2.1 < c.1) : c = (1, 0, 0) ∧ ∀ n, ¬ S n := by
  rcases h with h | h
  · exact h
  · have := cl_pl (cl_Np h)
    omega
theorem cl_Nh {c : cT} {S : Int → Prop} (h : cl_N c S) : cl_h c S := Or.inr h
theorem cl_he {S : Int → Prop} (h : ∀ n, ¬ S n) : cl_h (1, 0, 0) S := Or.inl ⟨rfl, h⟩
/-- members lie in the hull -/
theorem cl_hs {c : cT} {S : Int → Prop} (h : cl_h c S) {n : Int} (hn : S n) : cl_m c n := by
  rcases h with h | ⟨h1, h2, h3, h4, h5⟩
  · exact absurd hn (h.2 n)
  · exact ⟨(h4 n hn).1, (h4 n hn).2, (h5 _).mp (Int.dvd_refl _) n hn⟩
/-- the union -/
def cl_j (c c' : cT) : cT := (if c'.1 < c.1 then c'.1 else c.1, if c.2.1 < c'.2.1 then c'.2.1 else c.2.1, ((Int.gcd (Int.gcd c.2.2 c'.2.2 : Nat) (if c'.1 < c.1 then c.1 - c'.1 else c'.1 - c.1) : Nat) : Int))
theorem cl_jN {c c' : cT} {S T : Int → Prop} (h : cl_N c S) (h' : cl_N c' T) : cl_N (cl_j c c') (fun n => S n ∨ T n) := by
  obtain ⟨lo, hi, st⟩ := c
  obtain ⟨lo', hi', st'⟩ := c'
  obtain ⟨h1, h2, h3, h4, h5⟩ := h
  obtain ⟨g1, g2, g3, g4, g5⟩ := h'
  unfold cl_N cl_j
  dsimp only at *
  have a1 := h4 _ h2
  have a2 := g4 _ g2
  refine ⟨?_, ?_, Int.natCast_nonneg _, ?_, ?_⟩
  · split
    · exact Or.inr g1
    · exact Or.inl h1
  · split
    · exact Or.inr g2
    · exact Or.inl h2
  · rintro n (hn | hn)
    · have := h4 n hn
      constructor
      · split <;> omega
      · split <;> omega
    · have := g4 n hn
      constructor
      · split <;> omega
      · split <;> omega
  · intro d
    rw [Int.dvd_coe_gcd_iff, Int.dvd_coe_gcd_iff, h5, g5]
    split
    · constructor
      · rintro ⟨⟨b1, b2⟩, b3⟩ n (hn | hn)
        · exact dv_t (b1 n hn) b3
        · exact b2 n hn
      · intro hd
        refine ⟨⟨fun n hn => dv_s (hd n (Or.inl hn)) (hd lo (Or.inl h1)), fun n hn => hd n (Or.inr hn)⟩, hd lo (Or.inl h1)⟩
    · constructor
      · rintro ⟨⟨b1, b2⟩, b3⟩ n (hn | hn)
        · exact b1 n hn
        · exact dv_t (b2 n hn) b3
      · intro hd
        refine ⟨⟨fun n hn => hd n (Or.inl hn), fun n hn => dv_s (hd n (Or.inr hn)) (hd lo' (Or.inr g1))⟩, hd lo' (Or.inr g1)⟩
theorem cl_1 (k : Int) : cl_N (k, k, 0) (fun n => n = k) := by
  refine ⟨rfl, rfl, Int.le_refl _, fun n hn => ?_, fun d => ⟨fun _ n hn => ?_, fun _ => Int.dvd_zero d⟩⟩
  · dsimp only
    omega
  · dsimp only
    rw [hn]
    exact dv_z _ _
theorem cl_sN {f l st : Int} (h1 : 0 < st) (h2 : f ≤ l) (h3 : st ∣ l - f) : cl_N (f, l, if f = l then 0 else st) (fun n => f ≤ n ∧ n ≤ l ∧ st ∣ n - f) := by
  by_cases e : f = l
  · subst e
    rw [if_pos rfl]
    refine cl_Nx (cl_1 f) fun n => ⟨fun hn => ?_, fun hn => by omega⟩
    subst hn
    exact ⟨Int.le_refl _, Int.le_refl _, dv_z _ _⟩
  · rw [if_neg e]
    exact cl_hm (c := (f, l, st)) (Or.inr ⟨by dsimp only; omega, h1, h3⟩)
theorem cl_ck {lo hi st fr to f l : Int} (hp : cl_p (lo, hi, st)) (hf : (st = 0 ∧ f = lo) ∨ (0 < st ∧ st ∣ f - lo ∧ lo ≤ f ∧ fr ≤ f ∧ (f = lo ∨ f < fr + st))) (hl : (st = 0 ∧ l = hi) ∨ (0 < st ∧ st ∣ l - lo ∧ l ≤ hi ∧ l ≤ to ∧ (l = hi ∨ to - st < l))) : cl_h (if f < fr ∨ to < l ∨ l < f then (1, 0, 0) else (f, l, if f = l then 0 else st)) (fun n => cl_m (lo, hi, st) n ∧ fr ≤ n ∧ n ≤ to) := by
  rcases hp with ⟨p1, p2⟩ | ⟨p1, p2, p3⟩
  · dsimp only at p1 p2
    subst p1 p2
    have ef : f = lo := by omega
    have el : l = lo := by omega
    subst ef el
    split
    · refine cl_he fun n ⟨⟨a1, a2, _⟩, a3, a4⟩ => ?_
      dsimp only at a1 a2
      omega
    · rw [if_pos rfl]
      refine cl_Nh (cl_Nx (cl_1 _) fun n => ⟨fun hn => ?_, fun ⟨⟨a1, a2, _⟩, a3, a4⟩ => ?_⟩)
      · subst hn
        exact ⟨⟨Int.le_refl _, Int.le_refl _, dv_z _ _⟩, by omega, by omega⟩
      · dsimp only at a1 a2
        omega
  · dsimp only at p1 p2 p3
    rcases hf with hf | ⟨_, f1, f2, f3, f4⟩
    · omega
    rcases hl with hl | ⟨_, l1, l2, l3, l4⟩
    · omega
    have F : ∀ n, cl_m (lo, hi, st) n → fr ≤ n → f ≤ n := fun n ⟨a1, a2, a3⟩ a4 => by
      dsimp only at a1 a2 a3
      rcases f4 with f4 | f4
      · omega
      · have := dv_ge p2 (dv_s a3 f1) (by omega)
        omega
    have L : ∀ n, cl_m (lo, hi, st) n → n ≤ to → n ≤ l := fun n ⟨a1, a2, a3⟩ a4 => by
      dsimp only at a1 a2 a3
      rcases l4 with l4 | l4
      · omega
      · have := dv_ge p2 (dv_s l1 a3) (by omega)
        omega
    split
    · refine cl_he fun n ⟨a, a3, a4⟩ => ?_
      have := F n a a3
      have := L n a a4
      omega
    · refine cl_Nh (cl_Nx (cl_sN p2 (by omega) (dv_s l1 f1)) fun n => ⟨fun ⟨a1, a2, a3⟩ => ⟨⟨?_, ?_, dv_t a3 f1⟩, by omega, by omega⟩, fun ⟨a, a3, a4⟩ => ⟨F n a a3, L n a a4, dv_s a.2.2 f1⟩⟩)
      · dsimp only
        omega
      · dsimp only
        omega
/-- the first member from 'fr' on, as the class reckons it -/
theorem cl_up {lo st fr : Int} (h : 0 < st) (hl : lo < fr) : st ∣ lo + (fr - lo + st - 1) / st * st - lo ∧ lo ≤ lo + (fr - lo + st - 1) / st * st ∧ fr ≤ lo + (fr - lo + st - 1) / st * st ∧ lo + (fr - lo + st - 1) / st * st < fr + st := by
  have h1 := Int.emod_add_ediv_mul (fr - lo + st - 1) st
  have h2 := Int.emod_nonneg (fr - lo + st - 1) (b := st) (by omega)
  have h3 := Int.emod_lt_of_pos (fr - lo + st - 1) h
  refine ⟨?_, by omega, by omega, by omega⟩
  rw [show lo + (fr - lo + st - 1) / st * st - lo = (fr - lo + st - 1) / st * st by omega]
  exact Int.dvd_mul_left _ _
theorem cl_dn {lo hi st to : Int} (h : 0 < st) (hl : to < hi) (hd : st ∣ hi - lo) : st ∣ hi - (hi - to + st - 1) / st * st - lo ∧ hi - (hi - to + st - 1) / st * st ≤ hi ∧ hi - (hi - to + st - 1) / st * st ≤ to ∧ to - st < hi - (hi - to + st - 1) / st * st := by
  have h1 := Int.emod_add_ediv_mul (hi - to + st - 1) st
  have h2 := Int.emod_nonneg (hi - to + st - 1) (b := st) (by omega)
  have h3 := Int.emod_lt_of_pos (hi - to + st - 1) h
  refine ⟨?_, by omega, by omega, by omega⟩
  have h4 := Int.dvd_sub hd (Int.dvd_mul_left ((hi - to + st - 1) / st) st)
  rwa [show hi - lo - (hi - to + st - 1) / st * st = hi - (hi - to + st - 1) / st * st - lo by omega] at h4
end
section
/-! ===== relations; what restrict leaves ===== -/
def rl_h (r a b : Int) : Prop := (r = 0 ∧ a = b) ∨ (r = 1 ∧ a ≠ b) ∨ (r = 2 ∧ a < b) ∨ (r = 3 ∧ a ≤ b) ∨ (r = 4 ∧ b < a) ∨ (r = 5 ∧ b ≤ a) ∨ (r = 6 ∧ b ∣ a)
theorem rl_0 {a b : Int} : rl_h 0 a b ↔ a = b := by unfold rl_h; omega
theorem rl_1 {a b : Int} : rl_h 1 a b ↔ a ≠ b := by unfold rl_h; omega
theorem rl_2 {a b : Int} : rl_h 2 a b ↔ a < b := by unfold rl_h; omega
theorem rl_3 {a b : Int} : rl_h 3 a b ↔ a ≤ b := by unfold rl_h; omega
theorem rl_4 {a b : Int} : rl_h 4 a b ↔ b < a := by unfold rl_h; omega
theorem rl_5 {a b : Int} : rl_h 5 a b ↔ b ≤ a := by unfold rl_h; omega
theorem rl_6 {a b : Int} : rl_h 6 a b ↔ b ∣ a := by
  unfold rl_h
  constructor
  · rintro (h | h | h | h | h | h | h)
    · omega
    · omega
    · omega
    · omega
    · omega
    · omega
    · exact h.2
  · intro h
    exact Or.inr (Or.inr (Or.inr (Or.inr (Or.inr (Or.inr ⟨rfl, h⟩)))))
theorem rm_n {c : cT} {k : Int} (h : cl_p c) (hk : ¬ cl_m c k) : cl_N c (fun n => cl_m c n ∧ n ≠ k) :=
  cl_Nx (cl_hm h) fun n => ⟨fun hn => ⟨hn, fun e => hk (e ▸ hn)⟩, fun hn => hn.1⟩
theorem rm_1 {lo k : Int} (hk : cl_m (lo, lo, 0) k) : ∀ n, ¬ (cl_m (lo, lo, 0) n ∧ n ≠ k) := fun n ⟨⟨a1, a2, _⟩, a3⟩ => by
  obtain ⟨b1, b2, _⟩ := hk
  dsimp only at a1 a2 b1 b2
  omega
theorem rm_lo {lo hi st : Int} (h : 0 < st) (hl : lo < hi) (hd : st ∣ hi - lo) : cl_N (lo + st, hi, if lo + st = hi then 0 else st) (fun n => cl_m (lo, hi, st) n ∧ n ≠ lo) := by
  have h1 := Int.le_of_dvd (by omega) hd
  refine cl_Nx (cl_sN h (by omega) (dv_s hd (dv_a st lo))) fun n => ⟨fun ⟨a1, a2, a3⟩ => ⟨⟨?_, a2, dv_t a3 (dv_a st lo)⟩, by omega⟩, fun ⟨⟨a1, a2, a3⟩, a4⟩ => ⟨?_, a2, dv_s a3 (dv_a st lo)⟩⟩
  · dsimp only
    omega
  · dsimp only at a1 a2 a3
    have := Int.le_of_dvd (by omega) a3
    omega
theorem rm_hi {lo hi st : Int} (h : 0 < st) (hl : lo < hi) (hd : st ∣ hi - lo) : cl_N (lo, hi - st, if lo = hi - st then 0 else st) (fun n => cl_m (lo, hi, st) n ∧ n ≠ hi) := by
  have h1 := Int.le_of_dvd (by omega) hd
  have h2 : st ∣ hi - st - lo := by
    have := Int.dvd_sub hd (Int.dvd_refl st)
    rwa [show hi - lo - st = hi - st - lo by omega] at this
  refine cl_Nx (cl_sN h (by omega) h2) fun n => ⟨fun ⟨a1, a2, a3⟩ => ⟨⟨a1, ?_, a3⟩, by omega⟩, fun ⟨⟨a1, a2, a3⟩, a4⟩ => ⟨a1, ?_, a3⟩⟩
  · dsimp only
    omega
  · dsimp only at a1 a2 a3
    have := Int.le_of_dvd (by omega) (dv_s hd a3)
    omega
theorem rm_3 {lo hi st k : Int} (h : 0 < st) (hl : lo < hi) (hk : cl_m (lo, hi, st) k) (k1 : k ≠ lo) (k2 : k ≠ hi) (e : hi - lo = 2 * st) : cl_N (lo, hi, if lo = hi then 0 else 2 * st) (fun n => cl_m (lo, hi, st) n ∧ n ≠ k) := by
  obtain ⟨b1, b2, b3⟩ := hk
  dsimp only at b1 b2 b3
  have ek : k = lo + st := by
    have h1 := Int.le_of_dvd (by omega) b3
    have h2 := dv_0 (dv_s b3 (dv_a st lo)) (by omega) (by omega)
    omega
  refine cl_Nx (cl_sN (st := 2 * st) (by omega) (by omega) (by rw [e]; exact Int.dvd_refl _)) fun n => ⟨fun ⟨a1, a2, a3⟩ => ⟨⟨a1, a2, Int.dvd_trans (Int.dvd_mul_left 2 st) a3⟩, ?_⟩, fun ⟨⟨a1, a2, a3⟩, a4⟩ => ⟨a1, a2, ?_⟩⟩
  · intro en
    have := Int.le_of_dvd (by omega) a3
    omega
  · dsimp only at a1 a2 a3
    by_cases n1 : n = lo
    · rw [n1]
      exact dv_z _ _
    · have h1 := Int.le_of_dvd (by omega) a3
      have h2 := Int.le_of_dvd (by omega) (dv_s a3 (dv_a st lo))
      have h3 : n - lo = 2 * st := by omega
      rw [h3]
      exact Int.dvd_refl _
theorem rm_x {lo hi st k : Int} (h : 0 < st) (hl : lo < hi) (hd : st ∣ hi - lo) (hk : cl_m (lo, hi, st) k) (k1 : k ≠ lo) (k2 : k ≠ hi) (e : hi - lo ≠ 2 * st) : cl_N (lo, hi, st) (fun n => cl_m (lo, hi, st) n ∧ n ≠ k) := by
  have H := cl_hm (c := (lo, hi, st)) (Or.inr ⟨hl, h, hd⟩)
  obtain ⟨b1, b2, b3⟩ := hk
  dsimp only at b1 b2 b3
  refine ⟨⟨H.1, fun x => k1 x.symm⟩, ⟨H.2.1, fun x => k2 x.symm⟩, H.2.2.1, fun n hn => ⟨hn.1.1, hn.1.2.1⟩, fun d => ⟨fun d1 n hn => Int.dvd_trans d1 hn.1.2.2, fun d1 => ?_⟩⟩
  dsimp only at d1 ⊢
  have h1 := Int.le_of_dvd (by omega) b3
  have h2 := Int.le_of_dvd (by omega) (dv_s hd b3)
  have a0 : st ∣ lo + st - lo := dv_a st lo
  have a1 : st ∣ lo + 2 * st - lo := by
    rw [show lo + 2 * st - lo = 2 * st by omega]
    exact Int.dvd_mul_left _ _
  have h3 : 2 * st < hi - lo := by omega
  have h4 : hi - lo ≥ 3 * st := by
    have := Int.le_of_dvd (by omega) (dv_s hd a1)
    omega
  by_cases ek : k = lo + st
  · have a2 : st ∣ lo + 3 * st - lo := by
      rw [show lo + 3 * st - lo = 3 * st by omega]
      exact Int.dvd_mul_left _ _
    have c1 := d1 (lo + 2 * st) ⟨⟨by dsimp only; omega, by dsimp only; omega, a1⟩, by omega⟩
    have c2 := d1 (lo + 3 * st) ⟨⟨by dsimp only; omega, by dsimp only; omega, a2⟩, by omega⟩
    have c3 := Int.dvd_sub c2 c1
    rwa [show lo + 3 * st - lo - (lo + 2 * st - lo) = st by omega] at c3
  · have c1 := d1 (lo + st) ⟨⟨by dsimp only; omega, by dsimp only; omega, a0⟩, fun x => ek x.symm⟩
    rwa [show lo + st - lo = st by omega] at c1
theorem ed_c {s G a : Int} (h : s = G * a) (hG : 0 < G) : s / G = a := by
  rw [h]
  exact Int.mul_ediv_cancel_left a (by omega)
theorem ed_d {s G a u : Int} (h : s = G * a) : s * u = a * u * G := by
  rw [h, Int.mul_assoc, Int.mul_comm]
/-- the least common multiple as the class reckons it -/
theorem lc_m {s u : Int} (hs : 0 < s) (hu : 0 < u) : 0 < (Int.gcd s u : Int) ∧ 0 < s / (Int.gcd s u : Int) * u ∧ ∀ x, (s ∣ x ∧ u ∣ x) ↔ s / (Int.gcd s u : Int) * u ∣ x := by
  have g0 : 0 < (Int.gcd s u : Int) := by
    have := Int.gcd_pos_of_ne_zero_left (a := s) u (by omega)
    omega
  obtain ⟨a, ha⟩ := Int.gcd_dvd_left s u
  obtain ⟨b, hb⟩ := Int.gcd_dvd_right s u
  have e1 : s / (Int.gcd s u : Int) = a := ed_c ha g0
  have a0 : 0 < a := by
    by_cases h : 0 < a
    · exact h
    · have := Int.mul_le_mul_of_nonneg_left (show a ≤ 0 by omega) (show 0 ≤ (Int.gcd s u : Int) by omega)
      omega
  have e2 : ((Int.lcm s u : Nat) : Int) = a * u := by
    have h1 := Int.lcm_mul_gcd s u
    have h2 : ((Int.lcm s u : Nat) : Int) * (Int.gcd s u : Int) = s * u := by
      have : ((Int.lcm s u * Int.gcd s u : Nat) : Int) = ((s.natAbs * u.natAbs : Nat) : Int) := by rw [h1]
      rw [Int.natCast_mul, Int.natCast_mul, Int.natAbs_of_nonneg (by omega), Int.natAbs_of_nonneg (by omega)] at this
      exact this
    have h3 : s * u = a * u * (Int.gcd s u : Int) := ed_d ha
    rw [h3] at h2
    exact Int.eq_of_mul_eq_mul_right (by omega) h2
  rw [e1]
  refine ⟨g0, Int.mul_pos a0 hu, fun x => ⟨fun hx => ?_, fun hx => ?_⟩⟩
  · rw [← e2]
    exact Int.coe_lcm_dvd hx.1 hx.2
  · rw [← e2] at hx
    exact ⟨Int.dvd_trans (Int.dvd_lcm_left s u) hx, Int.dvd_trans (Int.dvd_lcm_right s u) hx⟩
theorem km_N {lo hi st u f : Int} (h : 0 < st) (hu : 0 < u) (hf : cl_m (lo, hi, st) f) (hf2 : u ∣ f) (hf3 : ∀ n, cl_m (lo, hi, st) n → u ∣ n → f ≤ n) : cl_N (f, f + (hi - f) / (st / (Int.gcd st u : Int) * u) * (st / (Int.gcd st u : Int) * u), if f = f + (hi - f) / (st / (Int.gcd st u : Int) * u) * (st / (Int.gcd st u : Int) * u) then 0 else st / (Int.gcd st u : Int) * u) (fun n => cl_m (lo, hi, st) n ∧ u ∣ n) := by
  obtain ⟨_, m0, mx⟩ := lc_m h hu
  generalize st / (Int.gcd st u : Int) * u = m at *
  obtain ⟨b1, b2, b3⟩ := hf
  dsimp only at b1 b2 b3
  have h1 := Int.emod_add_ediv_mul (hi - f) m
  have h2 := Int.emod_nonneg (hi - f) (b := m) (by omega)
  have h3 := Int.emod_lt_of_pos (hi - f) m0
  have h4 : 0 ≤ (hi - f) / m * m := Int.mul_nonneg (Int.ediv_nonneg (by omega) (by omega)) (by omega)
  generalize (hi - f) / m * m = sp at *
  have hsp : m ∣ sp := by
    have e : sp = hi - f - (hi - f) % m := by omega
    rw [e]
    exact Int.dvd_self_sub_emod
  refine cl_Nx (cl_sN m0 (by omega) (by rw [show f + sp - f = sp by omega]; exact hsp)) fun n => ⟨fun ⟨a1, a2, a3⟩ => ?_, fun ⟨⟨a1, a2, a3⟩, a4⟩ => ?_⟩
  · have a4 := (mx _).mpr a3
    refine ⟨⟨by dsimp only; omega, by dsimp only; omega, dv_t a4.1 b3⟩, ?_⟩
    have := Int.dvd_add a4.2 hf2
    rwa [show n - f + f = n by omega] at this
  · dsimp only at a1 a2 a3
    have a5 := hf3 n ⟨a1, a2, a3⟩ a4
    have a6 : m ∣ n - f := (mx _).mp ⟨dv_s a3 b3, Int.dvd_sub a4 hf2⟩
    refine ⟨a5, ?_, a6⟩
    have a7 : m ∣ f + sp - n := by
      have := Int.dvd_sub hsp a6
      rwa [show sp - (n - f) = f + sp - n by omega] at this
    have := dv_ge m0 a7 (by omega)
    omega
/-! ===== the loops over the members of a class ===== -/
def sd_ (c : cT) : Int := if 0 < c.2.2 then c.2.2 else 1
theorem sd_p (c : cT) : 0 < sd_ c := by
  unfold sd_
  split <;> omega
theorem en_1 {c : cT} {n : Int} (hp : cl_p c) (hn : cl_m c n) (m : Int) : (cl_m c m ∧ m < n + sd_ c) ↔ ((cl_m c m ∧ m < n) ∨ m = n) := by
  obtain ⟨lo, hi, st⟩ := c
  unfold sd_
  rcases hp with ⟨p1, p2⟩ | ⟨p1, p2, p3⟩
  · dsimp only at p1 p2
    subst p1 p2
    have hn2 := hn
    obtain ⟨b1, b2, b3⟩ := hn
    dsimp only at b1 b2 b3 ⊢
    constructor
    · rintro ⟨⟨a1, a2, a3⟩, a4⟩
      dsimp only at a1 a2 a3
      right
      omega
    · rintro (⟨a1, a2⟩ | rfl)
      · exact ⟨a1, by split <;> omega⟩
      · exact ⟨hn2, by split <;> omega⟩
  · dsimp only at p1 p2 p3 ⊢
    rw [if_pos p2]
    constructor
    · rintro ⟨a1, a2⟩
      by_cases h : m < n
      · exact Or.inl ⟨a1, h⟩
      · have := dv_0 (dv_s a1.2.2 hn.2.2) (by omega) (by dsimp only; omega)
        exact Or.inr (by omega)
    · rintro (⟨a1, a2⟩ | rfl)
      · exact ⟨a1, by omega⟩
      · exact ⟨hn, by omega⟩
theorem en_2 {c : cT} {n : Int} (hp : cl_p c) (hn : cl_m c n) (h : n + sd_ c ≤ c.2.1) : cl_m c (n + sd_ c) := by
  obtain ⟨lo, hi, st⟩ := c
  have h0 := sd_p (lo, hi, st)
  unfold sd_ at *
  rcases hp with ⟨p1, p2⟩ | ⟨p1, p2, p3⟩
  · dsimp only at p1 p2
    subst p1 p2
    obtain ⟨b1, b2, b3⟩ := hn
    dsimp only at b1 b2 b3 h
    exfalso
    split at h <;> omega
  · dsimp only at p1 p2 p3 h h0 ⊢
    rw [if_pos p2] at h ⊢
    obtain ⟨b1, b2, b3⟩ := hn
    dsimp only at b1 b2 b3
    exact ⟨by dsimp only; omega, h, dv_t (dv_a st n) b3⟩
/-- the turn of the word in which m lies -/
theorem tn_w {h t m : Int} (hh : h = 4 ∨ h = 8 ∨ h = 16) : (-h + t * (2 * h) ≤ m ∧ m ≤ h - 1 + t * (2 * h)) ↔ (m + h) / (2 * h) = t := by
  rcases hh with rfl | rfl | rfl <;> omega
theorem tn_r {h m : Int} (hh : h = 4 ∨ h = 8 ∨ h = 16) : m - (m + h) / (2 * h) * (2 * h) = wr h m := by
  unfold wr
  rcases hh with rfl | rfl | rfl <;> omega
theorem tn_m {h m n : Int} (hh : h = 4 ∨ h = 8 ∨ h = 16) (hmn : m ≤ n) : (m + h) / (2 * h) ≤ (n + h) / (2 * h) := by
  rcases hh with rfl | rfl | rfl <;> omega
end
section
/-! ===== one edge: g its seven fields; what flows ===== -/
def fl_1 (g : Int → Int) : Int := if g 2 = 1 ∨ g 2 = 2 then g 5 else if g 2 = 7 ∨ g 2 = 8 then g 4 else g 3
def fl_2 (V : Int) (g : Int → Int) : Int := if g 2 = 1 then g 6 else if g 2 = 2 ∨ g 2 = 4 then g 5 else if g 2 = 6 then g 4 else if g 2 = 7 then V else g 3
def fl_t (V : Int) (g : Int → Int) : Int := if g 2 = 8 then V else if g 2 = 1 ∨ g 2 = 2 ∨ g 2 = 3 ∨ g 2 = 7 then g 3 else -1
def fl_c (h op a b : Int) : Int := if op = 0 then wr h (a + b) else if op = 1 then wr h (a - b) else if op = 2 then wr h (a * b) else b
def fl_r (h : Int) (g : Int → Int) (a b : Int) : Int := if g 2 = 1 then fl_c h (g 4) a b else if g 2 = 2 then fl_c h (g 4) a (g 6) else b
def fl_p (h C : Int) (g : Int → Int) (a b : Int) : Prop := (g 2 = 4 → rl_h (g 4) a b) ∧ (g 2 = 5 → rl_h (g 4) a (g 5)) ∧ (g 2 = 6 → rl_h (g 5) (wr h (a + b)) (g 6)) ∧ (g 2 = 7 ∨ g 2 = 8 → 0 ≤ a ∧ a < C)
def fl_G (h V C : Int) (g : Int → Int) (σ : Int → Int → Prop) (a b : Int) : Prop := σ (fl_1 g) a ∧ σ (fl_2 V g) b ∧ (fl_1 g = fl_2 V g → a = b) ∧ fl_p h C g a b
def fl_w (h V : Int) (g : Int → Int) (a b s v : Int) : Prop := (s = fl_1 g ∧ fl_1 g ≠ fl_t V g ∧ v = a) ∨ (s = fl_2 V g ∧ fl_2 V g ≠ fl_t V g ∧ v = b) ∨ (s = fl_t V g ∧ g 2 ≠ 3 ∧ v = fl_r h g a b)
def fl_k (V : Int) (g : Int → Int) (σ : Int → Int → Prop) (s v : Int) : Prop := (((s ≠ fl_1 g ∧ s ≠ fl_2 V g ∧ s ≠ fl_t V g) ∨ (s = fl_t V g ∧ g 2 = 8)) ∧ σ s v) ∨ (s = fl_t V g ∧ g 2 = 3 ∧ g 4 ≤ v ∧ v ≤ g 5)
def fl_F (h V C : Int) (g : Int → Int) (σ : Int → Int → Prop) (s v : Int) : Prop := ∃ a b, fl_G h V C g σ a b ∧ (fl_w h V g a b s v ∨ fl_k V g σ s v)
def ed_ok (h P V : Int) (g : Int → Int) : Prop :=
  (0 ≤ g 0 ∧ g 0 < P ∧ 0 ≤ g 1 ∧ g 1 < P ∧ 0 ≤ g 2 ∧ g 2 ≤ 8 ∧ 0 ≤ g 3 ∧ g 3 < V) ∧
  (g 2 = 1 → 0 ≤ g 4 ∧ g 4 ≤ 3 ∧ 0 ≤ g 5 ∧ g 5 < V ∧ 0 ≤ g 6 ∧ g 6 < V) ∧
  (g 2 = 2 → 0 ≤ g 4 ∧ g 4 ≤ 3 ∧ 0 ≤ g 5 ∧ g 5 < V ∧ -h ≤ g 6 ∧ g 6 < h) ∧
  (g 2 = 3 → -h ≤ g 4 ∧ g 4 ≤ g 5 ∧ g 5 < h) ∧
  (g 2 = 4 → 0 ≤ g 4 ∧ g 4 ≤ 6 ∧ 0 ≤ g 5 ∧ g 5 < V) ∧
  (g 2 = 5 → 0 ≤ g 4 ∧ g 4 ≤ 6 ∧ -h ≤ g 5 ∧ g 5 < h) ∧
  (g 2 = 6 → 0 ≤ g 4 ∧ g 4 < V ∧ 0 ≤ g 5 ∧ g 5 ≤ 6 ∧ -h ≤ g 6 ∧ g 6 < h) ∧
  (g 2 = 7 ∨ g 2 = 8 → 0 ≤ g 4 ∧ g 4 < V) ∧
  ((-20 ≤ g 4 ∧ g 4 ≤ 20 ∧ -20 ≤ g 5 ∧ g 5 ≤ 20 ∧ -20 ≤ g 6 ∧ g 6 ≤ 20) ∧ (g 2 = 4 ∨ g 2 = 5 → g 6 = 0 ∨ g 6 = 1))
theorem fl_F_mono {h V C : Int} {g : Int → Int} {σ τ : Int → Int → Prop} (H : ∀ s v, σ s v → τ s v) {s v : Int} (hf : fl_F h V C g σ s v) : fl_F h V C g τ s v := by
  obtain ⟨a, b, ⟨g1, g2, g3, g4⟩, hw⟩ := hf
  refine ⟨a, b, ⟨H _ _ g1, H _ _ g2, g3, g4⟩, ?_⟩
  rcases hw with hw | (⟨h1, h2⟩ | h1)
  · exact Or.inl hw
  · exact Or.inr (Or.inl ⟨h1, H _ _ h2⟩)
  · exact Or.inr (Or.inr h1)
theorem ed_12 {h P V : Int} {g : Int → Int} (ho : ed_ok h P V g) (hV : 1 ≤ V) : 0 ≤ fl_1 g ∧ fl_1 g < V ∧ 0 ≤ fl_2 V g ∧ fl_2 V g ≤ V ∧ -1 ≤ fl_t V g ∧ fl_t V g ≤ V := by
  obtain ⟨h0, h1, h2, h3, h4, h5, h6, h7, h8⟩ := ho
  unfold fl_1 fl_2 fl_t
  generalize g 2 = c at *
  rcases (by omega : c = 0 ∨ c = 1 ∨ c = 2 ∨ c = 3 ∨ c = 4 ∨ c = 5 ∨ c = 6 ∨ c = 7 ∨ c = 8) with e | e | e | e | e | e | e | e | e <;> subst e <;> simp <;> omega
/-! ===== closing a set: the hull, widened to thresholds ===== -/
def co_c (thr : Int → Prop) (w : Prop) (S : Int → Prop) (n : Int) : Prop :=
  S n ∨ ((∃ x y, S x ∧ S y ∧ x < y) ∧ (∃ a, S a ∧ (a ≤ n ∨ (w ∧ ∀ t, thr t → t ≤ a → t ≤ n))) ∧ (∃ b, S b ∧ (n ≤ b ∨ (w ∧ ∀ t, thr t → b ≤ t → n ≤ t))) ∧ ∀ d : Int, (∀ x y, S x → S y → d ∣ x - y) → ∀ x, S x → d ∣ n - x)
theorem co_mono {thr : Int → Prop} {w w' : Prop} {S T : Int → Prop} (H : ∀ n, S n → T n) (hw : w → w') {n : Int} (h : co_c thr w S n) : co_c thr w' T n := by
  rcases h with h | ⟨⟨x, y, hx, hy, hxy⟩, ⟨a, ha, ha2⟩, ⟨b, hb, hb2⟩, hd⟩
  · exact Or.inl (H n h)
  · refine Or.inr ⟨⟨x, y, H x hx, H y hy, hxy⟩, ⟨a, H a ha, ?_⟩, ⟨b, H b hb, ?_⟩, fun d d1 z hz => ?_⟩
    · rcases ha2 with h | h
      · exact Or.inl h
      · exact Or.inr ⟨hw h.1, h.2⟩
    · rcases hb2 with h | h
      · exact Or.inl h
      · exact Or.inr ⟨hw h.1, h.2⟩
    · exact dv_t (hd d (fun u v hu hv => d1 u v (H u hu) (H v hv)) x hx) (d1 x z (H x hx) hz)
theorem co_1 {thr : Int → Prop} {w : Prop} {c : cT} {S : Int → Prop} (h : cl_h c S) (hl : ¬ c.1 < c.2.1) (n : Int) : co_c thr w S n ↔ cl_m c n := by
  constructor
  · rintro (hn | ⟨⟨x, y, hx, hy, hxy⟩, _⟩)
    · exact cl_hs h hn
    · have h1 := cl_hs h hx
      have h2 := cl_hs h hy
      unfold cl_m at h1 h2
      omega
  · intro hn
    rcases h with ⟨rfl, _⟩ | h
    · exact (cl_me hn).elim
    · have h1 := cl_pl (cl_Np h)
      have h2 : n = c.1 := by
        unfold cl_m at hn
        omega
      rw [h2]
      exact Or.inl h.1
theorem co_d {c : cT} {S : Int → Prop} (h : cl_N c S) {n : Int} (hn : c.2.2 ∣ n - c.1) (d : Int) (hd : ∀ x y, S x → S y → d ∣ x - y) (x : Int) (hx : S x) : d ∣ n - x := by
  have h1 : d ∣ c.2.2 := (h.2.2.2.2 d).mpr (fun m hm => hd m _ hm h.1)
  exact dv_t (Int.dvd_trans h1 hn) (hd _ _ h.1 hx)
theorem co_s {c : cT} {S : Int → Prop} (h : cl_N c S) {n : Int} (hd : ∀ d : Int, (∀ x y, S x → S y → d ∣ x - y) → ∀ x, S x → d ∣ n - x) : c.2.2 ∣ n - c.1 :=
  hd _ (fun x y hx hy => dv_s ((h.2.2.2.2 _).mp (Int.dvd_refl _) x hx) ((h.2.2.2.2 _).mp (Int.dvd_refl _) y hy)) _ h.1
theorem co_N {thr : Int → Prop} {w : Prop} {c : cT} {S : Int → Prop} (h : cl_h c S) (hw : ¬ w) (n : Int) : co_c thr w S n ↔ cl_m c n := by
  by_cases hl : c.1 < c.2.1
  · have hN := cl_hl h (by omega)
    constructor
    · rintro (hn | ⟨_, ⟨a, ha, ha2⟩, ⟨b, hb, hb2⟩, hd⟩)
      · exact cl_hs h hn
      · have h1 := cl_hs h ha
        have h2 := cl_hs h hb
        unfold cl_m at h1 h2
        rcases ha2 with h3 | h3
        · rcases hb2 with h4 | h4
          · exact ⟨by omega, by omega, co_s hN hd⟩
          · exact absurd h4.1 hw
        · exact absurd h3.1 hw
    · intro hn
      exact Or.inr ⟨⟨_, _, hN.1, hN.2.1, hl⟩, ⟨_, hN.1, Or.inl hn.1⟩, ⟨_, hN.2.1, Or.inl hn.2.1⟩, fun d hd x hx => co_d hN hn.2.2 d hd x hx⟩
  · exact co_1 h hl n
theorem co_W {thr : Int → Prop} {w : Prop} {lo hi st be ab : Int} {S : Int → Prop} (h : cl_N (lo, hi, st) S) (hw : w) (hl : lo < hi) (b1 : thr be) (b2 : be ≤ lo) (b3 : ∀ t, thr t → t ≤ lo → t ≤ be) (a1 : thr ab) (a2 : hi ≤ ab) (a3 : ∀ t, thr t → hi ≤ t → ab ≤ t) : cl_p (lo - (lo - be) / st * st, hi + (ab - hi) / st * st, st) ∧ ∀ n, co_c thr w S n ↔ cl_m (lo - (lo - be) / st * st, hi + (ab - hi) / st * st, st) n := by
  have hp := cl_Np h
  have hp2 : 0 < st ∧ st ∣ hi - lo := by
    rcases hp with ⟨p1, p2⟩ | ⟨p1, p2, p3⟩
    · dsimp only at p1
      omega
    · exact ⟨p2, p3⟩
  obtain ⟨s0, sd⟩ := hp2
  have e1 := Int.emod_add_ediv_mul (lo - be) st
  have e2 := Int.emod_nonneg (lo - be) (b := st) (by omega)
  have e3 := Int.emod_lt_of_pos (lo - be) s0
  have e4 := Int.emod_add_ediv_mul (ab - hi) st
  have e5 := Int.emod_nonneg (ab - hi) (b := st) (by omega)
  have e6 := Int.emod_lt_of_pos (ab - hi) s0
  have e7 : 0 ≤ (lo - be) / st * st := Int.mul_nonneg (Int.ediv_nonneg (by omega) (by omega)) (by omega)
  have e8 : 0 ≤ (ab - hi) / st * st := Int.mul_nonneg (Int.ediv_nonneg (by omega) (by omega)) (by omega)
  have d1 : st ∣ (lo - be) / st * st := Int.dvd_mul_left _ _
  have d2 : st ∣ (ab - hi) / st * st := Int.dvd_mul_left _ _
  generalize (lo - be) / st * st = p at *
  generalize (ab - hi) / st * st = q at *
  generalize (lo - be) % st = r1 at *
  generalize (ab - hi) % st = r2 at *
  have d3 : st ∣ lo - (lo - p) := by
    rw [show lo - (lo - p) = p by omega]
    exact d1
  have d4 : st ∣ hi + q - lo := by
    have := Int.dvd_add sd d2
    rwa [show hi - lo + q = hi + q - lo by omega] at this
  refine ⟨Or.inr ⟨by dsimp only; omega, s0, dv_t d4 d3⟩, fun n => ⟨?_, ?_⟩⟩
  · rintro (hn | ⟨_, ⟨a, ha, ha2⟩, ⟨b, hb, hb2⟩, hd⟩)
    · have h1 := h.2.2.2.1 n hn
      dsimp only at h1
      exact ⟨by dsimp only; omega, by dsimp only; omega, dv_t ((h.2.2.2.2 st).mp (Int.dvd_refl st) n hn) d3⟩
    · have h1 := h.2.2.2.1 a ha
      have h2 := h.2.2.2.1 b hb
      dsimp only at h1 h2
      have h3 : be ≤ n := by
        rcases ha2 with h3 | h3
        · omega
        · exact h3.2 be b1 (by omega)
      have h4 : n ≤ ab := by
        rcases hb2 with h4 | h4
        · omega
        · exact h4.2 ab a1 (by omega)
      have h5 : st ∣ n - lo := co_s h hd
      have h6 := dv_ge s0 (dv_t h5 d3) (by omega)
      have h7 := dv_ge s0 (dv_s d4 h5) (by omega)
      exact ⟨by dsimp only; omega, by dsimp only; omega, dv_t h5 d3⟩
  · rintro ⟨n1, n2, n3⟩
    dsimp only at n1 n2 n3
    have h5 : st ∣ n - lo := dv_t n3 (dv_y d3)
    refine Or.inr ⟨⟨_, _, h.1, h.2.1, hl⟩, ⟨_, h.1, Or.inr ⟨hw, fun t ht1 ht2 => ?_⟩⟩, ⟨_, h.2.1, Or.inr ⟨hw, fun t ht1 ht2 => ?_⟩⟩, fun d hd x hx => co_d h h5 d hd x hx⟩
    · have := b3 t ht1 ht2
      omega
    · have := a3 t ht1 ht2
      omega
theorem co_e {thr : Int → Prop} {w : Prop} {S : Int → Prop} {n : Int} (h : co_c thr w S n) : ∃ x, S x := by
  rcases h with h | ⟨⟨x, _, hx, _⟩, _⟩
  · exact ⟨n, h⟩
  · exact ⟨x, hx⟩
theorem co_r {thr : Int → Prop} {w : Prop} {S : Int → Prop} {n l u : Int} (h : co_c thr w S n) (hS : ∀ x, S x → l ≤ x ∧ x ≤ u) (hl : thr l) (hu : thr u) : l ≤ n ∧ n ≤ u := by
  rcases h with h | ⟨_, ⟨a, ha, ha2⟩, ⟨b, hb, hb2⟩, _⟩
  · exact hS n h
  · have h1 := hS a ha
    have h2 := hS b hb
    constructor
    · rcases ha2 with h | h
      · omega
      · exact h.2 l hl h1.1
    · rcases hb2 with h | h
      · omega
      · exact h.2 u hu h2.2
/-! ===== the program and its sizes ===== -/
abbrev kT : Type := Int × Int × Int × Int × Int × Int × (Int → Int → Int) × (Int → Int)
def kB (k : kT) : Int := k.1
def kP (k : kT) : Int := k.2.1
def kV (k : kT) : Int := k.2.2.1
def kC (k : kT) : Int := k.2.2.2.1
def kE (k : kT) : Int := k.2.2.2.2.1
def kN (k : kT) : Int := k.2.2.2.2.2.1
def kA (k : kT) : Int → Int → Int := k.2.2.2.2.2.2.1
def kH (k : kT) : Int → Int := k.2.2.2.2.2.2.2
def kh (k : kT) : Int := hf (kB k)
def k_ok (k : kT) : Prop := (kB k = 3 ∨ kB k = 4 ∨ kB k = 5) ∧ (2 ≤ kP k ∧ kP k ≤ 10 ∧ 1 ≤ kV k ∧ kV k ≤ 3 ∧ 1 ≤ kC k ∧ kC k ≤ 8 ∧ 0 ≤ kE k ∧ kE k ≤ 20 ∧ 0 ≤ kN k ∧ kN k ≤ 6) ∧ (∀ e, 0 ≤ e → e < kE k → ed_ok (kh k) (kP k) (kV k) (kA k e)) ∧ (∀ i, 0 ≤ i → i < kN k → -kh k ≤ kH k i ∧ kH k i < kh k)
theorem k_h {k : kT} (h : k_ok k) : kh k = 4 ∨ kh k = 8 ∨ kh k = 16 := by
  rcases hf_c h.1 with e | e | e
  · exact Or.inl e.2
  · exact Or.inr (Or.inl e.2)
  · exact Or.inr (Or.inr e.2)
def k_t (k : kT) (t : Int) : Prop := t = -kh k ∨ t = kh k - 1 ∨ ∃ i, 0 ≤ i ∧ i < kN k ∧ kH k i = t
abbrev aT : Type := Int → Int → Int → Prop
def k_d (k : kT) (p s : Int) : Prop := 0 ≤ p ∧ p < kP k ∧ 0 ≤ s ∧ s ≤ kV k
def k_in (k : kT) (A : aT) (p s v : Int) : Prop := (p = 0 ∧ v = 0) ∨ ∃ e, 0 ≤ e ∧ e < kE k ∧ kA k e 1 = p ∧ fl_F (kh k) (kV k) (kC k) (kA k e) (A (kA k e 0)) s v
def k_hd (k : kT) (p : Int) : Prop := ∃ e, 0 ≤ e ∧ e < kE k ∧ kA k e 1 = p ∧ p ≤ kA k e 0
def k_F (k : kT) (w : Prop) (A : aT) : aT := fun p s v => k_d k p s ∧ co_c (k_t k) (w ∧ k_hd k p) (k_in k A p s) v
theorem k_Fm {k : kT} {w w' : Prop} {A B : aT} (hw : w → w') (H : ∀ p s v, A p s v → B p s v) {p s v : Int} (h : k_F k w A p s v) : k_F k w' B p s v := by
  refine ⟨h.1, co_mono (fun n hn => ?_) (fun x => ⟨hw x.1, x.2⟩) h.2⟩
  rcases hn with hn | ⟨e, e1, e2, e3, e4⟩
  · exact Or.inl hn
  · exact Or.inr ⟨e, e1, e2, e3, fl_F_mono (fun s v => H _ s v) e4⟩
/-- all states of a point are empty, or none; all in range -/
def k_g (k : kT) (A : aT) : Prop := (∀ p s v, A p s v → k_d k p s ∧ -kh k ≤ v ∧ v < kh k) ∧ ∀ p s v, A p s v → ∀ s', 0 ≤ s' → s' ≤ kV k → ∃ v', A p s' v'
theorem k_inr {k : kT} {A : aT} (ok : k_ok k) (hg : k_g k A) {p s v : Int} (h : k_in k A p s v) : -kh k ≤ v ∧ v ≤ kh k - 1 := by
  have hh := k_h ok
  rcases h with ⟨_, h⟩ | ⟨e, e1, e2, e3, a, b, ⟨g1, g2, g3, g4⟩, hw⟩
  · omega
  · have ra := (hg.1 _ _ _ g1).2
    have rb := (hg.1 _ _ _ g2).2
    have ho := ok.2.2.1 e e1 e2
    rcases hw with (hw | hw | ⟨_, h3, hw⟩) | (⟨_, hw⟩ | hw)
    · omega
    · omega
    · have w1 := wr_in (h := kh k) (a + b) hh
      have w2 := wr_in (h := kh k) (a - b) hh
      have w3 := wr_in (h := kh k) (a * b) hh
      have w4 := wr_in (h := kh k) (a + kA k e 6) hh
      have w5 := wr_in (h := kh k) (a - kA k e 6) hh
      have w6 := wr_in (h := kh k) (a * kA k e 6) hh
      rw [hw]
      unfold fl_r
      split
      · unfold fl_c
        split
        · omega
        · split
          · omega
          · split <;> omega
      · split
        · rename_i h2
          have := ho.2.2.1 h2
          unfold fl_c
          split
          · omega
          · split
            · omega
            · split <;> omega
        · omega
    · have := (hg.1 _ _ _ hw).2
      omega
    · have := ho.2.2.2.1 hw.2.1
      omega
theorem k_Fg {k : kT} {w : Prop} {A : aT} (ok : k_ok k) (hg : k_g k A) : k_g k (k_F k w A) := by
  refine ⟨fun p s v h => ⟨h.1, ?_⟩, fun p s v h s' h1 h2 => ?_⟩
  · have := co_r (l := -kh k) (u := kh k - 1) h.2 (fun x hx => k_inr ok hg hx) (Or.inl rfl) (Or.inr (Or.inl rfl))
    omega
  · obtain ⟨x, hx⟩ := co_e h.2
    suffices hs : ∃ v', k_in k A p s' v' by
      obtain ⟨v', hv⟩ := hs
      exact ⟨v', ⟨h.1.1, h.1.2.1, h1, h2⟩, Or.inl hv⟩
    rcases hx with ⟨hp, _⟩ | ⟨e, e1, e2, e3, a, b, hG, _⟩
    · exact ⟨0, Or.inl ⟨hp, rfl⟩⟩
    · suffices hs : ∃ v', fl_w (kh k) (kV k) (kA k e) a b s' v' ∨ fl_k (kV k) (kA k e) (A (kA k e 0)) s' v' by
        obtain ⟨v', hv⟩ := hs
        exact ⟨v', Or.inr ⟨e, e1, e2, e3, a, b, hG, hv⟩⟩
      have ho := ok.2.2.1 e e1 e2
      by_cases st : s' = fl_t (kV k) (kA k e)
      · by_cases k3 : kA k e 2 = 3
        · have := ho.2.2.2.1 k3
          exact ⟨kA k e 4, Or.inr (Or.inr ⟨st, k3, Int.le_refl _, by omega⟩)⟩
        · exact ⟨_, Or.inl (Or.inr (Or.inr ⟨st, k3, rfl⟩))⟩
      · by_cases s1 : s' = fl_1 (kA k e)
        · exact ⟨a, Or.inl (Or.inl ⟨s1, fun x => st (s1.trans x), rfl⟩)⟩
        · by_cases s2 : s' = fl_2 (kV k) (kA k e)
          · exact ⟨b, Or.inl (Or.inr (Or.inl ⟨s2, fun x => st (s2.trans x), rfl⟩))⟩
          · obtain ⟨v', hv⟩ := hg.2 _ _ _ hG.1 s' h1 h2
            exact ⟨v', Or.inr (Or.inl ⟨Or.inl ⟨s1, s2, st⟩, hv⟩)⟩
/-! ===== the fixpoints: X and Y reach the same ===== -/
def k_lf (k : kT) (A : aT) : Prop := (∀ p s v, A p s v → k_F k True A p s v) ∧ ∀ B : aT, (∀ p s v, k_F k True B p s v → B p s v) → ∀ p s v, A p s v → B p s v
def k_gf (k : kT) (A0 A : aT) : Prop := (∀ p s v, k_F k False A p s v → A p s v) ∧ (∀ p s v, A p s v → A0 p s v) ∧ ∀ B : aT, (∀ p s v, B p s v → A0 p s v) → (∀ p s v, B p s v → k_F k False B p s v) → ∀ p s v, B p s v → A p s v
/-- A' is A with the state of p replaced -/
def k_up (k : kT) (w : Prop) (p : Int) (A A' : aT) : Prop := ∀ q s v, A' q s v ↔ ((q = p ∧ k_F k w A q s v) ∨ (q ≠ p ∧ A q s v))
theorem k_lf0 (k : kT) {A : aT} (h : ∀ p s v, ¬ A p s v) : k_lf k A := ⟨fun p s v ha => absurd ha (h p s v), fun B _ p s v ha => absurd ha (h p s v)⟩
theorem k_lfu {k : kT} {p : Int} {A A' : aT} (h : k_lf k A) (hu : k_up k True p A A') : k_lf k A' ∧ ∀ q s v, A q s v → A' q s v := by
  have hle : ∀ q s v, A q s v → A' q s v := fun q s v ha => by
    rw [hu]
    by_cases e : q = p
    · exact Or.inl ⟨e, h.1 q s v ha⟩
    · exact Or.inr ⟨e, ha⟩
  refine ⟨⟨fun q s v ha => ?_, fun B hB q s v ha => ?_⟩, hle⟩
  · rcases (hu q s v).mp ha with ⟨_, h1⟩ | ⟨_, h1⟩
    · exact k_Fm id hle h1
    · exact k_Fm id hle (h.1 q s v h1)
  · rcases (hu q s v).mp ha with ⟨_, h1⟩ | ⟨_, h1⟩
    · exact hB q s v (k_Fm id (h.2 B hB) h1)
    · exact h.2 B hB q s v h1
theorem k_gf0 {k : kT} {A : aT} (h : ∀ p s v, k_F k True A p s v → A p s v) : k_gf k A A := ⟨fun p s v ha => h p s v (k_Fm False.elim (fun _ _ _ x => x) ha), fun _ _ _ x => x, fun B hB _ => hB⟩
theorem k_gfu {k : kT} {p : Int} {A0 A A' : aT} (h : k_gf k A0 A) (hu : k_up k False p A A') : k_gf k A0 A' ∧ ∀ q s v, A' q s v → A q s v := by
  have hle : ∀ q s v, A' q s v → A q s v := fun q s v ha => by
    rcases (hu q s v).mp ha with ⟨_, h1⟩ | ⟨_, h1⟩
    · exact h.1 q s v h1
    · exact h1
  refine ⟨⟨fun q s v ha => ?_, fun q s v ha => h.2.1 q s v (hle q s v ha), fun B hB1 hB2 q s v hb => ?_⟩, hle⟩
  · rw [hu]
    have h1 := k_Fm id hle ha
    by_cases e : q = p
    · exact Or.inl ⟨e, h1⟩
    · exact Or.inr ⟨e, h.1 q s v h1⟩
  · rw [hu]
    have h1 := h.2.2 B hB1 hB2
    by_cases e : q = p
    · exact Or.inl ⟨e, k_Fm id h1 (hB2 q s v hb)⟩
    · exact Or.inr ⟨e, h1 q s v hb⟩
theorem k_lfe {k : kT} {A B : aT} (h : k_lf k A) (h' : k_lf k B) (e : ∀ p s v, k_F k True A p s v → A p s v) (e' : ∀ p s v, k_F k True B p s v → B p s v) : A = B := by
  funext p s v
  exact propext ⟨h.2 B e' p s v, h'.2 A e p s v⟩
theorem k_gfe {k : kT} {A0 A B : aT} (h : k_gf k A0 A) (h' : k_gf k A0 B) (e : ∀ p s v, A p s v → k_F k False A p s v) (e' : ∀ p s v, B p s v → k_F k False B p s v) : A = B := by
  funext p s v
  exact propext ⟨h'.2.2 A h.2.1 e p s v, h.2.2 B h'.2.1 e' p s v⟩
/-! ===== counting members ===== -/
noncomputable def ct_b (p : Prop) : Nat := @ite Nat p (Classical.propDecidable p) 1 0
theorem ct_b1 {p : Prop} (h : p) : ct_b p = 1 := if_pos h
theorem ct_b0 {p : Prop} (h : ¬ p) : ct_b p = 0 := if_neg h
noncomputable def ct_n (P : Nat → Prop) : Nat → Nat
  | 0 => 0
  | n + 1 => ct_n P n + ct_b (P n)
theorem ct_bl {p q : Prop} (h : p → q) : ct_b p ≤ ct_b q := by
  by_cases hp : p
  · rw [ct_b1 hp, ct_b1 (h hp)]
    exact Nat.le_refl _
  · rw [ct_b0 hp]
    exact Nat.zero_le _
theorem ct_m (p : Prop) : ct_b p ≤ 1 := by
  by_cases hp : p
  · rw [ct_b1 hp]
    exact Nat.le_refl _
  · rw [ct_b0 hp]
    exact Nat.zero_le _
theorem ct_le {P Q : Nat → Prop} : ∀ n, (∀ i, i < n → P i → Q i) → ct_n P n ≤ ct_n Q n
  | 0, _ => Nat.le_refl _
  | n + 1, h => Nat.add_le_add (ct_le n fun i hi => h i (by omega)) (ct_bl (h n (by omega)))
theorem ct_mx (P : Nat → Prop) : ∀ n, ct_n P n ≤ n
  | 0 => Nat.le_refl _
  | n + 1 => Nat.add_le_add (ct_mx P n) (ct_m _)
theorem ct_lt {P Q : Nat → Prop} {j : Nat} (hp : ¬ P j) (hq : Q j) : ∀ n, j < n → (∀ i, i < n → P i → Q i) → ct_n P n < ct_n Q n
  | 0, hj, _ => by omega
  | n + 1, hj, h => by
    show ct_n P n + ct_b (P n) < ct_n Q n + ct_b (Q n)
    by_cases e : j = n
    · subst e
      have h1 := ct_le (P := P) (Q := Q) j (fun i hi => h i (by omega))
      rw [ct_b0 hp, ct_b1 hq]
      omega
    · have h1 := ct_lt hp hq n (by omega) (fun i hi => h i (by omega))
      have h2 := ct_bl (h n (by omega))
      omega
noncomputable def k_ct (A : aT) : Nat := ct_n (fun i => A ((i : Int) / 128) ((i : Int) % 128 / 32) ((i : Int) % 32 - 16)) 1280
theorem k_ctm (A : aT) : k_ct A ≤ 1280 := ct_mx _ _
theorem k_ctl {k : kT} {A B : aT} (ok : k_ok k) (hg : k_g k B) (h : ∀ p s v, A p s v → B p s v) {p s v : Int} (ha : ¬ A p s v) (hb : B p s v) : k_ct A < k_ct B := by
  have h1 := hg.1 p s v hb
  have h2 := ok.2.1
  have h3 := k_h ok
  unfold k_d at h1
  have e : (((p * 128 + s * 32 + v + 16).toNat : Nat) : Int) = p * 128 + s * 32 + v + 16 := Int.toNat_of_nonneg (by omega)
  have e1 : (((p * 128 + s * 32 + v + 16).toNat : Nat) : Int) / 128 = p := by omega
  have e2 : (((p * 128 + s * 32 + v + 16).toNat : Nat) : Int) % 128 / 32 = s := by omega
  have e3 : (((p * 128 + s * 32 + v + 16).toNat : Nat) : Int) % 32 - 16 = v := by omega
  refine ct_lt (j := (p * 128 + s * 32 + v + 16).toNat) ?_ ?_ 1280 (by omega) (fun i _ => h _ _ _)
  · rw [e1, e2, e3]
    exact ha
  · rw [e1, e2, e3]
    exact hb
end
section
/-! ===== X's state: the program k, the machine z, the order's arrays R, the classes M ===== -/
abbrev zT : Type := Int32 × Int32 × Int32 × Int32 × Int32 × (Nat → Int32) × (Nat → Int32)
abbrev rT : Type := (Nat → Int32) × (Nat → Int32) × (Nat → Int32) × (Nat → Int32)
abbrev mT : Type := Int → cT
def xA (k : kT) (f : Int) : Nat → Int32 := fun e => iI (kA k (e : Int) f)
def xH (k : kT) : Nat → Int32 := fun i => iI (kH k (i : Int))
def xL (M : mT) : Nat → Int32 := fun j => iI (M (j : Int)).1
def xU (M : mT) : Nat → Int32 := fun j => iI (M (j : Int)).2.1
def xS (M : mT) : Nat → Int32 := fun j => iI (M (j : Int)).2.2
abbrev XD (k : kT) (z : zT) (R : rT) (L H T : Nat → Int32) : SX := (iI (kB k), iI (kP k), iI (kV k), iI (kC k), iI (-kh k), iI (kh k - 1), iI (kE k), iI (kN k), z.1, 40, 44, 48, 49, 50, 51, z.2.1, z.2.2.1, z.2.2.2.1, z.2.2.2.2.1, xA k 0, xA k 1, xA k 2, xA k 3, xA k 4, xA k 5, xA k 6, xH k, L, H, T, R.1, R.2.1, R.2.2.1, R.2.2.2, z.2.2.2.2.2.1, z.2.2.2.2.2.2)
abbrev XC (k : kT) (z : zT) (R : rT) (M : mT) : SX := XD k z R (xL M) (xU M) (xS M)
def ms (M : mT) (c : Int) (v : cT) : mT := fun j => if j = c then v else M j
theorem ms_s (M : mT) (c : Int) (v : cT) : ms M c v c = v := if_pos rfl
theorem ms_n (M : mT) {c j : Int} (v : cT) (h : j ≠ c) : ms M c v j = M j := if_neg h
theorem ms_i (M : mT) (c : Int) : ms M c (M c) = M := by
  funext j
  unfold ms
  split
  · rename_i h
    rw [h]
  · rfl
theorem xa_g (k : kT) (f : Int) {e : Int} (h : 0 ≤ e ∧ e ≤ 1000) : xA k f (iI e).toNatClampNeg = iI (kA k e f) := by
  unfold xA
  rw [ii_clamp (by omega), Int.toNat_of_nonneg h.1]
theorem xh_g (k : kT) {e : Int} (h : 0 ≤ e ∧ e ≤ 1000) : xH k (iI e).toNatClampNeg = iI (kH k e) := by
  unfold xH
  rw [ii_clamp (by omega), Int.toNat_of_nonneg h.1]
theorem xl_g (M : mT) {e : Int} (h : 0 ≤ e ∧ e ≤ 1000) : xL M (iI e).toNatClampNeg = iI (M e).1 := by
  unfold xL
  rw [ii_clamp (by omega), Int.toNat_of_nonneg h.1]
theorem xu_g (M : mT) {e : Int} (h : 0 ≤ e ∧ e ≤ 1000) : xU M (iI e).toNatClampNeg = iI (M e).2.1 := by
  unfold xU
  rw [ii_clamp (by omega), Int.toNat_of_nonneg h.1]
theorem xs_g (M : mT) {e : Int} (h : 0 ≤ e ∧ e ≤ 1000) : xS M (iI e).toNatClampNeg = iI (M e).2.2 := by
  unfold xS
  rw [ii_clamp (by omega), Int.toNat_of_nonneg h.1]
theorem ci_j {c : Int} (h : 0 ≤ c ∧ c ≤ 1000) (j : Nat) : j = (iI c).toNatClampNeg ↔ (j : Int) = c := by
  rw [ii_clamp (by omega)]
  omega
theorem xl_u (M : mT) {c : Int} (v : cT) {x : Int32} (h : 0 ≤ c ∧ c ≤ 1000) (hx : x = iI v.1) : upd (xL M) (iI c).toNatClampNeg x = xL (ms M c v) := by
  funext j
  unfold upd xL ms
  by_cases e : (j : Int) = c
  · rw [if_pos ((ci_j h j).mpr e), if_pos e, hx]
  · rw [if_neg (fun x => e ((ci_j h j).mp x)), if_neg e]
theorem xu_u (M : mT) {c : Int} (v : cT) {x : Int32} (h : 0 ≤ c ∧ c ≤ 1000) (hx : x = iI v.2.1) : upd (xU M) (iI c).toNatClampNeg x = xU (ms M c v) := by
  funext j
  unfold upd xU ms
  by_cases e : (j : Int) = c
  · rw [if_pos ((ci_j h j).mpr e), if_pos e, hx]
  · rw [if_neg (fun x => e ((ci_j h j).mp x)), if_neg e]
theorem xs_u (M : mT) {c : Int} (v : cT) {x : Int32} (h : 0 ≤ c ∧ c ≤ 1000) (hx : x = iI v.2.2) : upd (xS M) (iI c).toNatClampNeg x = xS (ms M c v) := by
  funext j
  unfold upd xS ms
  by_cases e : (j : Int) = c
  · rw [if_pos ((ci_j h j).mpr e), if_pos e, hx]
  · rw [if_neg (fun x => e ((ci_j h j).mp x)), if_neg e]
theorem xl_k (M : mT) {c : Int} (v : cT) (hx : v.1 = (M c).1) : xL M = xL (ms M c v) := by
  funext j
  unfold xL ms
  split
  · rename_i e
    rw [hx, e]
  · rfl
theorem xu_k (M : mT) {c : Int} (v : cT) (hx : v.2.1 = (M c).2.1) : xU M = xU (ms M c v) := by
  funext j
  unfold xU ms
  split
  · rename_i e
    rw [hx, e]
  · rfl
theorem xs_k (M : mT) {c : Int} (v : cT) (hx : v.2.2 = (M c).2.2) : xS M = xS (ms M c v) := by
  funext j
  unfold xS ms
  split
  · rename_i e
    rw [hx, e]
  · rfl
/-- a small class -/
def cs_ (c : cT) : Prop := -1000 ≤ c.1 ∧ c.1 ≤ 1000 ∧ -1000 ≤ c.2.1 ∧ c.2.1 ≤ 1000 ∧ 0 ≤ c.2.2 ∧ c.2.2 ≤ 1000
theorem cs_p {c : cT} (h : cl_p c) (h1 : -400 ≤ c.1) (h2 : c.2.1 ≤ 400) : cs_ c := by
  unfold cs_
  rcases h with h | ⟨h3, h4, h5⟩
  · omega
  · have := Int.le_of_dvd (by omega) h5
    omega
theorem cs_n {c : cT} (h : cl_n c) (h1 : ∀ n, cl_m c n → -400 ≤ n ∧ n ≤ 400) : cs_ c := by
  rcases h with rfl | h
  · unfold cs_
    dsimp only
    omega
  · have hN := cl_hm h
    exact cs_p h (h1 _ hN.1).1 (h1 _ hN.2.1).2
theorem cs_h {c : cT} {S : Int → Prop} (h : cl_h c S) (h1 : ∀ n, S n → -400 ≤ n ∧ n ≤ 400) : cs_ c := by
  rcases h with ⟨rfl, _⟩ | h
  · unfold cs_
    dsimp only
    omega
  · exact cs_p (cl_Np h) (h1 _ h.1).1 (h1 _ h.2.1).2
section
variable {k : kT} {z : zT} {R : rT} {M : mT}
theorem x_clear {post : SX → Prop} {c : Int} {x : Int32} (hx : x = iI c) (hc : 0 ≤ c ∧ c < 52) (h : post (XC k z R (ms M c (1, 0, 0)))) : wpX_clearClass post (XC k z R M) x := by
  subst hx
  have hi : vp_in (iI c) 52 := ii_in (by omega) (by omega) (by omega)
  exact And.intro hi (nm_r (xl_u M (1, 0, 0) (by omega) rfl) (And.intro hi (nm_r (xu_u M (1, 0, 0) (by omega) rfl) (And.intro hi (nm_r (xs_u M (1, 0, 0) (by omega) rfl) h)))))
theorem x_set {post : SX → Prop} {c lo hi st : Int} {x x1 x2 x3 : Int32} (hx : x = iI c) (h1 : x1 = iI lo) (h2 : x2 = iI hi) (h3 : x3 = iI st) (hc : 0 ≤ c ∧ c < 52) (hb : -100000 ≤ lo ∧ lo ≤ 100000 ∧ -100000 ≤ hi ∧ hi ≤ 100000) (h : post (XC k z R (ms M c (lo, hi, if lo = hi then 0 else st)))) : wpX_setClass post (XC k z R M) x x1 x2 x3 := by
  subst hx h1 h2 h3
  have hin : vp_in (iI c) 52 := ii_in (by omega) (by omega) (by omega)
  refine And.intro hin (nm_r (xl_u M (lo, hi, if lo = hi then 0 else st) (by omega) rfl) (And.intro hin (nm_r (xu_u M (lo, hi, if lo = hi then 0 else st) (by omega) rfl) (ib_eq lo hi (fun e => ?_) (fun e => ?_)))))
  · exact And.intro hin (nm_r (xs_u M (lo, hi, if lo = hi then 0 else st) (by omega) (by dsimp only; rw [if_pos e]; rfl)) h)
  · exact And.intro hin (nm_r (xs_u M (lo, hi, if lo = hi then 0 else st) (by omega) (by dsimp only; rw [if_neg e])) h)
theorem x_copy {post : SX → Prop} {c d : Int} {x y : Int32} (hx : x = iI c) (hy : y = iI d) (hc : 0 ≤ c ∧ c < 52) (hd : 0 ≤ d ∧ d < 52) (h : post (XC k z R (ms M c (M d)))) : wpX_copyClass post (XC k z R M) x y := by
  subst hx hy
  have hin : vp_in (iI c) 52 := ii_in (by omega) (by omega) (by omega)
  have hid : vp_in (iI d) 52 := ii_in (by omega) (by omega) (by omega)
  exact And.intro hid (And.intro hin (nm_r (xl_u M (M d) (by omega) (xl_g M (by omega))) (And.intro hid (And.intro hin (nm_r (xu_u M (M d) (by omega) (xu_g M (by omega))) (And.intro hid (And.intro hin (nm_r (xs_u M (M d) (by omega) (xs_g M (by omega))) h))))))))
theorem x_emp {post : Int32 → Prop} {c : Int} {x : Int32} (hx : x = iI c) (hc : 0 ≤ c ∧ c < 52) (hs : cs_ (M c)) (h0 : (M c).1 ≤ (M c).2.1 → post 0) (h1 : (M c).2.1 < (M c).1 → post 1) : wpX_isEmpty post (XC k z R M) x := by
  subst hx
  have hin : vp_in (iI c) 52 := ii_in (by omega) (by omega) (by omega)
  unfold cs_ at hs
  exact And.intro hin (And.intro hin (ib_le (M c).1 (M c).2.1 h0 h1 (xl_g M (by omega)) (xu_g M (by omega)) (by omega)))
theorem gc_r {a b : Int} (ha : 0 ≤ a) (hb : 0 < b) : Int.gcd a b = Int.gcd b (a.tmod b) := by
  rw [Int.tmod_eq_emod_of_nonneg ha]
  obtain ⟨m, rfl⟩ := Int.eq_ofNat_of_zero_le ha
  obtain ⟨n, rfl⟩ := Int.eq_ofNat_of_zero_le (show 0 ≤ b by omega)
  rw [← Int.natCast_emod, Int.gcd_natCast_natCast, Int.gcd_natCast_natCast, Nat.gcd_comm m n, Nat.gcd_rec n m, Nat.gcd_comm]
theorem x_gcd8 {post : Int32 → Prop} : ∀ (n : Nat) (a b i : Int), 0 ≤ a → a ≤ 100000 → 0 ≤ b → b + i ≤ 64 → b < n → 0 ≤ i → post (iI (Int.gcd a b)) → wX_gcd_8 post (iI (kB k)) (iI (kP k)) (iI (kV k)) (iI (kC k)) (iI (-kh k)) (iI (kh k - 1)) (iI (kE k)) (iI (kN k)) z.1 40 44 48 49 50 51 z.2.1 z.2.2.1 z.2.2.2.1 z.2.2.2.2.1 (xA k 0) (xA k 1) (xA k 2) (xA k 3) (xA k 4) (xA k 5) (xA k 6) (xH k) (xL (M)) (xU (M)) (xS (M)) R.1 R.2.1 R.2.2.1 R.2.2.2 z.2.2.2.2.2.1 z.2.2.2.2.2.2 n (iI a) (iI b) (iI i)
  | 0, a, b, i, _, _, h3, _, h5, _, _ => by omega
  | n + 1, a, b, i, h1, h2, h3, h4, h5, h6, hp => by
    have z0 : b = 0 → post (iI a) := fun e => by
      rw [e, Int.gcd_zero, Int.natAbs_of_nonneg h1] at hp
      exact hp
    refine ib_le 64 i (fun e => z0 (by omega)) (fun e => ib_eq b 0 z0 (fun e2 => And.intro (ib_ne b e2) (nm_r (ii_rem (by omega) (by omega)) (nm_r (ii_add i 1) ?_))))
    have t1 := Int.tmod_nonneg b h1
    have t2 := Int.tmod_lt_of_pos a (show 0 < b by omega)
    exact x_gcd8 n b (a.tmod b) (i + 1) h3 (by omega) t1 (by omega) (by omega) (by omega) (by rw [← gc_r h1 (by omega)]; exact hp)
theorem x_gcd {post : Int32 → Prop} {a b : Int} {x y : Int32} (hx : x = iI a) (hy : y = iI b) (ha : 0 ≤ a ∧ a ≤ 100000) (hb : 0 ≤ b ∧ b ≤ 60) (h : post (iI (Int.gcd a b))) : wpX_gcd post (XC k z R M) x y := by
  subst hx hy
  exact Exists.intro 100 (x_gcd8 100 a b 0 ha.1 ha.2 hb.1 (by omega) (by omega) (by omega) h)
end
end
section
/-! ===== X: join, clip, isMember, restrict ===== -/
theorem gc_b {a b : Int} (ha : 0 ≤ a ∧ a ≤ 1000) (hb : 0 ≤ b ∧ b ≤ 1000) : 0 ≤ (Int.gcd a b : Int) ∧ (Int.gcd a b : Int) ≤ 1000 := by
  refine ⟨Int.natCast_nonneg _, ?_⟩
  by_cases h : a = 0
  · rw [h, Int.zero_gcd, Int.natAbs_of_nonneg hb.1]
    exact hb.2
  · have := Int.gcd_le_left b (show 0 < a by omega)
    omega
section
variable {k : kT} {z : zT} {R : rT} {M : mT}
theorem x_j109 {post : SX → Prop} {c hi : Int} (v : cT) (hc : 0 ≤ c ∧ c < 52) (hs : cs_ (M c)) (hb : -1000 ≤ hi ∧ hi ≤ 1000) (hv : v.2.1 = if (M c).2.1 < hi then hi else (M c).2.1) (h : post (XC k z R (ms M c v))) : wX_join_109 post (iI c) (iI hi) (iI (kB k)) (iI (kP k)) (iI (kV k)) (iI (kC k)) (iI (-kh k)) (iI (kh k - 1)) (iI (kE k)) (iI (kN k)) z.1 40 44 48 49 50 51 z.2.1 z.2.2.1 z.2.2.2.1 z.2.2.2.2.1 (xA k 0) (xA k 1) (xA k 2) (xA k 3) (xA k 4) (xA k 5) (xA k 6) (xH k) (xL (ms M c v)) (xU M) (xS (ms M c v)) R.1 R.2.1 R.2.2.1 R.2.2.2 z.2.2.2.2.2.1 z.2.2.2.2.2.2 := by
  have hin : vp_in (iI c) 52 := ii_in (by omega) (by omega) (by omega)
  unfold cs_ at hs
  refine And.intro hin (ib_le hi (M c).2.1 (fun e => ?_) (fun e => ?_) rfl (xu_g M (by omega)) (by omega))
  · have e2 := xu_k M (c := c) v (by rw [hv, if_neg (by omega)])
    show post (XD k z R (xL (ms M c v)) (xU M) (xS (ms M c v)))
    rw [e2]
    exact h
  · exact And.intro hin (nm_r (xu_u M v (by omega) (by rw [hv, if_pos (by omega)])) h)
theorem x_j73 {post : SX → Prop} {c lo hi gap s1 : Int} {x5 x6 x7 : Int32} (v : cT) (e5 : x5 = iI gap) (e6 : x6 = iI s1) (e7 : x7 = iI (M c).2.2) (hc : 0 ≤ c ∧ c < 52) (hs : cs_ (M c)) (hb : -1000 ≤ lo ∧ lo ≤ 1000 ∧ -1000 ≤ hi ∧ hi ≤ 1000) (hg : 0 ≤ gap ∧ gap ≤ 60) (h1 : 0 ≤ s1 ∧ s1 ≤ 60) (hv : v = (if lo < (M c).1 then lo else (M c).1, if (M c).2.1 < hi then hi else (M c).2.1, ((Int.gcd (Int.gcd (M c).2.2 s1 : Nat) gap : Nat) : Int))) (h : post (XC k z R (ms M c v))) : wX_join_73 post (iI c) (iI lo) (iI hi) x5 x6 x7 (iI (kB k)) (iI (kP k)) (iI (kV k)) (iI (kC k)) (iI (-kh k)) (iI (kh k - 1)) (iI (kE k)) (iI (kN k)) z.1 40 44 48 49 50 51 z.2.1 z.2.2.1 z.2.2.2.1 z.2.2.2.2.1 (xA k 0) (xA k 1) (xA k 2) (xA k 3) (xA k 4) (xA k 5) (xA k 6) (xH k) (xL (M)) (xU (M)) (xS (M)) R.1 R.2.1 R.2.2.1 R.2.2.2 z.2.2.2.2.2.1 z.2.2.2.2.2.2 := by
  subst e5 e6 e7
  have hin : vp_in (iI c) 52 := ii_in (by omega) (by omega) (by omega)
  have hs2 := hs
  unfold cs_ at hs2
  have g1 := gc_b (a := (M c).2.2) (b := s1) (by omega) (by omega)
  refine x_gcd rfl rfl (by omega) h1 (x_gcd rfl rfl (by omega) hg (And.intro hin (nm_r (xs_u M v (by omega) (by rw [hv])) (And.intro hin (ib_le (M c).1 lo (fun e => ?_) (fun e => ?_) (xl_g M (by omega)) rfl (by omega))))))
  · have e2 := xl_k M (c := c) v (by rw [hv]; dsimp only; rw [if_neg (by omega)])
    show wX_join_109 post (iI c) (iI hi) (iI (kB k)) (iI (kP k)) (iI (kV k)) (iI (kC k)) (iI (-kh k)) (iI (kh k - 1)) (iI (kE k)) (iI (kN k)) z.1 40 44 48 49 50 51 z.2.1 z.2.2.1 z.2.2.2.1 z.2.2.2.2.1 (xA k 0) (xA k 1) (xA k 2) (xA k 3) (xA k 4) (xA k 5) (xA k 6) (xH k) (xL M) (xU M) (xS (ms M c v)) R.1 R.2.1 R.2.2.1 R.2.2.2 z.2.2.2.2.2.1 z.2.2.2.2.2.2
    rw [e2]
    exact x_j109 v hc hs (by omega) (by rw [hv]) h
  · exact And.intro hin (nm_r (xl_u M v (by omega) (by rw [hv]; dsimp only; rw [if_pos (by omega)])) (x_j109 v hc hs (by omega) (by rw [hv]) h))
theorem x_join {post : SX → Prop} {c lo hi st : Int} {x x1 x2 x3 : Int32} (hx : x = iI c) (h1 : x1 = iI lo) (h2 : x2 = iI hi) (h3 : x3 = iI st) {S T : Int → Prop} (hc : 0 ≤ c ∧ c < 52) (hS : cl_h (M c) S) (rS : ∀ n, S n → -16 ≤ n ∧ n ≤ 16) (hb : -1000 ≤ lo ∧ lo ≤ 1000 ∧ -1000 ≤ hi ∧ hi ≤ 1000) (hT : (hi < lo ∧ ∀ n, ¬ T n) ∨ (cl_N (lo, hi, if lo = hi then 0 else st) T ∧ ∀ n, T n → -16 ≤ n ∧ n ≤ 16)) (h : ∀ c', cl_h c' (fun n => S n ∨ T n) → post (XC k z R (ms M c c'))) : wpX_join post (XC k z R M) x x1 x2 x3 := by
  subst hx h1 h2 h3
  have hin : vp_in (iI c) 52 := ii_in (by omega) (by omega) (by omega)
  have hs := cs_h hS (fun n hn => by have := rS n hn; omega)
  have hs2 := hs
  unfold cs_ at hs2
  refine ib_le lo hi (fun e => ?_) (fun e => ?_)
  · rcases hT with hT | ⟨hT, rT⟩
    · omega
    have r1 := rT _ hT.1
    have r2 := rT _ hT.2.1
    dsimp only at r1 r2
    refine x_emp rfl hc hs (fun e0 => br_t rfl (And.intro hin ?_)) (fun e0 => br_f (by decide) ?_)
    · have hN := cl_hl hS e0
      have q1 := rS _ hN.1
      have q2 := rS _ hN.2.1
      have hj := cl_Nh (cl_jN hN hT)
      have hst : 0 ≤ (if lo = hi then 0 else st) ∧ (if lo = hi then 0 else st) ≤ 60 := by
        have hp := cl_Np hT
        rcases hp with ⟨_, p2⟩ | ⟨p1, p2, p3⟩
        · dsimp only at p2
          omega
        · dsimp only at p1 p2 p3
          have := Int.le_of_dvd (by omega) p3
          omega
      refine ib_le (M c).1 lo (fun e1 => And.intro hin (And.intro hin (ib_eq lo hi (fun e2 => ?_) (fun e2 => ?_)))) (fun e1 => And.intro hin (And.intro hin (ib_eq lo hi (fun e2 => ?_) (fun e2 => ?_)))) (xl_g M (by omega)) rfl (by omega)
      · refine x_j73 (gap := lo - (M c).1) (s1 := 0) _ (by rw [xl_g M (by omega), ii_sub]) rfl (xs_g M (by omega)) hc hs hb (by omega) (by omega) rfl (h _ ?_)
        unfold cl_j at hj
        dsimp only at hj
        rw [if_pos e2] at hj
        rw [show (if lo < (M c).1 then (M c).1 - lo else lo - (M c).1) = lo - (M c).1 from if_neg (by omega)] at hj
        exact hj
      · refine x_j73 (gap := lo - (M c).1) (s1 := st) _ (by rw [xl_g M (by omega), ii_sub]) rfl (xs_g M (by omega)) hc hs hb (by omega) (by rw [if_neg e2] at hst; exact hst) rfl (h _ ?_)
        unfold cl_j at hj
        dsimp only at hj
        rw [if_neg e2] at hj
        rw [show (if lo < (M c).1 then (M c).1 - lo else lo - (M c).1) = lo - (M c).1 from if_neg (by omega)] at hj
        exact hj
      · refine x_j73 (gap := (M c).1 - lo) (s1 := 0) _ (by rw [xl_g M (by omega), ii_sub]) rfl (xs_g M (by omega)) hc hs hb (by omega) (by omega) rfl (h _ ?_)
        unfold cl_j at hj
        dsimp only at hj
        rw [if_pos e2] at hj
        rw [show (if lo < (M c).1 then (M c).1 - lo else lo - (M c).1) = (M c).1 - lo from if_pos (by omega)] at hj
        exact hj
      · refine x_j73 (gap := (M c).1 - lo) (s1 := st) _ (by rw [xl_g M (by omega), ii_sub]) rfl (xs_g M (by omega)) hc hs hb (by omega) (by rw [if_neg e2] at hst; exact hst) rfl (h _ ?_)
        unfold cl_j at hj
        dsimp only at hj
        rw [if_neg e2] at hj
        rw [show (if lo < (M c).1 then (M c).1 - lo else lo - (M c).1) = (M c).1 - lo from if_pos (by omega)] at hj
        exact hj
    · exact x_set rfl rfl rfl rfl hc (by omega) (h _ (cl_Nh (cl_Nx hT fun n => ⟨Or.inr, fun hn => hn.elim (fun hs => absurd hs ((cl_h0 hS e0).2 n)) id⟩)))
  · rcases hT with ⟨_, hT⟩ | ⟨hT, rT⟩
    · have := h (M c) (cl_hx hS fun n => ⟨Or.inl, fun hn => hn.elim id (fun ht => absurd ht (hT n))⟩)
      rw [ms_i] at this
      exact this
    · have := cl_pl (cl_Np hT)
      dsimp only at this
      omega
theorem x_c54 {post : SX → Prop} {st fr to f l : Int} {x3 x4 x5 x6 x7 : Int32} (h3 : x3 = iI st) (h4 : x4 = iI fr) (h5 : x5 = iI to) (h6 : x6 = iI f) (h7 : x7 = iI l) (hb : -100000 ≤ fr ∧ fr ≤ 100000 ∧ -100000 ≤ to ∧ to ≤ 100000 ∧ -100000 ≤ f ∧ f ≤ 100000 ∧ -100000 ≤ l ∧ l ≤ 100000) (h : post (XC k z R (ms M 50 (if f < fr ∨ to < l ∨ l < f then (1, 0, 0) else (f, l, if f = l then 0 else st))))) : wX_clip_54 post x3 x4 x5 x6 x7 (iI (kB k)) (iI (kP k)) (iI (kV k)) (iI (kC k)) (iI (-kh k)) (iI (kh k - 1)) (iI (kE k)) (iI (kN k)) z.1 40 44 48 49 50 51 z.2.1 z.2.2.1 z.2.2.2.1 z.2.2.2.2.1 (xA k 0) (xA k 1) (xA k 2) (xA k 3) (xA k 4) (xA k 5) (xA k 6) (xH k) (xL (M)) (xU (M)) (xS (M)) R.1 R.2.1 R.2.2.1 R.2.2.2 z.2.2.2.2.2.1 z.2.2.2.2.2.2 := by
  subst h3 h4 h5 h6 h7
  refine ib_lt f fr (fun e => ?_) (fun e => ib_lt to l (fun e2 => ?_) (fun e2 => ib_le f l (fun e3 => ?_) (fun e3 => ?_)))
  · rw [if_pos (by omega)] at h
    exact x_clear (c := 50) rfl (by omega) h
  · rw [if_pos (by omega)] at h
    exact x_clear (c := 50) rfl (by omega) h
  · rw [if_neg (by omega)] at h
    exact x_set (c := 50) rfl rfl rfl rfl (by omega) (by omega) h
  · rw [if_pos (by omega)] at h
    exact x_clear (c := 50) rfl (by omega) h
theorem x_c32 {post : SX → Prop} {lo hi st fr to f : Int} {x2 x3 x4 x5 x6 x7 : Int32} (h2 : x2 = iI hi) (h3 : x3 = iI st) (h4 : x4 = iI fr) (h5 : x5 = iI to) (h6 : x6 = iI f) (h7 : x7 = iI hi) (hb : -1000 ≤ lo ∧ hi ≤ 1000 ∧ st ≤ 1000 ∧ -1000 ≤ fr ∧ fr ≤ 1000 ∧ -1000 ≤ to ∧ to ≤ 1000 ∧ -10000 ≤ f ∧ f ≤ 10000) (hs : 0 < st) (hl : lo < hi) (hd : st ∣ hi - lo) (hf : st ∣ f - lo ∧ lo ≤ f ∧ fr ≤ f ∧ (f = lo ∨ f < fr + st)) (h : ∀ c', cl_h c' (fun n => cl_m (lo, hi, st) n ∧ fr ≤ n ∧ n ≤ to) → post (XC k z R (ms M 50 c'))) : wX_clip_32 post x2 x3 x4 x5 x6 x7 (iI (kB k)) (iI (kP k)) (iI (kV k)) (iI (kC k)) (iI (-kh k)) (iI (kh k - 1)) (iI (kE k)) (iI (kN k)) z.1 40 44 48 49 50 51 z.2.1 z.2.2.1 z.2.2.2.1 z.2.2.2.2.1 (xA k 0) (xA k 1) (xA k 2) (xA k 3) (xA k 4) (xA k 5) (xA k 6) (xH k) (xL (M)) (xU (M)) (xS (M)) R.1 R.2.1 R.2.2.1 R.2.2.2 z.2.2.2.2.2.1 z.2.2.2.2.2.2 := by
  subst h2 h3 h4 h5 h6 h7
  have hp : cl_p (lo, hi, st) := Or.inr ⟨hl, hs, hd⟩
  refine ib_le hi to (fun e => ?_) (fun e => And.intro (ib_ne st (by omega)) ?_)
  · exact x_c54 (f := f) (l := hi) rfl rfl rfl rfl rfl (by omega) (h _ (cl_ck hp (Or.inr ⟨hs, hf⟩) (Or.inr ⟨hs, hd, Int.le_refl _, e, Or.inl rfl⟩)))
  · obtain ⟨d1, d2, d3, d4⟩ := cl_dn (lo := lo) hs e hd
    refine nm_r (e' := iI (hi - (hi - to + st - 1) / st * st)) ?_ (x_c54 (f := f) (l := hi - (hi - to + st - 1) / st * st) rfl rfl rfl rfl rfl (by omega) (h _ (cl_ck hp (Or.inr ⟨hs, hf⟩) (Or.inr ⟨hs, d1, d2, d3, Or.inr d4⟩))))
    rw [ii_sub, ii_add, ii_1, ii_sub, ii_div (by omega) (by omega), ii_mul, ii_sub, Int.tdiv_eq_ediv_of_nonneg (by omega)]
theorem x_clip {post : SX → Prop} {lo hi st fr to : Int} {x2 x3 x4 x5 x6 : Int32} (h2 : x2 = iI lo) (h3 : x3 = iI hi) (h4 : x4 = iI st) (h5 : x5 = iI fr) (h6 : x6 = iI to) (hp : cl_p (lo, hi, st)) (hb : -1000 ≤ lo ∧ hi ≤ 1000 ∧ st ≤ 1000 ∧ -1000 ≤ fr ∧ fr ≤ 1000 ∧ -1000 ≤ to ∧ to ≤ 1000) (h : ∀ c', cl_h c' (fun n => cl_m (lo, hi, st) n ∧ fr ≤ n ∧ n ≤ to) → post (XC k z R (ms M 50 c'))) : wpX_clip post (XC k z R M) x2 x3 x4 x5 x6 := by
  subst h2 h3 h4 h5 h6
  rcases hp with ⟨p1, p2⟩ | ⟨p1, p2, p3⟩
  · dsimp only at p1 p2
    subst p1 p2
    refine ib_le 0 0 (fun _ => ?_) (fun e => by omega)
    exact x_c54 (st := 0) (f := lo) (l := lo) rfl rfl rfl rfl rfl (by omega) (h _ (cl_ck (Or.inl ⟨rfl, rfl⟩) (Or.inl ⟨rfl, rfl⟩) (Or.inl ⟨rfl, rfl⟩)))
  · dsimp only at p1 p2 p3
    refine ib_le st 0 (fun e => by omega) (fun _ => ib_le fr lo (fun e => ?_) (fun e => And.intro (ib_ne st (by omega)) ?_)) rfl rfl (by omega)
    · exact x_c32 (lo := lo) (f := lo) rfl rfl rfl rfl rfl rfl (by omega) p2 p1 p3 ⟨dv_z _ _, Int.le_refl _, e, Or.inl rfl⟩ h
    · obtain ⟨d1, d2, d3, d4⟩ := cl_up p2 e
      refine nm_r (e' := iI (lo + (fr - lo + st - 1) / st * st)) ?_ (x_c32 (lo := lo) (f := lo + (fr - lo + st - 1) / st * st) rfl rfl rfl rfl rfl rfl (by omega) p2 p1 p3 ⟨d1, d2, d3, Or.inr d4⟩ h)
      rw [ii_sub, ii_add, ii_1, ii_sub, ii_div (by omega) (by omega), ii_mul, ii_add, Int.tdiv_eq_ediv_of_nonneg (by omega)]
theorem x_mem {post : Int32 → Prop} {lo hi st n : Int} {x0 x1 x2 x3 : Int32} (h0 : x0 = iI lo) (h1 : x1 = iI hi) (h2 : x2 = iI st) (h3 : x3 = iI n) (hn : cl_n (lo, hi, st)) (hs : cs_ (lo, hi, st)) (hb : -1000 ≤ n ∧ n ≤ 1000) (ht : cl_m (lo, hi, st) n → post 1) (hf : ¬ cl_m (lo, hi, st) n → post 0) : wpX_isMember post (XC k z R M) x0 x1 x2 x3 := by
  subst h0 h1 h2 h3
  unfold cs_ at hs
  dsimp only at hs
  refine ib_lt n lo (fun e => hf (fun hm => ?_)) (fun e => ib_le n hi (fun e2 => ib_le st 0 (fun e3 => ht ?_) (fun e3 => And.intro (ib_ne st (by omega)) (ib_dv (n - lo) st (fun d => ht ⟨e, e2, d⟩) (fun d => hf (fun hm => d hm.2.2)) (ii_sub n lo) rfl (by omega))) rfl rfl (by omega)) (fun e2 => hf (fun hm => ?_)) rfl rfl (by omega)) rfl rfl (by omega)
  · have := hm.1
    dsimp only at this
    omega
  · have hp := cl_ne hn (by dsimp only; omega)
    rcases hp with ⟨p1, p2⟩ | ⟨p1, p2, p3⟩
    · dsimp only at p1 p2
      refine ⟨e, e2, ?_⟩
      rw [show n = lo by omega]
      exact dv_z _ _
    · dsimp only at p2
      omega
  · have := hm.2.1
    dsimp only at this
    omega
end
end
section
/-! ===== X: restrict ===== -/
section
variable {k : kT} {z : zT} {R : rT} {M : mT}
theorem x_rv {post : SX → Prop} {lo hi st n : Int} {x0 x1 x2 x3 : Int32} (h0 : x0 = iI lo) (h1 : x1 = iI hi) (h2 : x2 = iI st) (h3 : x3 = iI n) (hp : cl_p (lo, hi, st)) (hs : cs_ (lo, hi, st)) (hb : -1000 ≤ n ∧ n ≤ 1000) (h : ∀ c', cl_h c' (fun m => cl_m (lo, hi, st) m ∧ m ≠ n) → post (XC k z R (ms M 50 c'))) : wpX_removeValue post (XC k z R M) x0 x1 x2 x3 := by
  subst h0 h1 h2 h3
  have hs2 := hs
  unfold cs_ at hs2
  dsimp only at hs2
  have hst : (if lo = hi then (0 : Int) else st) = st := by
    rcases hp with ⟨p1, p2⟩ | ⟨p1, p2, p3⟩
    · dsimp only at p1 p2
      rw [if_pos p1, p2]
    · dsimp only at p1
      exact if_neg (by omega)
  unfold wpX_removeValue
  dsimp only [XC, XD]
  refine x_mem rfl rfl rfl rfl (Or.inr hp) hs hb (fun hm => br_f (by decide) ?_) (fun hm => br_t rfl ?_)
  · refine ib_eq lo hi (fun e => ?_) (fun e => ?_) rfl rfl (by omega)
    · subst e
      have e0 : st = 0 := by rw [if_pos rfl] at hst; exact hst.symm
      subst e0
      exact x_clear (c := 50) rfl (by omega) (h _ (cl_he (rm_1 hm)))
    · rcases hp with ⟨p1, p2⟩ | ⟨p1, p2, p3⟩
      · exact absurd p1 e
      dsimp only at p1 p2 p3
      refine ib_eq n lo (fun e2 => ?_) (fun e2 => ib_eq n hi (fun e3 => ?_) (fun e3 => ib_eq (hi - lo) (2 * st) (fun e4 => ?_) (fun e4 => ?_) (ii_sub hi lo) (ii_mul 2 st) (by omega)) rfl rfl (by omega)) rfl rfl (by omega)
      · subst e2
        exact x_set (c := 50) rfl (ii_add n st) rfl rfl (by omega) (by omega) (h _ (cl_Nh (rm_lo p2 p1 p3)))
      · subst e3
        exact x_set (c := 50) rfl rfl (ii_sub n st) rfl (by omega) (by omega) (h _ (cl_Nh (rm_hi p2 p1 p3)))
      · exact x_set (c := 50) rfl rfl rfl (ii_mul 2 st) (by omega) (by omega) (h _ (cl_Nh (rm_3 p2 p1 hm e2 e3 e4)))
      · have := cl_Nh (rm_x p2 p1 p3 hm e2 e3 e4)
        exact x_set (c := 50) rfl rfl rfl rfl (by omega) (by omega) (h _ (by rw [hst]; exact this))
  · exact x_set (c := 50) rfl rfl rfl rfl (by omega) (by omega) (h _ (by rw [hst]; exact cl_Nh (rm_n hp hm)))
theorem x_eqv {post : SX → Prop} {lo hi st n : Int} {x0 x1 x2 x3 : Int32} (h0 : x0 = iI lo) (h1 : x1 = iI hi) (h2 : x2 = iI st) (h3 : x3 = iI n) (hp : cl_n (lo, hi, st)) (hs : cs_ (lo, hi, st)) (hb : -1000 ≤ n ∧ n ≤ 1000) (h : ∀ c', cl_h c' (fun m => cl_m (lo, hi, st) m ∧ m = n) → post (XC k z R (ms M 50 c'))) : wpX_isMember (fun r => (r = 0 → wpX_clearClass post (XC k z R M) 50) ∧ (¬ r = 0 → wpX_setClass post (XC k z R M) 50 x3 x3 0)) (XC k z R M) x0 x1 x2 x3 := by
  subst h0 h1 h2 h3
  refine x_mem rfl rfl rfl rfl hp hs hb (fun hm => br_f (by decide) ?_) (fun hm => br_t rfl ?_)
  · refine x_set (c := 50) (st := 0) rfl rfl rfl rfl (by omega) (by omega) (h _ ?_)
    rw [if_pos rfl]
    refine cl_Nh (cl_Nx (cl_1 n) fun m => ⟨fun e => ?_, fun e => e.2⟩)
    subst e
    exact ⟨hm, rfl⟩
  · exact x_clear (c := 50) rfl (by omega) (h _ (cl_he fun m ⟨a, b⟩ => hm (b ▸ a)))
theorem x_km99 {post : SX → Prop} {lo hi st u f : Int} (hs : 0 < st) (hu : 0 < u ∧ u ≤ 40) (hl : lo < hi) (hd : st ∣ hi - lo) (hb : -100 ≤ lo ∧ hi ≤ 100) (hf : (f = hi + 1 ∧ ∀ n, cl_m (lo, hi, st) n → ¬ u ∣ n) ∨ (cl_m (lo, hi, st) f ∧ u ∣ f ∧ ∀ n, cl_m (lo, hi, st) n → u ∣ n → f ≤ n)) (h : ∀ c', cl_h c' (fun m => cl_m (lo, hi, st) m ∧ u ∣ m) → post (XC k z R (ms M 50 c'))) : wX_keepMultiples_99 post (iI hi) (iI st) (iI u) (iI f) (iI (kB k)) (iI (kP k)) (iI (kV k)) (iI (kC k)) (iI (-kh k)) (iI (kh k - 1)) (iI (kE k)) (iI (kN k)) z.1 40 44 48 49 50 51 z.2.1 z.2.2.1 z.2.2.2.1 z.2.2.2.2.1 (xA k 0) (xA k 1) (xA k 2) (xA k 3) (xA k 4) (xA k 5) (xA k 6) (xH k) (xL (M)) (xU (M)) (xS (M)) R.1 R.2.1 R.2.2.1 R.2.2.2 z.2.2.2.2.2.1 z.2.2.2.2.2.2 := by
  have hst := Int.le_of_dvd (by omega) hd
  obtain ⟨g0, m0, mx⟩ := lc_m hs hu.1
  have gb := gc_b (a := st) (b := u) (by omega) (by omega)
  have hf2 : f = hi + 1 ∨ (lo ≤ f ∧ f ≤ hi) := by
    rcases hf with hf | hf
    · exact Or.inl hf.1
    · exact Or.inr ⟨hf.1.1, hf.1.2.1⟩
  refine x_gcd rfl rfl (by omega) (by omega) (ib_lt hi f (fun e => ?_) (fun e => ?_))
  · rcases hf with hf | hf
    · exact x_clear (c := 50) rfl (by omega) (h _ (cl_he fun m ⟨a, b⟩ => hf.2 m a b))
    · have := hf.1.2.1
      dsimp only at this
      omega
  · rcases hf with hf | ⟨f1, f2, f3⟩
    · omega
    have hK := km_N hs hu.1 f1 f2 f3
    have dv : st / (Int.gcd st u : Int) ≤ st := Int.ediv_le_self _ (by omega)
    have dp : 0 ≤ st / (Int.gcd st u : Int) := Int.ediv_nonneg (by omega) (by omega)
    have mb : st / (Int.gcd st u : Int) * u ≤ 200 * 40 := Int.mul_le_mul (by omega) hu.2 (by omega) (by omega)
    refine ib_lt 0 (Int.gcd st u : Int) (fun _ => And.intro (ib_ne _ (by omega) rfl (by omega)) (nm_r (e' := iI (st / (Int.gcd st u : Int) * u)) ?_ ?_)) (fun e2 => by omega) rfl rfl (by omega)
    · rw [ii_div (by omega) (by omega), ii_mul, Int.tdiv_eq_ediv_of_nonneg (by omega)]
    · generalize st / (Int.gcd st u : Int) * u = m at *
      have sp0 : 0 ≤ (hi - f) / m * m := Int.mul_nonneg (Int.ediv_nonneg (by omega) (by omega)) (by omega)
      have sp1 : (hi - f) / m * m ≤ hi - f := Int.ediv_mul_le _ (by omega)
      refine ib_le m 0 (fun e2 => by omega) (fun e2 => And.intro (ib_ne m (by omega)) (x_set (c := 50) (lo := f) (hi := f + (hi - f) / m * m) (st := m) rfl rfl ?_ rfl (by omega) (by omega) (h _ (cl_Nh hK)))) rfl rfl (by omega)
      rw [ii_sub, ii_div (by omega) (by omega), ii_mul, ii_add, Int.tdiv_eq_ediv_of_nonneg (by omega)]
theorem x_km66 {post : SX → Prop} {lo hi st u : Int} (hs : 0 < st) (hu : 0 < u ∧ u ≤ 40) (hl : lo < hi) (hd : st ∣ hi - lo) (hb : -100 ≤ lo ∧ hi ≤ 100) (h : ∀ c', cl_h c' (fun m => cl_m (lo, hi, st) m ∧ u ∣ m) → post (XC k z R (ms M 50 c'))) : ∀ (n : Nat) (x : Int), (∀ m, cl_m (lo, hi, st) m → m < x → ¬ u ∣ m) → (x ≤ hi → cl_m (lo, hi, st) x) → lo ≤ x → x ≤ 500 → (hi + 2 - x).toNat < n → wX_keepMultiples_66 post (iI hi) (iI st) (iI u) (iI (kB k)) (iI (kP k)) (iI (kV k)) (iI (kC k)) (iI (-kh k)) (iI (kh k - 1)) (iI (kE k)) (iI (kN k)) z.1 40 44 48 49 50 51 z.2.1 z.2.2.1 z.2.2.2.1 z.2.2.2.2.1 (xA k 0) (xA k 1) (xA k 2) (xA k 3) (xA k 4) (xA k 5) (xA k 6) (xH k) (xL (M)) (xU (M)) (xS (M)) R.1 R.2.1 R.2.2.1 R.2.2.2 z.2.2.2.2.2.1 z.2.2.2.2.2.2 n (iI (hi + 1)) (iI x)
  | 0, x, _, _, _, _, h5 => by omega
  | n + 1, x, h1, h2, h3, h4, h5 => by
    have hst := Int.le_of_dvd (by omega) hd
    have hp : cl_p (lo, hi, st) := Or.inr ⟨hl, hs, hd⟩
    have hsd : sd_ (lo, hi, st) = st := if_pos hs
    refine ib_lt hi x (fun e => ?_) (fun e => ib_le (hi + 1) hi (fun e2 => by omega) (fun _ => And.intro (ib_ne u (by omega) rfl (by omega)) (ib_dv x u (fun d => ?_) (fun d => ?_) rfl rfl (by omega))) rfl rfl (by omega)) rfl rfl (by omega)
    · exact x_km99 hs hu hl hd hb (Or.inl ⟨rfl, fun m hm => h1 m hm (by have := hm.2.1; dsimp only at this; omega)⟩) h
    · refine nm_r (ii_add x st) ?_
      have hf : cl_m (lo, hi, st) x ∧ u ∣ x ∧ ∀ m, cl_m (lo, hi, st) m → u ∣ m → x ≤ m := ⟨h2 e, d, fun m hm hd => by
        by_cases hx : m < x
        · exact absurd hd (h1 m hm hx)
        · omega⟩
      cases n with
      | zero => omega
      | succ n =>
        exact ib_lt hi (x + st) (fun _ => x_km99 hs hu hl hd hb (Or.inr hf) h) (fun _ => ib_le x hi (fun _ => x_km99 hs hu hl hd hb (Or.inr hf) h) (fun e3 => by omega) rfl rfl (by omega)) rfl rfl (by omega)
    · refine nm_r (ii_add x st) (x_km66 hs hu hl hd hb h n (x + st) (fun m hm hx => ?_) (fun hx => ?_) (by omega) (by omega) (by omega))
      · rcases (en_1 hp (h2 e) m).mp ⟨hm, by rw [hsd]; exact hx⟩ with h6 | h6
        · exact h1 m hm h6.2
        · rw [h6]
          exact d
      · have := en_2 hp (h2 e) (by rw [hsd]; exact hx)
        rw [hsd] at this
        exact this
theorem x_km13 {post : SX → Prop} {lo hi st u : Int} {x0 : Int32} (h0 : x0 = iI u) (hp : cl_p (lo, hi, st)) (hu : 0 ≤ u ∧ u ≤ 40) (hb : -100 ≤ lo ∧ hi ≤ 100) (h : ∀ c', cl_h c' (fun m => cl_m (lo, hi, st) m ∧ u ∣ m) → post (XC k z R (ms M 50 c'))) : wX_keepMultiples_13 post (iI lo) (iI hi) (iI st) x0 (iI (kB k)) (iI (kP k)) (iI (kV k)) (iI (kC k)) (iI (-kh k)) (iI (kh k - 1)) (iI (kE k)) (iI (kN k)) z.1 40 44 48 49 50 51 z.2.1 z.2.2.1 z.2.2.2.1 z.2.2.2.2.1 (xA k 0) (xA k 1) (xA k 2) (xA k 3) (xA k 4) (xA k 5) (xA k 6) (xH k) (xL (M)) (xU (M)) (xS (M)) R.1 R.2.1 R.2.2.1 R.2.2.2 z.2.2.2.2.2.1 z.2.2.2.2.2.2 := by
  subst h0
  have hs := cs_p hp (by dsimp only; omega) (by dsimp only; omega)
  have hs2 := hs
  unfold cs_ at hs2
  dsimp only at hs2
  refine ib_eq u 0 (fun e => ?_) (fun e => ib_lt 0 st (fun e2 => ?_) (fun e2 => And.intro (ib_ne u e) ?_) rfl rfl (by omega)) rfl rfl (by omega)
  · subst e
    refine x_eqv (n := 0) rfl rfl rfl rfl (Or.inr hp) hs (by omega) (fun c' hc' => h c' (cl_hx hc' fun m => ?_))
    rw [Int.zero_dvd]
  · rcases hp with ⟨p1, p2⟩ | ⟨p1, p2, p3⟩
    · dsimp only at p2
      omega
    dsimp only at p1 p2 p3
    exact nm_r (ii_add hi 1) (Exists.intro 1000 (x_km66 p2 (by omega) p1 p3 hb h 1000 lo (fun m hm hx => by have := hm.1; dsimp only at this; omega) (fun _ => ⟨Int.le_refl _, by dsimp only; omega, dv_z _ _⟩) (Int.le_refl _) (by omega) (by omega)))
  · rcases hp with ⟨p1, p2⟩ | ⟨p1, p2, p3⟩
    · dsimp only at p1 p2
      subst p1 p2
      refine ib_dv lo u (fun d => ?_) (fun d => ?_) rfl rfl (by omega)
      · refine x_set (c := 50) (st := 0) rfl rfl rfl rfl (by omega) (by omega) (h _ ?_)
        rw [if_pos rfl]
        refine cl_Nh (cl_Nx (cl_1 lo) fun m => ⟨fun e3 => ?_, fun ⟨⟨a1, a2, _⟩, _⟩ => ?_⟩)
        · subst e3
          exact ⟨⟨Int.le_refl _, Int.le_refl _, dv_z _ _⟩, d⟩
        · dsimp only at a1 a2
          omega
      · refine x_clear (c := 50) rfl (by omega) (h _ (cl_he fun m ⟨⟨a1, a2, _⟩, a4⟩ => d ?_))
        dsimp only at a1 a2
        rw [show lo = m by omega]
        exact a4
    · dsimp only at p2
      omega
theorem x_km {post : SX → Prop} {lo hi st n : Int} {x0 x1 x2 x3 : Int32} (h0 : x0 = iI lo) (h1 : x1 = iI hi) (h2 : x2 = iI st) (h3 : x3 = iI n) (hp : cl_p (lo, hi, st)) (hn : -40 ≤ n ∧ n ≤ 40) (hb : -100 ≤ lo ∧ hi ≤ 100) (h : ∀ c', cl_h c' (fun m => cl_m (lo, hi, st) m ∧ n ∣ m) → post (XC k z R (ms M 50 c'))) : wpX_keepMultiples post (XC k z R M) x0 x1 x2 x3 := by
  subst h0 h1 h2 h3
  refine ib_le 0 n (fun e => x_km13 (u := n) rfl hp (by omega) hb h) (fun e => x_km13 (u := -n) (ii_neg n) hp (by omega) hb (fun c' hc' => h c' (cl_hx hc' fun m => ?_))) rfl rfl (by omega)
  rw [Int.neg_dvd]
theorem x_restr {post : SX → Prop} {lo hi st r n : Int} {x0 x1 x2 x3 x4 : Int32} (h0 : x0 = iI lo) (h1 : x1 = iI hi) (h2 : x2 = iI st) (h3 : x3 = iI r) (h4 : x4 = iI n) (hp : cl_p (lo, hi, st)) (hr : 0 ≤ r ∧ r ≤ 6) (hn : -40 ≤ n ∧ n ≤ 40) (hb : -100 ≤ lo ∧ hi ≤ 100) (h : ∀ c', cl_h c' (fun m => cl_m (lo, hi, st) m ∧ rl_h r m n) → post (XC k z R (ms M 50 c'))) : wpX_restrict post (XC k z R M) x0 x1 x2 x3 x4 := by
  subst h0 h1 h2 h3 h4
  have hs := cs_p hp (by dsimp only; omega) (by dsimp only; omega)
  have hs2 := hs
  unfold cs_ at hs2
  dsimp only at hs2
  refine ib_lt r 0 (fun e => by omega) (fun _ => ib_lt 5 r (fun e => ?_) (fun _ => ib_eq r 0 (fun e => ?_) (fun _ => ib_eq r 1 (fun e => ?_) (fun _ => ib_eq r 2 (fun e => ?_) (fun _ => ib_eq r 3 (fun e => ?_) (fun _ => ib_eq r 4 (fun e => ?_) (fun _ => ib_eq r 5 (fun e => ?_) (fun _ => trivial))))))))
  · obtain rfl : r = 6 := by omega
    exact x_km rfl rfl rfl rfl hp hn hb (fun c' hc' => h c' (cl_hx hc' fun m => by rw [rl_6]))
  · subst e
    exact x_eqv rfl rfl rfl rfl (Or.inr hp) hs (by omega) (fun c' hc' => h c' (cl_hx hc' fun m => by rw [rl_0]))
  · subst e
    exact x_rv rfl rfl rfl rfl hp hs (by omega) (fun c' hc' => h c' (cl_hx hc' fun m => by rw [rl_1]))
  · subst e
    refine x_clip rfl rfl rfl rfl (ii_sub n 1) hp (by omega) (fun c' hc' => h c' (cl_hx hc' fun m => ?_))
    rw [rl_2]
    exact ⟨fun a => ⟨a.1, by omega⟩, fun a => ⟨a.1, a.1.1, by omega⟩⟩
  · subst e
    refine x_clip rfl rfl rfl rfl rfl hp (by omega) (fun c' hc' => h c' (cl_hx hc' fun m => ?_))
    rw [rl_3]
    exact ⟨fun a => ⟨a.1, by omega⟩, fun a => ⟨a.1, a.1.1, by omega⟩⟩
  · subst e
    refine x_clip rfl rfl rfl (ii_add n 1) rfl hp (by omega) (fun c' hc' => h c' (cl_hx hc' fun m => ?_))
    rw [rl_4]
    exact ⟨fun a => ⟨a.1, by omega⟩, fun a => ⟨a.1, by omega, a.1.2.1⟩⟩
  · subst e
    refine x_clip rfl rfl rfl rfl rfl hp (by omega) (fun c' hc' => h c' (cl_hx hc' fun m => ?_))
    rw [rl_5]
    exact ⟨fun a => ⟨a.1, by omega⟩, fun a => ⟨a.1, by omega, a.1.2.1⟩⟩
end
end
section
/-! ===== X: joinWrapped and arithmetic ===== -/
theorem cl_st {c : cT} {S : Int → Prop} (h : cl_N c S) : (if c.1 = c.2.1 then 0 else c.2.2) = c.2.2 := by
  rcases cl_Np h with ⟨p1, p2⟩ | ⟨p1, p2, p3⟩
  · rw [if_pos p1, p2]
  · exact if_neg (by omega)
theorem cl_sh {c : cT} {S : Int → Prop} (h : cl_N c S) (s : Int) : cl_N (c.1 - s, c.2.1 - s, c.2.2) (fun v => S (v + s)) := by
  obtain ⟨h1, h2, h3, h4, h5⟩ := h
  refine ⟨?_, ?_, h3, fun n hn => ?_, fun d => ?_⟩
  · dsimp only
    rw [show c.1 - s + s = c.1 by omega]
    exact h1
  · dsimp only
    rw [show c.2.1 - s + s = c.2.1 by omega]
    exact h2
  · have := h4 _ hn
    dsimp only
    omega
  · rw [h5]
    constructor
    · intro hd n hn
      have := hd _ hn
      dsimp only
      rwa [show n - (c.1 - s) = n + s - c.1 by omega]
    · intro hd n hn
      have := hd (n - s) (by dsimp only; rw [show n - s + s = n by omega]; exact hn)
      dsimp only at this
      rwa [show n - s - (c.1 - s) = n - c.1 by omega] at this
theorem jo_T {c : cT} {S T : Int → Prop} (s : Int) (h : cl_h c S) (e : ∀ v, S (v + s) ↔ T v) (r : ∀ n, T n → -16 ≤ n ∧ n ≤ 16) : (c.2.1 - s < c.1 - s ∧ ∀ n, ¬ T n) ∨ (cl_N (c.1 - s, c.2.1 - s, if c.1 - s = c.2.1 - s then 0 else c.2.2) T ∧ ∀ n, T n → -16 ≤ n ∧ n ≤ 16) := by
  rcases h with ⟨rfl, h⟩ | h
  · exact Or.inl ⟨by dsimp only; omega, fun n hn => h _ ((e n).mpr hn)⟩
  · have h1 := cl_sh h s
    have h2 := cl_st h1
    dsimp only at h2
    rw [h2]
    exact Or.inr ⟨cl_Nx h1 e, r⟩
theorem jo_0 {c : cT} {T : Int → Prop} (h : cl_h c T) (r : ∀ n, T n → -16 ≤ n ∧ n ≤ 16) : (c.2.1 < c.1 ∧ ∀ n, ¬ T n) ∨ (cl_N (c.1, c.2.1, if c.1 = c.2.1 then 0 else c.2.2) T ∧ ∀ n, T n → -16 ≤ n ∧ n ≤ 16) := by
  have h1 := jo_T 0 h (fun v => by rw [Int.add_zero]) r
  rw [Int.sub_zero, Int.sub_zero] at h1
  exact h1
theorem jo_1 (n : Int) (h : -16 ≤ n ∧ n ≤ 16) : (n < n ∧ ∀ m, ¬ m = n) ∨ (cl_N (n, n, if n = n then 0 else 0) (fun m => m = n) ∧ ∀ m, m = n → -16 ≤ m ∧ m ≤ 16) := by
  rw [if_pos rfl]
  exact Or.inr ⟨cl_1 n, fun m hm => by omega⟩
/-- a loop over the members of a class -/
theorem lp_en {σ : Type} {c : cT} (hp : cl_p c) (W : Nat → Int → σ → Prop) (I : Int → σ → Prop) (hx : ∀ n x s, c.2.1 < x → I x s → W (n + 1) x s) (hs : ∀ n x s, cl_m c x → I x s → (∀ s', I (x + sd_ c) s' → W n (x + sd_ c) s') → W (n + 1) x s) : ∀ (n : Nat) (x : Int) (s : σ), I x s → (x ≤ c.2.1 → cl_m c x) → (c.2.1 + 1 - x).toNat < n → W n x s
  | 0, _, _, _, _, h => by omega
  | n + 1, x, s, hI, hm, hn => by
    have h0 := sd_p c
    by_cases e : c.2.1 < x
    · exact hx n x s e hI
    · exact hs n x s (hm (by omega)) hI (fun s' hI' => lp_en hp W I hx hs n (x + sd_ c) s' hI' (fun hh => en_2 hp (hm (by omega)) hh) (by omega))
theorem cl_lo {c : cT} (hp : cl_p c) : cl_m c c.1 := (cl_hm hp).1
theorem cl_hi {c : cT} (hp : cl_p c) : cl_m c c.2.1 := (cl_hm hp).2.1
/-- 1 or the step -/
theorem sd_c {c : cT} (h : cl_p c) : (c.2.2 ≤ 0 ∧ sd_ c = 1) ∨ (0 < c.2.2 ∧ sd_ c = c.2.2) := by
  unfold sd_
  by_cases e : 0 < c.2.2
  · exact Or.inr ⟨e, if_pos e⟩
  · exact Or.inl ⟨by omega, if_neg e⟩
/-- the members times n -/
theorem im_p {lo hi st : Int} (hp : cl_p (lo, hi, st)) {n : Int} (hn : 0 ≤ n) : cl_p (lo * n, hi * n, st * n) ∧ ∀ m, cl_m (lo * n, hi * n, st * n) m ↔ ∃ x, cl_m (lo, hi, st) x ∧ m = x * n := by
  have hl := cl_pl hp
  dsimp only at hl
  by_cases e : n = 0
  · subst e
    rw [Int.mul_zero, Int.mul_zero, Int.mul_zero]
    refine ⟨Or.inl ⟨rfl, rfl⟩, fun m => ⟨fun ⟨a1, a2, _⟩ => ?_, fun ⟨x, hx, e⟩ => ?_⟩⟩
    · dsimp only at a1 a2
      refine ⟨lo, cl_lo hp, by omega⟩
    · rw [e, Int.mul_zero]
      exact ⟨Int.le_refl _, Int.le_refl _, dv_z _ _⟩
  · have n0 : 0 < n := by omega
    refine ⟨?_, fun m => ⟨fun ⟨a1, a2, a3⟩ => ?_, fun ⟨x, ⟨b1, b2, b3⟩, e⟩ => ?_⟩⟩
    · rcases hp with ⟨p1, p2⟩ | ⟨p1, p2, p3⟩
      · dsimp only at p1 p2
        subst p1 p2
        exact Or.inl ⟨rfl, Int.zero_mul n⟩
      · dsimp only at p1 p2 p3
        refine Or.inr ⟨Int.mul_lt_mul_of_pos_right p1 n0, Int.mul_pos p2 n0, ?_⟩
        dsimp only
        rw [← Int.sub_mul]
        exact Int.mul_dvd_mul_right n p3
    · dsimp only at a1 a2 a3
      obtain ⟨q, hq⟩ := a3
      have e2 : m = (lo + st * q) * n := by
        rw [Int.add_mul, Int.mul_assoc st q n, Int.mul_comm q n, ← Int.mul_assoc]
        omega
      refine ⟨lo + st * q, ⟨?_, ?_, ?_⟩, e2⟩
      · dsimp only
        rw [e2] at a1
        exact Int.le_of_mul_le_mul_right a1 n0
      · dsimp only
        rw [e2] at a2
        exact Int.le_of_mul_le_mul_right a2 n0
      · dsimp only
        rw [show lo + st * q - lo = st * q by omega]
        exact Int.dvd_mul_right _ _
    · dsimp only at b1 b2 b3
      subst e
      refine ⟨Int.mul_le_mul_of_nonneg_right b1 hn, Int.mul_le_mul_of_nonneg_right b2 hn, ?_⟩
      dsimp only
      rw [← Int.sub_mul]
      exact Int.mul_dvd_mul_right n b3
theorem im_r {lo hi st : Int} (hp : cl_p (lo, hi, st)) : cl_p (-hi, -lo, st) ∧ ∀ m, cl_m (-hi, -lo, st) m ↔ cl_m (lo, hi, st) (-m) := by
  have hN := cl_hm hp
  have hd : st ∣ hi - lo := hN.2.1.2.2
  refine ⟨?_, fun m => ⟨fun ⟨a1, a2, a3⟩ => ?_, fun ⟨a1, a2, a3⟩ => ?_⟩⟩
  · rcases hp with ⟨p1, p2⟩ | ⟨p1, p2, p3⟩
    · dsimp only at p1 p2
      exact Or.inl ⟨by dsimp only; omega, p2⟩
    · dsimp only at p1 p2 p3
      exact Or.inr ⟨by dsimp only; omega, p2, by dsimp only; rw [show -lo - -hi = hi - lo by omega]; exact p3⟩
  · dsimp only at a1 a2 a3
    refine ⟨by dsimp only; omega, by dsimp only; omega, ?_⟩
    dsimp only
    have := Int.dvd_sub hd a3
    rwa [show hi - lo - (m - -hi) = -m - lo by omega] at this
  · dsimp only at a1 a2 a3
    refine ⟨by dsimp only; omega, by dsimp only; omega, ?_⟩
    dsimp only
    have := Int.dvd_sub hd a3
    rwa [show hi - lo - (-m - lo) = m - -hi by omega] at this
theorem im_n {lo hi st : Int} (hp : cl_p (lo, hi, st)) {n : Int} (hn : n < 0) : cl_p (hi * n, lo * n, (-st) * n) ∧ ∀ m, cl_m (hi * n, lo * n, (-st) * n) m ↔ ∃ x, cl_m (lo, hi, st) x ∧ m = x * n := by
  obtain ⟨r1, r2⟩ := im_r hp
  obtain ⟨q1, q2⟩ := im_p r1 (n := -n) (by omega)
  have e1 : -hi * -n = hi * n := Int.neg_mul_neg hi n
  have e2 : -lo * -n = lo * n := Int.neg_mul_neg lo n
  have e3 : st * -n = -st * n := by rw [Int.mul_neg, Int.neg_mul]
  rw [e1, e2, e3] at q1 q2
  refine ⟨q1, fun m => ?_⟩
  rw [q2]
  constructor
  · rintro ⟨x, hx, e⟩
    exact ⟨-x, (r2 x).mp hx, by rw [e, Int.mul_neg, Int.neg_mul]⟩
  · rintro ⟨x, hx, e⟩
    exact ⟨-x, (r2 (-x)).mpr (by rw [Int.neg_neg]; exact hx), by rw [e, Int.neg_mul_neg]⟩
/-- translated -/
theorem im_a {lo hi st : Int} (hp : cl_p (lo, hi, st)) (n : Int) : cl_p (lo + n, hi + n, st) ∧ ∀ m, cl_m (lo + n, hi + n, st) m ↔ ∃ x, cl_m (lo, hi, st) x ∧ m = x + n := by
  refine ⟨?_, fun m => ⟨fun ⟨a1, a2, a3⟩ => ?_, fun ⟨x, ⟨b1, b2, b3⟩, e⟩ => ?_⟩⟩
  · rcases hp with ⟨p1, p2⟩ | ⟨p1, p2, p3⟩
    · dsimp only at p1 p2
      exact Or.inl ⟨by dsimp only; omega, p2⟩
    · dsimp only at p1 p2 p3
      exact Or.inr ⟨by dsimp only; omega, p2, by dsimp only; rw [show hi + n - (lo + n) = hi - lo by omega]; exact p3⟩
  · dsimp only at a1 a2 a3
    refine ⟨m - n, ⟨by dsimp only; omega, by dsimp only; omega, ?_⟩, by omega⟩
    dsimp only
    rwa [show m - n - lo = m - (lo + n) by omega]
  · dsimp only at b1 b2 b3
    subst e
    refine ⟨by dsimp only; omega, by dsimp only; omega, ?_⟩
    dsimp only
    rwa [show x + n - (lo + n) = x - lo by omega]
theorem cl_sum {a b : cT} {S T : Int → Prop} (ha : cl_N a S) (hb : cl_N b T) : cl_N (a.1 + b.1, a.2.1 + b.2.1, ((Int.gcd a.2.2 b.2.2 : Nat) : Int)) (fun v => ∃ x y, S x ∧ T y ∧ v = x + y) := by
  obtain ⟨a1, a2, a3, a4, a5⟩ := ha
  obtain ⟨b1, b2, b3, b4, b5⟩ := hb
  refine ⟨⟨_, _, a1, b1, rfl⟩, ⟨_, _, a2, b2, rfl⟩, Int.natCast_nonneg _, fun n ⟨x, y, hx, hy, e⟩ => ?_, fun d => ?_⟩
  · have := a4 x hx
    have := b4 y hy
    dsimp only
    omega
  · dsimp only
    rw [Int.dvd_coe_gcd_iff, a5, b5]
    constructor
    · rintro ⟨d1, d2⟩ n ⟨x, y, hx, hy, e⟩
      have := Int.dvd_add (d1 x hx) (d2 y hy)
      rwa [show x - a.1 + (y - b.1) = n - (a.1 + b.1) by omega] at this
    · intro hd
      refine ⟨fun x hx => ?_, fun y hy => ?_⟩
      · have := hd _ ⟨x, b.1, hx, b1, rfl⟩
        rwa [show x + b.1 - (a.1 + b.1) = x - a.1 by omega] at this
      · have := hd _ ⟨a.1, y, a1, hy, rfl⟩
        rwa [show a.1 + y - (a.1 + b.1) = y - b.1 by omega] at this
theorem cl_ng {b : cT} (hp : cl_p b) : cl_N (-b.2.1, -b.1, b.2.2) (fun v => cl_m b (-v)) := by
  obtain ⟨lo, hi, st⟩ := b
  obtain ⟨r1, r2⟩ := im_r hp
  exact cl_Nx (cl_hm r1) r2
theorem tw_b {h fi la t : Int} (hh : h = 4 ∨ h = 8 ∨ h = 16) (b1 : -400 ≤ fi) (b2 : fi ≤ la) (b3 : la ≤ 400) (t0 : (fi + h) / (2 * h) ≤ t) (t1 : t ≤ (la + h) / (2 * h)) : -600 ≤ t * (2 * h) ∧ t * (2 * h) ≤ 600 := by
  rcases hh with rfl | rfl | rfl <;> omega
section
variable {k : kT} {z : zT} {R : rT} {M : mT}
theorem x_jw26 {post : SX → Prop} (ok : k_ok k) {fi la st : Int} (hp : cl_p (fi, la, st)) (hb : -400 ≤ fi ∧ la ≤ 400 ∧ st ≤ 1000) {S : Int → Prop} (rS : ∀ n, S n → -16 ≤ n ∧ n ≤ 16) (h : ∀ M' : mT, (∀ j, j ≠ 48 → j ≠ 50 → M' j = M j) → cl_h (M' 48) (fun v => S v ∨ ∃ m, cl_m (fi, la, st) m ∧ v = wr (kh k) m) → post (XC k z R M')) : ∀ (n : Nat) (t : Int) (M' : mT), (∀ j, j ≠ 48 → j ≠ 50 → M' j = M j) → cl_h (M' 48) (fun v => S v ∨ ∃ m, cl_m (fi, la, st) m ∧ (m + kh k) / (2 * kh k) < t ∧ v = wr (kh k) m) → (fi + kh k) / (2 * kh k) ≤ t → t ≤ (la + kh k) / (2 * kh k) + 1 → ((la + kh k) / (2 * kh k) + 1 - t).toNat < n → wX_joinWrapped_26 post 48 (iI fi) (iI la) (iI st) (iI ((la + kh k) / (2 * kh k))) n (iI t) (iI (kB k)) (iI (kP k)) (iI (kV k)) (iI (kC k)) (iI (-kh k)) (iI (kh k - 1)) (iI (kE k)) (iI (kN k)) z.1 40 44 48 49 50 51 z.2.1 z.2.2.1 z.2.2.2.1 z.2.2.2.2.1 (xA k 0) (xA k 1) (xA k 2) (xA k 3) (xA k 4) (xA k 5) (xA k 6) (xH k) (xL (M')) (xU (M')) (xS (M')) R.1 R.2.1 R.2.2.1 R.2.2.2 z.2.2.2.2.2.1 z.2.2.2.2.2.2
  | 0, _, _, _, _, _, _, hn => by omega
  | n + 1, t, M', hf, hM, t0, t1, hn => by
    have hh := k_h ok
    have hl := cl_pl hp
    dsimp only at hl
    have tb : -100 ≤ (fi + kh k) / (2 * kh k) ∧ (la + kh k) / (2 * kh k) ≤ 100 := by
      rcases hh with e | e | e <;> rw [e] <;> omega
    refine ib_lt ((la + kh k) / (2 * kh k)) t (fun e => h M' hf (cl_hx hM fun v => ?_)) (fun e => nm_r (ws_l ok.1 (by omega)) ?_) rfl rfl (by omega)
    · constructor
      · rintro (hv | ⟨m, m1, _, m3⟩)
        · exact Or.inl hv
        · exact Or.inr ⟨m, m1, m3⟩
      · rintro (hv | ⟨m, m1, m3⟩)
        · exact Or.inl hv
        · refine Or.inr ⟨m, m1, ?_, m3⟩
          have := tn_m hh m1.2.1
          dsimp only at this
          omega
    · have sb := tw_b hh hb.1 hl hb.2.1 t0 e
      refine x_clip (lo := fi) (hi := la) (st := st) (fr := -kh k + t * (2 * kh k)) (to := kh k - 1 + t * (2 * kh k)) rfl rfl rfl (ii_add _ _) (ii_add _ _) hp (by omega) (fun c' hc' => ?_)
      have rT : ∀ v, (∃ m, cl_m (fi, la, st) m ∧ (m + kh k) / (2 * kh k) = t ∧ v = wr (kh k) m) → -16 ≤ v ∧ v ≤ 16 := fun v ⟨m, _, _, e⟩ => by
        have := wr_in m hh
        omega
      have eT : ∀ v, (cl_m (fi, la, st) (v + t * (2 * kh k)) ∧ -kh k + t * (2 * kh k) ≤ v + t * (2 * kh k) ∧ v + t * (2 * kh k) ≤ kh k - 1 + t * (2 * kh k)) ↔ (∃ m, cl_m (fi, la, st) m ∧ (m + kh k) / (2 * kh k) = t ∧ v = wr (kh k) m) := fun v => by
        constructor
        · rintro ⟨a1, a2⟩
          have a3 := (tn_w hh).mp a2
          refine ⟨_, a1, a3, ?_⟩
          rw [← tn_r hh, a3]
          omega
        · rintro ⟨m, a1, a2, a3⟩
          have a4 : v + t * (2 * kh k) = m := by
            rw [← tn_r hh, a2] at a3
            omega
          rw [a4]
          exact ⟨a1, (tn_w hh).mpr a2⟩
      have cb := cs_h hc' (fun n hn => by
        have h1 := hn.1.1
        have h2 := hn.1.2.1
        dsimp only at h1 h2
        omega)
      unfold cs_ at cb
      refine x_join (c := 48) (lo := c'.1 - t * (2 * kh k)) (hi := c'.2.1 - t * (2 * kh k)) (st := c'.2.2) (S := fun v => S v ∨ ∃ m, cl_m (fi, la, st) m ∧ (m + kh k) / (2 * kh k) < t ∧ v = wr (kh k) m) (T := fun v => ∃ m, cl_m (fi, la, st) m ∧ (m + kh k) / (2 * kh k) = t ∧ v = wr (kh k) m) rfl ?_ ?_ ?_ (by omega) (by rw [ms_n _ _ (by omega)]; exact hM) ?_ ?_ (jo_T _ hc' eT rT) (fun c'' hc'' => nm_r (ii_add t 1) ?_)
      · show xL (ms M' 50 c') 50 - _ = _
        rw [show xL (ms M' 50 c') 50 = iI c'.1 from congrArg (fun q : cT => iI q.1) (ms_s M' 50 c'), ii_sub]
        rfl
      · show xU (ms M' 50 c') 50 - _ = _
        rw [show xU (ms M' 50 c') 50 = iI c'.2.1 from congrArg (fun q : cT => iI q.2.1) (ms_s M' 50 c'), ii_sub]
        rfl
      · exact congrArg (fun q : cT => iI q.2.2) (ms_s M' 50 c')
      · rintro v (hv | ⟨m, _, _, e⟩)
        · exact rS v hv
        · have := wr_in m hh
          omega
      · rcases hc' with ⟨rfl, _⟩ | hc'
        · dsimp only
          omega
        · have h1 := hc'.1.2
          have h2 := hc'.2.1.2
          omega
      · refine x_jw26 ok hp hb rS h n (t + 1) _ (fun j j1 j2 => ?_) ?_ (by omega) (by omega) (by omega)
        · rw [ms_n _ _ j1, ms_n _ _ j2]
          exact hf j j1 j2
        · rw [ms_s]
          refine cl_hx hc'' fun v => ?_
          constructor
          · rintro ((hv | ⟨m, m1, m2, m3⟩) | ⟨m, m1, m2, m3⟩)
            · exact Or.inl hv
            · exact Or.inr ⟨m, m1, by omega, m3⟩
            · exact Or.inr ⟨m, m1, by omega, m3⟩
          · rintro (hv | ⟨m, m1, m2, m3⟩)
            · exact Or.inl (Or.inl hv)
            · by_cases e2 : (m + kh k) / (2 * kh k) = t
              · exact Or.inr ⟨m, m1, e2, m3⟩
              · exact Or.inl (Or.inr ⟨m, m1, by omega, m3⟩)
theorem x_jw {post : SX → Prop} (ok : k_ok k) {fi la st : Int} {x1 x2 x3 : Int32} (h1 : x1 = iI fi) (h2 : x2 = iI la) (h3 : x3 = iI st) (hp : cl_p (fi, la, st)) (hb : -400 ≤ fi ∧ la ≤ 400 ∧ st ≤ 1000) {S : Int → Prop} (hS : cl_h (M 48) S) (rS : ∀ n, S n → -16 ≤ n ∧ n ≤ 16) (h : ∀ M' : mT, (∀ j, j ≠ 48 → j ≠ 50 → M' j = M j) → cl_h (M' 48) (fun v => S v ∨ ∃ m, cl_m (fi, la, st) m ∧ v = wr (kh k) m) → post (XC k z R M')) : wpX_joinWrapped post (XC k z R M) 48 x1 x2 x3 := by
  subst h1 h2 h3
  have hh := k_h ok
  have hl := cl_pl hp
  dsimp only at hl
  have s1 : ∀ x : Int, -600 ≤ x ∧ x ≤ 600 → (iI x - iI (-kh k)) >>> (iI (kB k) &&& 31) = iI ((x + kh k) / (2 * kh k)) := fun x hx => by
    rw [ii_sub, ws_r ok.1 (by rcases hh with e | e | e <;> rw [e] <;> omega), show x - -kh k = x + kh k by omega]
    rfl
  refine nm_r (s1 la (by omega)) (nm_r (s1 fi (by omega)) (Exists.intro 1000 (x_jw26 ok hp hb rS h 1000 _ M (fun _ _ _ => rfl) (cl_hx hS fun v => ?_) (Int.le_refl _) ?_ ?_)))
  · constructor
    · exact Or.inl
    · rintro (hv | ⟨m, m1, m2, _⟩)
      · exact hv
      · exfalso
        have := tn_m hh m1.1
        dsimp only at this
        omega
  · have := tn_m hh hl
    omega
  · rcases hh with e | e | e <;> rw [e] <;> omega
end
end
section
/-! ===== X: arithmetic of two classes ===== -/
def cg_ (c : cT) : Prop := cl_p c ∧ -16 ≤ c.1 ∧ c.2.1 ≤ 16
theorem cg_b {c : cT} (h : cg_ c) : -16 ≤ c.1 ∧ c.1 ≤ c.2.1 ∧ c.2.1 ≤ 16 ∧ 0 ≤ c.2.2 ∧ c.2.2 ≤ 32 := by
  obtain ⟨hp, h1, h2⟩ := h
  have h3 := cl_pl hp
  rcases hp with ⟨p1, p2⟩ | ⟨p1, p2, p3⟩
  · omega
  · have := Int.le_of_dvd (by omega) p3
    omega
theorem cg_m {c : cT} (h : cg_ c) {n : Int} (hn : cl_m c n) : -16 ≤ n ∧ n ≤ 16 := by
  have h1 := hn.1
  have h2 := hn.2.1
  have := cg_b h
  omega
theorem cg_s {c : cT} (h : cg_ c) : 1 ≤ sd_ c ∧ sd_ c ≤ 32 := by
  have h1 := cg_b h
  have h2 := sd_p c
  rcases sd_c h.1 with e | e <;> omega
theorem mb_ {x y : Int} (hx : -16 ≤ x ∧ x ≤ 16) (hy : -16 ≤ y ∧ y ≤ 16) : -256 ≤ x * y ∧ x * y ≤ 256 := by
  have h1 : (x * y).natAbs ≤ 16 * 16 := by
    rw [Int.natAbs_mul]
    exact Nat.mul_le_mul (by omega) (by omega)
  omega
theorem mc_ {x y : Int} (hx : -16 ≤ x ∧ x ≤ 16) (hy : -32 ≤ y ∧ y ≤ 32) : -512 ≤ x * y ∧ x * y ≤ 512 := by
  have h1 : (x * y).natAbs ≤ 16 * 32 := by
    rw [Int.natAbs_mul]
    exact Nat.mul_le_mul (by omega) (by omega)
  omega
section
variable {k : kT} {z : zT} {R : rT} {M : mT}
theorem x_wrap {post : Int32 → Prop} (ok : k_ok k) (v : Int32) (h : post (iI (wr (kh k) v.toInt))) : wpX_wrap post (XC k z R M) v := by
  show post ((v <<< ((32 - iI (kB k)) &&& 31)) >>> ((32 - iI (kB k)) &&& 31))
  rw [wx_w v ok.1]
  exact h
theorem x_wrapI {post : Int32 → Prop} (ok : k_ok k) {x : Int} {v : Int32} (hv : v = iI x) (hx : -1000000 ≤ x ∧ x ≤ 1000000) (h : post (iI (wr (kh k) x))) : wpX_wrap post (XC k z R M) v := by
  subst hv
  refine x_wrap ok _ ?_
  rw [ii_toInt hx]
  exact h
theorem x_same {post : SX → Prop} (ok : k_ok k) {a op : Int} {x0 x1 : Int32} (h0 : x0 = iI op) (h1 : x1 = iI a) (ha : 0 ≤ a ∧ a < 52 ∧ a ≠ 48 ∧ a ≠ 50) (ho : 0 ≤ op ∧ op ≤ 2) (hc : cg_ (M a)) (h48 : M 48 = (1, 0, 0)) (h : ∀ M' : mT, (∀ j, j ≠ 48 → j ≠ 50 → M' j = M j) → cl_h (M' 48) (fun v => ∃ x, cl_m (M a) x ∧ v = fl_c (kh k) op x x) → post (XC k z R M')) : wpX_arithmeticSame post (XC k z R M) x0 x1 := by
  subst h0 h1
  have hh := k_h ok
  have hin : vp_in (iI a) 52 := ii_in (by omega) (by omega) (by omega)
  have hb := cg_b hc
  refine ib_eq op 0 (fun e => And.intro hin (And.intro hin (And.intro hin ?_))) (fun e => ib_eq op 1 (fun e1 => ?_) (fun e1 => And.intro hin ?_) rfl rfl (by omega)) rfl rfl (by omega)
  · subst e
    obtain ⟨q1, q2⟩ := im_p (lo := (M a).1) (hi := (M a).2.1) (st := (M a).2.2) hc.1 (n := 2) (by omega)
    refine x_jw ok (fi := (M a).1 * 2) (la := (M a).2.1 * 2) (st := (M a).2.2 * 2) (S := fun _ => False) ?_ ?_ ?_ q1 (by omega) (Or.inl ⟨h48, fun _ => id⟩) (fun _ => False.elim) (fun M' hf hM => h M' hf (cl_hx hM fun v => ?_))
    · rw [xl_g M (by omega), ii_2, ii_mul, Int.mul_comm]
    · rw [xu_g M (by omega), ii_2, ii_mul, Int.mul_comm]
    · rw [xs_g M (by omega), ii_2, ii_mul, Int.mul_comm]
    · constructor
      · rintro (hv | ⟨m, m1, m2⟩)
        · exact hv.elim
        · obtain ⟨x, hx, e⟩ := (q2 m).mp m1
          refine ⟨x, hx, ?_⟩
          rw [m2, e]
          exact congrArg (wr (kh k)) (by omega)
      · rintro ⟨x, hx, e⟩
        refine Or.inr ⟨x * 2, (q2 _).mpr ⟨x, hx, rfl⟩, ?_⟩
        rw [e]
        exact congrArg (wr (kh k)) (by omega)
  · subst e1
    refine x_join (c := 48) (lo := 0) (hi := 0) (st := 0) (S := fun _ => False) (T := fun v => v = 0) rfl rfl rfl rfl (by omega) (Or.inl ⟨h48, fun _ => id⟩) (fun _ => False.elim) (by omega) (jo_1 0 (by omega)) (fun c' hc' => h _ (fun j j1 _ => ms_n _ _ j1) ?_)
    rw [ms_s]
    refine cl_hx hc' fun v => ?_
    have w0 : wr (kh k) 0 = 0 := wr_id hh (by omega) (by omega)
    have fc : ∀ x, fl_c (kh k) 1 x x = 0 := fun x => by
      show wr (kh k) (x - x) = 0
      rw [Int.sub_self]
      exact w0
    constructor
    · rintro (hv | hv)
      · exact hv.elim
      · exact ⟨(M a).1, cl_lo hc.1, by rw [fc]; exact hv⟩
    · rintro ⟨x, hx, e2⟩
      rw [fc] at e2
      exact Or.inr e2
  · obtain rfl : op = 2 := by omega
    have hsd := cg_s hc
    have main : ∀ z0 : Int32, z0 = iI (sd_ (M a)) → wX_arithmeticSame_73 post (iI a) z0 (iI (kB k)) (iI (kP k)) (iI (kV k)) (iI (kC k)) (iI (-kh k)) (iI (kh k - 1)) (iI (kE k)) (iI (kN k)) z.1 40 44 48 49 50 51 z.2.1 z.2.2.1 z.2.2.2.1 z.2.2.2.2.1 (xA k 0) (xA k 1) (xA k 2) (xA k 3) (xA k 4) (xA k 5) (xA k 6) (xH k) (xL (M)) (xU (M)) (xS (M)) R.1 R.2.1 R.2.2.1 R.2.2.2 z.2.2.2.2.2.1 z.2.2.2.2.2.2 := fun z0 hz => by
      subst hz
      refine And.intro hin (nm_r (xu_g M (by omega)) (And.intro hin (nm_r (xl_g M (by omega)) (Exists.intro 1000 ?_))))
      refine lp_en (σ := mT) hc.1 (fun n x M' => wX_arithmeticSame_90 post (iI (sd_ (M a))) (iI (M a).2.1) n (iI x) (iI (kB k)) (iI (kP k)) (iI (kV k)) (iI (kC k)) (iI (-kh k)) (iI (kh k - 1)) (iI (kE k)) (iI (kN k)) z.1 40 44 48 49 50 51 z.2.1 z.2.2.1 z.2.2.2.1 z.2.2.2.2.1 (xA k 0) (xA k 1) (xA k 2) (xA k 3) (xA k 4) (xA k 5) (xA k 6) (xH k) (xL (M')) (xU (M')) (xS (M')) R.1 R.2.1 R.2.2.1 R.2.2.2 z.2.2.2.2.2.1 z.2.2.2.2.2.2) (fun x M' => (∀ j, j ≠ 48 → j ≠ 50 → M' j = M j) ∧ cl_h (M' 48) (fun v => ∃ m, (cl_m (M a) m ∧ m < x) ∧ v = wr (kh k) (m * m)) ∧ -100 ≤ x ∧ x ≤ 100) ?_ ?_ 1000 _ M ⟨fun _ _ _ => rfl, ?_, by omega, by omega⟩ (fun _ => cl_lo hc.1) (by omega)
      · intro n x M' hx ⟨hf, hM, hx1, hx2⟩
        refine ib_lt (M a).2.1 x (fun _ => h M' hf (cl_hx hM fun v => ?_)) (fun e => by omega) rfl rfl (by omega)
        constructor
        · rintro ⟨m, ⟨m1, _⟩, m3⟩
          exact ⟨m, m1, m3⟩
        · rintro ⟨m, m1, m3⟩
          exact ⟨m, ⟨m1, by have := m1.2.1; omega⟩, m3⟩
      · intro n x M' hx ⟨hf, hM, hx1, hx2⟩ ih
        have xb := cg_m hc hx
        have xx := mb_ (x := x) (y := x) xb (by omega)
        have wb := wr_in (h := kh k) (x * x) hh
        refine ib_lt (M a).2.1 x (fun e => by have := hx.2.1; omega) (fun _ => x_wrapI ok (ii_mul x x) (by omega) (x_join (c := 48) (lo := wr (kh k) (x * x)) (hi := wr (kh k) (x * x)) (st := 0) (T := fun v => v = wr (kh k) (x * x)) rfl rfl rfl rfl (by omega) hM ?_ (by omega) (jo_1 _ (by omega)) (fun c' hc' => nm_r (ii_add x (sd_ (M a))) (ih _ ⟨fun j j1 j2 => ?_, ?_, by omega, by omega⟩)))) rfl rfl (by omega)
        · rintro v ⟨m, _, e2⟩
          have := wr_in (h := kh k) (m * m) hh
          omega
        · rw [ms_n _ _ j1]
          exact hf j j1 j2
        · rw [ms_s]
          refine cl_hx hc' fun v => ?_
          constructor
          · rintro (⟨m, m1, m2⟩ | hv)
            · exact ⟨m, (en_1 hc.1 hx m).mpr (Or.inl m1), m2⟩
            · exact ⟨x, (en_1 hc.1 hx x).mpr (Or.inr rfl), hv⟩
          · rintro ⟨m, m1, m2⟩
            rcases (en_1 hc.1 hx m).mp m1 with m3 | m3
            · exact Or.inl ⟨m, m3, m2⟩
            · rw [m3] at m2
              exact Or.inr m2
      · rw [h48]
        exact cl_he fun v ⟨m, ⟨m1, m2⟩, _⟩ => by have := m1.1; omega
    refine ib_le (M a).2.2 0 (fun e2 => main _ ?_) (fun e2 => And.intro hin (main _ ?_)) (xs_g M (by omega)) rfl (by omega)
    · rw [show sd_ (M a) = 1 from if_neg (by omega)]
      rfl
    · rw [show sd_ (M a) = (M a).2.2 from if_pos e2]
      exact xs_g M (by omega)
theorem x_mul {post : SX → Prop} (ok : k_ok k) {a b : Int} {x0 x1 : Int32} (h0 : x0 = iI a) (h1 : x1 = iI b) (ha : 0 ≤ a ∧ a < 52 ∧ a ≠ 48 ∧ a ≠ 50) (hb : 0 ≤ b ∧ b < 52 ∧ b ≠ 48 ∧ b ≠ 50) (ca : cg_ (M a)) (cb : cg_ (M b)) (h48 : M 48 = (1, 0, 0)) (h : ∀ M' : mT, (∀ j, j ≠ 48 → j ≠ 50 → M' j = M j) → cl_h (M' 48) (fun v => ∃ x y, cl_m (M a) x ∧ cl_m (M b) y ∧ v = wr (kh k) (x * y)) → post (XC k z R M')) : wpX_multiply post (XC k z R M) x0 x1 := by
  subst h0 h1
  have hh := k_h ok
  have hia : vp_in (iI a) 52 := ii_in (by omega) (by omega) (by omega)
  have hib : vp_in (iI b) 52 := ii_in (by omega) (by omega) (by omega)
  have hA := cg_b ca
  have hB := cg_b cb
  have hsd := cg_s cb
  have main : ∀ z0 : Int32, z0 = iI (sd_ (M b)) → wX_multiply_19 post (iI a) (iI b) z0 (iI (kB k)) (iI (kP k)) (iI (kV k)) (iI (kC k)) (iI (-kh k)) (iI (kh k - 1)) (iI (kE k)) (iI (kN k)) z.1 40 44 48 49 50 51 z.2.1 z.2.2.1 z.2.2.2.1 z.2.2.2.2.1 (xA k 0) (xA k 1) (xA k 2) (xA k 3) (xA k 4) (xA k 5) (xA k 6) (xH k) (xL (M)) (xU (M)) (xS (M)) R.1 R.2.1 R.2.2.1 R.2.2.2 z.2.2.2.2.2.1 z.2.2.2.2.2.2 := fun z0 hz => by
    subst hz
    refine And.intro hib (nm_r (xu_g M (by omega)) (And.intro hib (nm_r (xl_g M (by omega)) (Exists.intro 1000 ?_))))
    refine lp_en (σ := mT) cb.1 (fun n x M' => wX_multiply_36 post (iI a) (iI (sd_ (M b))) (iI (M b).2.1) n (iI x) (iI (kB k)) (iI (kP k)) (iI (kV k)) (iI (kC k)) (iI (-kh k)) (iI (kh k - 1)) (iI (kE k)) (iI (kN k)) z.1 40 44 48 49 50 51 z.2.1 z.2.2.1 z.2.2.2.1 z.2.2.2.2.1 (xA k 0) (xA k 1) (xA k 2) (xA k 3) (xA k 4) (xA k 5) (xA k 6) (xH k) (xL (M')) (xU (M')) (xS (M')) R.1 R.2.1 R.2.2.1 R.2.2.2 z.2.2.2.2.2.1 z.2.2.2.2.2.2) (fun x M' => (∀ j, j ≠ 48 → j ≠ 50 → M' j = M j) ∧ cl_h (M' 48) (fun v => ∃ m, (cl_m (M b) m ∧ m < x) ∧ ∃ w, cl_m (M a) w ∧ v = wr (kh k) (w * m)) ∧ -100 ≤ x ∧ x ≤ 100) ?_ ?_ 1000 _ M ⟨fun _ _ _ => rfl, ?_, by omega, by omega⟩ (fun _ => cl_lo cb.1) (by omega)
    · intro n x M' hx ⟨hf, hM, hx1, hx2⟩
      refine ib_lt (M b).2.1 x (fun _ => h M' hf (cl_hx hM fun v => ?_)) (fun e => by omega) rfl rfl (by omega)
      constructor
      · rintro ⟨m, ⟨m1, _⟩, w, w1, w2⟩
        exact ⟨w, m, w1, m1, w2⟩
      · rintro ⟨w, m, w1, m1, m3⟩
        exact ⟨m, ⟨m1, by have := m1.2.1; omega⟩, w, w1, m3⟩
    · intro n x M' hx ⟨hf, hM, hx1, hx2⟩ ih
      have xb := cg_m cb hx
      have m1 := mb_ (x := x) (y := (M a).1) xb (by omega)
      have m2 := mb_ (x := x) (y := (M a).2.1) xb (by omega)
      have m3 := mc_ (x := x) (y := (M a).2.2) xb (by omega)
      have m4 := mc_ (x := x) (y := -(M a).2.2) xb (by omega)
      rw [Int.mul_comm] at m1 m2 m3 m4
      have eM : M' a = M a := hf a (by omega) (by omega)
      have rS : ∀ v, (∃ m, (cl_m (M b) m ∧ m < x) ∧ ∃ w, cl_m (M a) w ∧ v = wr (kh k) (w * m)) → -16 ≤ v ∧ v ≤ 16 := fun v ⟨m, _, w, _, e⟩ => by
        have := wr_in (h := kh k) (w * m) hh
        omega
      have fin : ∀ (cc : cT), (∀ m, cl_m cc m ↔ ∃ w, cl_m (M a) w ∧ m = w * x) → ∀ M'' : mT, (∀ j, j ≠ 48 → j ≠ 50 → M'' j = M' j) → cl_h (M'' 48) (fun v => (∃ m, (cl_m (M b) m ∧ m < x) ∧ ∃ w, cl_m (M a) w ∧ v = wr (kh k) (w * m)) ∨ ∃ m, cl_m cc m ∧ v = wr (kh k) m) → ((∀ j, j ≠ 48 → j ≠ 50 → M'' j = M j) ∧ cl_h (M'' 48) (fun v => ∃ m, (cl_m (M b) m ∧ m < x + sd_ (M b)) ∧ ∃ w, cl_m (M a) w ∧ v = wr (kh k) (w * m)) ∧ -100 ≤ x + sd_ (M b) ∧ x + sd_ (M b) ≤ 100) := fun cc hcc M'' hf2 hM2 => by
        refine ⟨fun j j1 j2 => (hf2 j j1 j2).trans (hf j j1 j2), cl_hx hM2 fun v => ?_, by omega, by omega⟩
        constructor
        · rintro (⟨m, m1, m2⟩ | ⟨m, m1, m2⟩)
          · exact ⟨m, (en_1 cb.1 hx m).mpr (Or.inl m1), m2⟩
          · obtain ⟨w, w1, w2⟩ := (hcc m).mp m1
            exact ⟨x, (en_1 cb.1 hx x).mpr (Or.inr rfl), w, w1, by rw [m2, w2]⟩
        · rintro ⟨m, m1, w, w1, w2⟩
          rcases (en_1 cb.1 hx m).mp m1 with m3 | m3
          · exact Or.inl ⟨m, m3, w, w1, w2⟩
          · rw [m3] at w2
            exact Or.inr ⟨w * x, (hcc _).mpr ⟨w, w1, rfl⟩, w2⟩
      refine ib_lt (M b).2.1 x (fun e => by have := hx.2.1; omega) (fun _ => ib_lt x 0 (fun e => And.intro hia (And.intro hia (And.intro hia ?_))) (fun e => And.intro hia (And.intro hia (And.intro hia ?_))) rfl rfl (by omega)) rfl rfl (by omega)
      · obtain ⟨q1, q2⟩ := im_n (lo := (M a).1) (hi := (M a).2.1) (st := (M a).2.2) ca.1 e
        refine x_jw ok (fi := (M a).2.1 * x) (la := (M a).1 * x) (st := -(M a).2.2 * x) ?_ ?_ ?_ q1 (by omega) hM rS (fun M'' hf2 hM2 => nm_r (ii_add x _) (ih M'' (fin _ q2 M'' hf2 hM2)))
        · rw [xu_g M' (by omega), eM, ii_mul]
        · rw [xl_g M' (by omega), eM, ii_mul]
        · rw [xs_g M' (by omega), eM, ii_neg, ii_mul]
      · obtain ⟨q1, q2⟩ := im_p (lo := (M a).1) (hi := (M a).2.1) (st := (M a).2.2) ca.1 e
        refine x_jw ok (fi := (M a).1 * x) (la := (M a).2.1 * x) (st := (M a).2.2 * x) ?_ ?_ ?_ q1 (by omega) hM rS (fun M'' hf2 hM2 => nm_r (ii_add x _) (ih M'' (fin _ q2 M'' hf2 hM2)))
        · rw [xl_g M' (by omega), eM, ii_mul]
        · rw [xu_g M' (by omega), eM, ii_mul]
        · rw [xs_g M' (by omega), eM, ii_mul]
    · rw [h48]
      exact cl_he fun v ⟨m, ⟨m1, m2⟩, _⟩ => by have := m1.1; omega
  refine And.intro hib (ib_le (M b).2.2 0 (fun e2 => main _ ?_) (fun e2 => And.intro hib (main _ ?_)) (xs_g M (by omega)) rfl (by omega))
  · rw [show sd_ (M b) = 1 from if_neg (by omega)]
    rfl
  · rw [show sd_ (M b) = (M b).2.2 from if_pos e2]
    exact xs_g M (by omega)
end
end
section
/-! ===== X: addOrSubtract, arithmetic ===== -/
def su_y (op y : Int) : Int := if op = 0 then y else -y
theorem tn_sq {h lo hi m : Int} (hh : h = 4 ∨ h = 8 ∨ h = 16) (e : (lo + h) / (2 * h) = (hi + h) / (2 * h)) (h1 : lo ≤ m) (h2 : m ≤ hi) : wr h m = m - (lo + h) / (2 * h) * (2 * h) := by
  have a := tn_m hh h1
  have b := tn_m hh h2
  rw [← tn_r hh, show (m + h) / (2 * h) = (lo + h) / (2 * h) by omega]
theorem tn_hull {h lo hi st : Int} {c : cT} {S : Int → Prop} (hh : h = 4 ∨ h = 8 ∨ h = 16) (e : (lo + h) / (2 * h) = (hi + h) / (2 * h)) (hN : cl_N (lo, hi, st) S) (hc : cl_h c (fun v => False ∨ ∃ m, cl_m (lo, hi, st) m ∧ v = wr h m)) : cl_h c (fun v => ∃ m, S m ∧ v = wr h m) := by
  have h1 := cl_sh (cl_hm (cl_Np hN)) ((lo + h) / (2 * h) * (2 * h))
  have h2 := cl_sh hN ((lo + h) / (2 * h) * (2 * h))
  have e1 := cl_hu hc (cl_Nh (cl_Nx h1 fun v => by
    constructor
    · intro hv
      refine Or.inr ⟨_, hv, ?_⟩
      rw [tn_sq hh e hv.1 hv.2.1]
      omega
    · rintro (hv | ⟨m, m1, m2⟩)
      · exact hv.elim
      · rw [tn_sq hh e m1.1 m1.2.1] at m2
        rw [m2, show m - (lo + h) / (2 * h) * (2 * h) + (lo + h) / (2 * h) * (2 * h) = m by omega]
        exact m1))
  rw [e1]
  refine cl_Nh (cl_Nx h2 fun v => ?_)
  constructor
  · intro hv
    have := hN.2.2.2.1 _ hv
    refine ⟨_, hv, ?_⟩
    rw [tn_sq hh e this.1 this.2]
    omega
  · rintro ⟨m, m1, m2⟩
    have := hN.2.2.2.1 _ m1
    rw [tn_sq hh e this.1 this.2] at m2
    rw [m2, show m - (lo + h) / (2 * h) * (2 * h) + (lo + h) / (2 * h) * (2 * h) = m by omega]
    exact m1
section
variable {k : kT} {z : zT} {R : rT} {M : mT}
theorem x_as68 {post : SX → Prop} (ok : k_ok k) {op a b lo hi : Int} {x4 x5 : Int32} (h4 : x4 = iI lo) (h5 : x5 = iI hi) (hop : op = 0 ∨ op = 1) (ha : 0 ≤ a ∧ a < 52 ∧ a ≠ 48 ∧ a ≠ 50) (hb : 0 ≤ b ∧ b < 52 ∧ b ≠ 48 ∧ b ≠ 50) (ca : cg_ (M a)) (cb : cg_ (M b)) (h48 : M 48 = (1, 0, 0)) (hl : -100 ≤ lo ∧ lo ≤ hi ∧ hi ≤ 100) (hN : cl_N (lo, hi, ((Int.gcd (M a).2.2 (M b).2.2 : Nat) : Int)) (fun v => ∃ x y, cl_m (M a) x ∧ cl_m (M b) y ∧ v = x + su_y op y)) (h : ∀ M' : mT, (∀ j, j ≠ 48 → j ≠ 50 → M' j = M j) → cl_h (M' 48) (fun v => ∃ x y, cl_m (M a) x ∧ cl_m (M b) y ∧ v = wr (kh k) (x + su_y op y)) → post (XC k z R M')) : wX_addOrSubtract_68 post (iI op) (iI a) (iI b) x4 x5 (iI (kB k)) (iI (kP k)) (iI (kV k)) (iI (kC k)) (iI (-kh k)) (iI (kh k - 1)) (iI (kE k)) (iI (kN k)) z.1 40 44 48 49 50 51 z.2.1 z.2.2.1 z.2.2.2.1 z.2.2.2.2.1 (xA k 0) (xA k 1) (xA k 2) (xA k 3) (xA k 4) (xA k 5) (xA k 6) (xH k) (xL (M)) (xU (M)) (xS (M)) R.1 R.2.1 R.2.2.1 R.2.2.2 z.2.2.2.2.2.1 z.2.2.2.2.2.2 := by
  subst h4 h5
  have hh := k_h ok
  have hia : vp_in (iI a) 52 := ii_in (by omega) (by omega) (by omega)
  have hib : vp_in (iI b) 52 := ii_in (by omega) (by omega) (by omega)
  have hA := cg_b ca
  have hB := cg_b cb
  have hsd := cg_s cb
  have s1 : ∀ x : Int, -600 ≤ x ∧ x ≤ 600 → (iI x - iI (-kh k)) >>> (iI (kB k) &&& 31) = iI ((x + kh k) / (2 * kh k)) := fun x hx => by
    rw [ii_sub, ws_r ok.1 (by rcases hh with e | e | e <;> rw [e] <;> omega), show x - -kh k = x + kh k by omega]
    rfl
  have tb : ∀ x : Int, -100 ≤ x ∧ x ≤ 100 → -1000 ≤ (x + kh k) / (2 * kh k) ∧ (x + kh k) / (2 * kh k) ≤ 1000 := fun x hx => by
    rcases hh with e | e | e <;> rw [e] <;> omega
  have tb1 := tb lo (by omega)
  have tb2 := tb hi (by omega)
  have gb := gc_b (a := (M a).2.2) (b := (M b).2.2) (by omega) (by omega)
  have main : ∀ z0 : Int32, z0 = iI (sd_ (M b)) → wX_addOrSubtract_147 post (iI op) (iI a) (iI b) z0 (iI (kB k)) (iI (kP k)) (iI (kV k)) (iI (kC k)) (iI (-kh k)) (iI (kh k - 1)) (iI (kE k)) (iI (kN k)) z.1 40 44 48 49 50 51 z.2.1 z.2.2.1 z.2.2.2.1 z.2.2.2.2.1 (xA k 0) (xA k 1) (xA k 2) (xA k 3) (xA k 4) (xA k 5) (xA k 6) (xH k) (xL (M)) (xU (M)) (xS (M)) R.1 R.2.1 R.2.2.1 R.2.2.2 z.2.2.2.2.2.1 z.2.2.2.2.2.2 := fun z0 hz => by
    subst hz
    refine And.intro hib (nm_r (xu_g M (by omega)) (And.intro hib (nm_r (xl_g M (by omega)) (Exists.intro 1000 ?_))))
    refine lp_en (σ := mT) cb.1 (fun n x M' => wX_addOrSubtract_165 post (iI op) (iI a) (iI (sd_ (M b))) (iI (M b).2.1) n (iI x) (iI (kB k)) (iI (kP k)) (iI (kV k)) (iI (kC k)) (iI (-kh k)) (iI (kh k - 1)) (iI (kE k)) (iI (kN k)) z.1 40 44 48 49 50 51 z.2.1 z.2.2.1 z.2.2.2.1 z.2.2.2.2.1 (xA k 0) (xA k 1) (xA k 2) (xA k 3) (xA k 4) (xA k 5) (xA k 6) (xH k) (xL (M')) (xU (M')) (xS (M')) R.1 R.2.1 R.2.2.1 R.2.2.2 z.2.2.2.2.2.1 z.2.2.2.2.2.2) (fun x M' => (∀ j, j ≠ 48 → j ≠ 50 → M' j = M j) ∧ cl_h (M' 48) (fun v => ∃ m, (cl_m (M b) m ∧ m < x) ∧ ∃ w, cl_m (M a) w ∧ v = wr (kh k) (w + su_y op m)) ∧ -100 ≤ x ∧ x ≤ 100) ?_ ?_ 1000 _ M ⟨fun _ _ _ => rfl, ?_, by omega, by omega⟩ (fun _ => cl_lo cb.1) (by omega)
    · intro n x M' hx ⟨hf, hM, hx1, hx2⟩
      refine ib_lt (M b).2.1 x (fun _ => h M' hf (cl_hx hM fun v => ?_)) (fun e => by omega) rfl rfl (by omega)
      constructor
      · rintro ⟨m, ⟨m1, _⟩, w, w1, w2⟩
        exact ⟨w, m, w1, m1, w2⟩
      · rintro ⟨w, m, w1, m1, m3⟩
        exact ⟨m, ⟨m1, by have := m1.2.1; omega⟩, w, w1, m3⟩
    · intro n x M' hx ⟨hf, hM, hx1, hx2⟩ ih
      have xb := cg_m cb hx
      have eM : M' a = M a := hf a (by omega) (by omega)
      have rS : ∀ v, (∃ m, (cl_m (M b) m ∧ m < x) ∧ ∃ w, cl_m (M a) w ∧ v = wr (kh k) (w + su_y op m)) → -16 ≤ v ∧ v ≤ 16 := fun v ⟨m, _, w, _, e⟩ => by
        have := wr_in (h := kh k) (w + su_y op m) hh
        omega
      have step : ∀ z1 : Int32, z1 = iI (su_y op x) → -16 ≤ su_y op x ∧ su_y op x ≤ 16 → wX_addOrSubtract_184 post (wX_addOrSubtract_165 post (iI op) (iI a) (iI (sd_ (M b))) (iI (M b).2.1) n) (iI op) (iI a) (iI (sd_ (M b))) (iI (M b).2.1) (iI x) z1 (iI (kB k)) (iI (kP k)) (iI (kV k)) (iI (kC k)) (iI (-kh k)) (iI (kh k - 1)) (iI (kE k)) (iI (kN k)) z.1 40 44 48 49 50 51 z.2.1 z.2.2.1 z.2.2.2.1 z.2.2.2.2.1 (xA k 0) (xA k 1) (xA k 2) (xA k 3) (xA k 4) (xA k 5) (xA k 6) (xH k) (xL (M')) (xU (M')) (xS (M')) R.1 R.2.1 R.2.2.1 R.2.2.2 z.2.2.2.2.2.1 z.2.2.2.2.2.2 := fun z1 hz1 hzb => by
        subst hz1
        obtain ⟨q1, q2⟩ := im_a (lo := (M a).1) (hi := (M a).2.1) (st := (M a).2.2) ca.1 (su_y op x)
        refine And.intro hia (And.intro hia (And.intro hia (x_jw ok (fi := (M a).1 + su_y op x) (la := (M a).2.1 + su_y op x) (st := (M a).2.2) ?_ ?_ ?_ q1 (by omega) hM rS (fun M'' hf2 hM2 => nm_r (ii_add x _) (ih M'' ⟨fun j j1 j2 => (hf2 j j1 j2).trans (hf j j1 j2), cl_hx hM2 fun v => ?_, by omega, by omega⟩)))))
        · rw [xl_g M' (by omega), eM, ii_add]
        · rw [xu_g M' (by omega), eM, ii_add]
        · rw [xs_g M' (by omega), eM]
        · constructor
          · rintro (⟨m, m1, m2⟩ | ⟨m, m1, m2⟩)
            · exact ⟨m, (en_1 cb.1 hx m).mpr (Or.inl m1), m2⟩
            · obtain ⟨w, w1, w2⟩ := (q2 m).mp m1
              exact ⟨x, (en_1 cb.1 hx x).mpr (Or.inr rfl), w, w1, by rw [m2, w2]⟩
          · rintro ⟨m, m1, w, w1, w2⟩
            rcases (en_1 cb.1 hx m).mp m1 with m3 | m3
            · exact Or.inl ⟨m, m3, w, w1, w2⟩
            · rw [m3] at w2
              exact Or.inr ⟨w + su_y op x, (q2 _).mpr ⟨w, w1, rfl⟩, w2⟩
      refine ib_lt (M b).2.1 x (fun e => by have := hx.2.1; omega) (fun _ => ib_eq op 0 (fun e => step _ ?_ ?_) (fun e => step _ ?_ ?_) rfl rfl (by omega)) rfl rfl (by omega)
      · rw [show su_y op x = x from if_pos e]
      · rw [show su_y op x = x from if_pos e]
        exact xb
      · rw [show su_y op x = -x from if_neg e, ii_neg]
      · rw [show su_y op x = -x from if_neg e]
        omega
    · rw [h48]
      exact cl_he fun v ⟨m, ⟨m1, m2⟩, _⟩ => by have := m1.1; omega
  refine ib_eq ((lo + kh k) / (2 * kh k)) ((hi + kh k) / (2 * kh k)) (fun e => And.intro hia (And.intro hib (x_gcd (xs_g M (by omega)) (xs_g M (by omega)) (by omega) (by omega) ?_))) (fun e => And.intro hib (ib_le (M b).2.2 0 (fun e2 => main _ ?_) (fun e2 => And.intro hib (main _ ?_)) (xs_g M (by omega)) rfl (by omega))) (s1 lo (by omega)) (s1 hi (by omega)) (by omega)
  · refine x_jw ok (fi := lo) (la := hi) (st := ((Int.gcd (M a).2.2 (M b).2.2 : Nat) : Int)) (S := fun _ => False) rfl rfl rfl (cl_Np hN) (by omega) (Or.inl ⟨h48, fun _ => id⟩) (fun _ => False.elim) (fun M' hf hM => h M' hf (cl_hx (tn_hull hh e hN hM) fun v => ?_))
    constructor
    · rintro ⟨m, ⟨x, y, hx, hy, e1⟩, e2⟩
      exact ⟨x, y, hx, hy, by rw [e2, e1]⟩
    · rintro ⟨x, y, hx, hy, e1⟩
      exact ⟨_, ⟨x, y, hx, hy, rfl⟩, e1⟩
  · rw [show sd_ (M b) = 1 from if_neg (by omega)]
    rfl
  · rw [show sd_ (M b) = (M b).2.2 from if_pos e2]
    exact xs_g M (by omega)
theorem x_as {post : SX → Prop} (ok : k_ok k) {op a b : Int} {x0 x1 x2 : Int32} (h0 : x0 = iI op) (h1 : x1 = iI a) (h2 : x2 = iI b) (hop : op = 0 ∨ op = 1) (ha : 0 ≤ a ∧ a < 52 ∧ a ≠ 48 ∧ a ≠ 50) (hb : 0 ≤ b ∧ b < 52 ∧ b ≠ 48 ∧ b ≠ 50) (ca : cg_ (M a)) (cb : cg_ (M b)) (h48 : M 48 = (1, 0, 0)) (h : ∀ M' : mT, (∀ j, j ≠ 48 → j ≠ 50 → M' j = M j) → cl_h (M' 48) (fun v => ∃ x y, cl_m (M a) x ∧ cl_m (M b) y ∧ v = wr (kh k) (x + su_y op y)) → post (XC k z R M')) : wpX_addOrSubtract post (XC k z R M) x0 x1 x2 := by
  subst h0 h1 h2
  have hia : vp_in (iI a) 52 := ii_in (by omega) (by omega) (by omega)
  have hib : vp_in (iI b) 52 := ii_in (by omega) (by omega) (by omega)
  have hA := cg_b ca
  have hB := cg_b cb
  have hNa := cl_hm ca.1
  have hNb := cl_hm cb.1
  rcases hop with e | e
  · subst e
    refine ib_eq 0 0 (fun _ => And.intro hia (And.intro hib (ib_eq 0 0 (fun _ => And.intro hia (And.intro hib ?_)) (fun e => absurd rfl e)))) (fun e => absurd rfl e)
    refine x_as68 ok (lo := (M a).1 + (M b).1) (hi := (M a).2.1 + (M b).2.1) ?_ ?_ (Or.inl rfl) ha hb ca cb h48 (by omega) (cl_sum hNa hNb) h
    · rw [xl_g M (by omega), xl_g M (by omega), ii_add]
    · rw [xu_g M (by omega), xu_g M (by omega), ii_add]
  · subst e
    refine ib_eq 1 0 (fun e => by omega) (fun _ => And.intro hia (And.intro hib (ib_eq 1 0 (fun e => by omega) (fun _ => And.intro hia (And.intro hib ?_)))))
    have hs := cl_sum hNa (cl_ng cb.1)
    dsimp only at hs
    refine x_as68 ok (lo := (M a).1 + -(M b).2.1) (hi := (M a).2.1 + -(M b).1) ?_ ?_ (Or.inr rfl) ha hb ca cb h48 (by omega) (cl_Nx hs fun v => ?_) h
    · rw [xl_g M (by omega), xu_g M (by omega), ii_sub]
      exact congrArg iI (by omega)
    · rw [xu_g M (by omega), xl_g M (by omega), ii_sub]
      exact congrArg iI (by omega)
    · constructor
      · rintro ⟨x, y, hx, hy, e1⟩
        refine ⟨x, -y, hx, hy, ?_⟩
        rw [e1]
        show x + y = x + - -y
        omega
      · rintro ⟨x, y, hx, hy, e1⟩
        exact ⟨x, -y, hx, by rw [Int.neg_neg]; exact hy, e1⟩
theorem x_ari {post : SX → Prop} (ok : k_ok k) {op a b : Int} {x0 x1 x2 : Int32} (h0 : x0 = iI op) (h1 : x1 = iI a) (h2 : x2 = iI b) (hop : 0 ≤ op ∧ op ≤ 3) (ha : 0 ≤ a ∧ a < 52 ∧ a ≠ 48 ∧ a ≠ 50) (hb : 0 ≤ b ∧ b < 52 ∧ b ≠ 48 ∧ b ≠ 50) (ca : cg_ (M a)) (cb : cg_ (M b)) (h : ∀ M' : mT, (∀ j, j ≠ 48 → j ≠ 50 → M' j = M j) → cl_h (M' 48) (fun v => ∃ x y, cl_m (M a) x ∧ cl_m (M b) y ∧ (a = b → x = y) ∧ v = fl_c (kh k) op x y) → post (XC k z R M')) : wpX_arithmetic post (XC k z R M) x0 x1 x2 := by
  subst h0 h1 h2
  have e48 : (ms M 48 (1, 0, 0)) 48 = (1, 0, 0) := ms_s _ _ _
  have eA : (ms M 48 (1, 0, 0)) a = M a := ms_n _ _ (by omega)
  have eB : (ms M 48 (1, 0, 0)) b = M b := ms_n _ _ (by omega)
  have fr : ∀ M' : mT, (∀ j, j ≠ 48 → j ≠ 50 → M' j = (ms M 48 (1, 0, 0)) j) → ∀ j, j ≠ 48 → j ≠ 50 → M' j = M j := fun M' hf j j1 j2 => (hf j j1 j2).trans (ms_n _ _ j1)
  unfold wpX_arithmetic
  dsimp only [XC, XD]
  refine x_clear (c := 48) rfl (by omega) (ib_eq op 3 (fun e => ?_) (fun e => ib_eq a b (fun e1 => ?_) (fun e1 => ib_eq op 2 (fun e2 => ?_) (fun e2 => ?_) rfl rfl (by omega)) rfl rfl (by omega)) rfl rfl (by omega))
  · subst e
    refine x_copy (c := 48) (d := b) rfl rfl (by omega) (by omega) (h _ (fun j j1 j2 => ?_) ?_)
    · rw [ms_n _ _ j1, ms_n _ _ j1]
    · rw [ms_s, eB]
      refine cl_Nh (cl_Nx (cl_hm cb.1) fun v => ⟨fun hv => ?_, fun ⟨x, y, hx, hy, _, e1⟩ => ?_⟩)
      · by_cases e1 : a = b
        · subst e1
          exact ⟨v, v, hv, hv, fun _ => rfl, rfl⟩
        · exact ⟨(M a).1, v, cl_lo ca.1, hv, fun x => absurd x e1, rfl⟩
      · rw [show v = y from e1]
        exact hy
  · subst e1
    refine x_same ok rfl rfl ha (by omega) (by rw [eA]; exact ca) e48 (fun M' hf hM => h M' (fr M' hf) (cl_hx hM fun v => ?_))
    rw [eA]
    constructor
    · rintro ⟨x, hx, e2⟩
      exact ⟨x, x, hx, hx, fun _ => rfl, e2⟩
    · rintro ⟨x, y, hx, hy, e3, e4⟩
      rw [← e3 rfl] at e4
      exact ⟨x, hx, e4⟩
  · subst e2
    refine x_mul ok rfl rfl ha hb (by rw [eA]; exact ca) (by rw [eB]; exact cb) e48 (fun M' hf hM => h M' (fr M' hf) (cl_hx hM fun v => ?_))
    rw [eA, eB]
    constructor
    · rintro ⟨x, y, hx, hy, e3⟩
      exact ⟨x, y, hx, hy, fun e4 => absurd e4 e1, e3⟩
    · rintro ⟨x, y, hx, hy, _, e4⟩
      exact ⟨x, y, hx, hy, e4⟩
  · have ho : op = 0 ∨ op = 1 := by omega
    have efc : ∀ x y, fl_c (kh k) op x y = wr (kh k) (x + su_y op y) := fun x y => by
      rcases ho with e3 | e3 <;> subst e3
      · rfl
      · show wr (kh k) (x - y) = wr (kh k) (x + -y)
        exact congrArg _ (by omega)
    refine x_as ok rfl rfl rfl ho ha hb (by rw [eA]; exact ca) (by rw [eB]; exact cb) e48 (fun M' hf hM => h M' (fr M' hf) (cl_hx hM fun v => ?_))
    rw [eA, eB]
    constructor
    · rintro ⟨x, y, hx, hy, e3⟩
      exact ⟨x, y, hx, hy, fun e4 => absurd e4 e1, by rw [efc]; exact e3⟩
    · rintro ⟨x, y, hx, hy, _, e4⟩
      exact ⟨x, y, hx, hy, by rw [← efc]; exact e4⟩
end
end
section
/-! ===== X: keepPairs ===== -/
theorem cl_1h (n : Int) : cl_h (n, n, 0) (fun m => m = n) := cl_Nh (cl_1 n)
section
variable {k : kT} {z : zT} {R : rT} {M : mT}
theorem x_k125 {post : SX → Prop} {b r e : Int} {x0 x1 x2 x3 x4 : Int32} (h0 : x0 = iI e) (h1 : x1 = iI r) (h2 : x2 = iI (M b).2.2) (h3 : x3 = iI (M b).2.1) (h4 : x4 = iI (M b).1) (cb : cg_ (M b)) (hr : 0 ≤ r ∧ r ≤ 6) (he : -16 ≤ e ∧ e ≤ 16) (h : ∀ c', cl_h c' (fun v => cl_m (M b) v ∧ rl_h r v e) → post (XC k z R (ms (ms M 50 c') 49 c'))) : wX_keepOrdered_125 post x0 x1 x2 x3 x4 (iI (kB k)) (iI (kP k)) (iI (kV k)) (iI (kC k)) (iI (-kh k)) (iI (kh k - 1)) (iI (kE k)) (iI (kN k)) z.1 40 44 48 49 50 51 z.2.1 z.2.2.1 z.2.2.2.1 z.2.2.2.2.1 (xA k 0) (xA k 1) (xA k 2) (xA k 3) (xA k 4) (xA k 5) (xA k 6) (xH k) (xL (M)) (xU (M)) (xS (M)) R.1 R.2.1 R.2.2.1 R.2.2.2 z.2.2.2.2.2.1 z.2.2.2.2.2.2 := by
  have hB := cg_b cb
  refine x_restr (lo := (M b).1) (hi := (M b).2.1) (st := (M b).2.2) (r := r) (n := e) h4 h3 h2 h1 h0 cb.1 hr (by omega) (by omega) (fun c' hc' => ?_)
  refine x_copy (c := 49) (d := 50) rfl rfl (by omega) (by omega) ?_
  rw [ms_s]
  exact h c' hc'
theorem x_k73 {post : SX → Prop} {a b r r' up e : Int} {x5 x6 x7 x8 x9 x10 x4 : Int32} (h4 : x4 = iI up) (h5 : x5 = iI r') (h6 : x6 = iI e) (h7 : x7 = iI r) (h8 : x8 = iI (M a).2.2) (h9 : x9 = iI (M a).2.1) (h10 : x10 = iI (M a).1) (ha : 0 ≤ a ∧ a < 52 ∧ a ≠ 48 ∧ a ≠ 49 ∧ a ≠ 50) (hb : 0 ≤ b ∧ b < 52 ∧ b ≠ 48 ∧ b ≠ 49 ∧ b ≠ 50) (ca : cg_ (M a)) (cb : cg_ (M b)) (hr : 0 ≤ r ∧ r ≤ 6) (hr' : 0 ≤ r' ∧ r' ≤ 6) (hu : up = 0 ∨ up = 1) (he : -16 ≤ e ∧ e ≤ 16) (h : ∀ M' : mT, (∀ j, j ≠ 48 → j ≠ 49 → j ≠ 50 → M' j = M j) → cl_h (M' 48) (fun v => cl_m (M a) v ∧ rl_h r v e) → cl_h (M' 49) (fun v => cl_m (M b) v ∧ rl_h r' v (if up = 0 then (M a).2.1 else (M a).1)) → post (XC k z R M')) : wX_keepOrdered_73 post (iI a) (iI b) x4 x5 x6 x7 x8 x9 x10 (iI (kB k)) (iI (kP k)) (iI (kV k)) (iI (kC k)) (iI (-kh k)) (iI (kh k - 1)) (iI (kE k)) (iI (kN k)) z.1 40 44 48 49 50 51 z.2.1 z.2.2.1 z.2.2.2.1 z.2.2.2.2.1 (xA k 0) (xA k 1) (xA k 2) (xA k 3) (xA k 4) (xA k 5) (xA k 6) (xH k) (xL (M)) (xU (M)) (xS (M)) R.1 R.2.1 R.2.2.1 R.2.2.2 z.2.2.2.2.2.1 z.2.2.2.2.2.2 := by
  subst h4 h5
  have hA := cg_b ca
  have hia : vp_in (iI a) 52 := ii_in (by omega) (by omega) (by omega)
  have hib : vp_in (iI b) 52 := ii_in (by omega) (by omega) (by omega)
  refine x_restr (lo := (M a).1) (hi := (M a).2.1) (st := (M a).2.2) (r := r) (n := e) h10 h9 h8 h7 h6 ca.1 hr (by omega) (by omega) (fun c1 hc1 => ?_)
  refine x_copy (c := 48) (d := 50) rfl rfl (by omega) (by omega) ?_
  rw [ms_s]
  have eA : (ms (ms M 50 c1) 48 c1) a = M a := by rw [ms_n _ _ (by omega), ms_n _ _ (by omega)]
  have eB : (ms (ms M 50 c1) 48 c1) b = M b := by rw [ms_n _ _ (by omega), ms_n _ _ (by omega)]
  have fin : ∀ e2 : Int, e2 = (if up = 0 then (M a).2.1 else (M a).1) → -16 ≤ e2 ∧ e2 ≤ 16 → ∀ x0 : Int32, x0 = iI e2 → wX_keepOrdered_125 post x0 (iI r') (xS (ms (ms M 50 c1) 48 c1) (iI b).toNatClampNeg) (xU (ms (ms M 50 c1) 48 c1) (iI b).toNatClampNeg) (xL (ms (ms M 50 c1) 48 c1) (iI b).toNatClampNeg) (iI (kB k)) (iI (kP k)) (iI (kV k)) (iI (kC k)) (iI (-kh k)) (iI (kh k - 1)) (iI (kE k)) (iI (kN k)) z.1 40 44 48 49 50 51 z.2.1 z.2.2.1 z.2.2.2.1 z.2.2.2.2.1 (xA k 0) (xA k 1) (xA k 2) (xA k 3) (xA k 4) (xA k 5) (xA k 6) (xH k) (xL (ms (ms M 50 c1) 48 c1)) (xU (ms (ms M 50 c1) 48 c1)) (xS (ms (ms M 50 c1) 48 c1)) R.1 R.2.1 R.2.2.1 R.2.2.2 z.2.2.2.2.2.1 z.2.2.2.2.2.2 := fun e2 he2 hb2 x0 hx0 => by
    refine x_k125 (b := b) (e := e2) hx0 rfl (xs_g _ (by omega)) (xu_g _ (by omega)) (xl_g _ (by omega)) (by rw [eB]; exact cb) hr' hb2 (fun c2 hc2 => h _ (fun j j1 j2 j3 => ?_) ?_ ?_)
    · rw [ms_n _ _ j2, ms_n _ _ j3, ms_n _ _ j1, ms_n _ _ j3]
    · rw [ms_n _ _ (by omega), ms_n _ _ (by omega), ms_s]
      exact hc1
    · rw [ms_s, ← he2]
      rw [eB] at hc2
      exact hc2
  refine And.intro hib (And.intro hib (And.intro hib (ib_eq up 0 (fun e1 => And.intro hia ?_) (fun e1 => And.intro hia ?_) rfl rfl (by omega))))
  · exact fin _ rfl (by rw [if_pos e1]; omega) _ (by rw [xu_g _ (by omega), eA, if_pos e1])
  · exact fin _ rfl (by rw [if_neg e1]; omega) _ (by rw [xl_g _ (by omega), eA, if_neg e1])
theorem x_ko {post : SX → Prop} {a b r : Int} {x0 x1 x2 : Int32} (h0 : x0 = iI a) (h1 : x1 = iI r) (h2 : x2 = iI b) (ha : 0 ≤ a ∧ a < 52 ∧ a ≠ 48 ∧ a ≠ 49 ∧ a ≠ 50) (hb : 0 ≤ b ∧ b < 52 ∧ b ≠ 48 ∧ b ≠ 49 ∧ b ≠ 50) (ca : cg_ (M a)) (cb : cg_ (M b)) (hr : 2 ≤ r ∧ r ≤ 5) (h : ∀ M' : mT, (∀ j, j ≠ 48 → j ≠ 49 → j ≠ 50 → M' j = M j) → cl_h (M' 48) (fun v => cl_m (M a) v ∧ ∃ y, cl_m (M b) y ∧ rl_h r v y) → cl_h (M' 49) (fun v => cl_m (M b) v ∧ ∃ x, cl_m (M a) x ∧ rl_h r x v) → post (XC k z R M')) : wpX_keepOrdered post (XC k z R M) x0 x1 x2 := by
  subst h0 h1 h2
  have hA := cg_b ca
  have hB := cg_b cb
  have hia : vp_in (iI a) 52 := ii_in (by omega) (by omega) (by omega)
  have hib : vp_in (iI b) 52 := ii_in (by omega) (by omega) (by omega)
  have la := cl_lo ca.1
  have ua := cl_hi ca.1
  have lb := cl_lo cb.1
  have ub := cl_hi cb.1
  have up1 : (r = 2 ∨ r = 3) → wX_keepOrdered_15 post (iI a) (iI r) (iI b) 1 (iI (kB k)) (iI (kP k)) (iI (kV k)) (iI (kC k)) (iI (-kh k)) (iI (kh k - 1)) (iI (kE k)) (iI (kN k)) z.1 40 44 48 49 50 51 z.2.1 z.2.2.1 z.2.2.2.1 z.2.2.2.2.1 (xA k 0) (xA k 1) (xA k 2) (xA k 3) (xA k 4) (xA k 5) (xA k 6) (xH k) (xL (M)) (xU (M)) (xS (M)) R.1 R.2.1 R.2.2.1 R.2.2.2 z.2.2.2.2.2.1 z.2.2.2.2.2.2 := fun hr2 => by
    refine ib_eq 1 0 (fun e => by omega) (fun _ => And.intro hia (And.intro hia (And.intro hia (ib_eq 1 0 (fun e => by omega) (fun _ => And.intro hib ?_)))))
    refine x_k73 (r := r) (r' := r + 2) (up := 1) (e := (M b).2.1) rfl (ii_add r 2) (xu_g M (by omega)) rfl (xs_g M (by omega)) (xu_g M (by omega)) (xl_g M (by omega)) ha hb ca cb (by omega) (by omega) (Or.inr rfl) (by omega) (fun M' hf h1 h2 => h M' hf (cl_hx h1 fun v => ?_) (cl_hx h2 fun v => ?_))
    · rcases hr2 with e | e <;> subst e
      · rw [rl_2]
        exact ⟨fun ⟨p, q⟩ => ⟨p, _, ub, rl_2.mpr q⟩, fun ⟨p, y, q1, q2⟩ => ⟨p, by have := rl_2.mp q2; have := q1.2.1; omega⟩⟩
      · rw [rl_3]
        exact ⟨fun ⟨p, q⟩ => ⟨p, _, ub, rl_3.mpr q⟩, fun ⟨p, y, q1, q2⟩ => ⟨p, by have := rl_3.mp q2; have := q1.2.1; omega⟩⟩
    · rw [if_neg (by omega)]
      rcases hr2 with e | e <;> subst e
      · show (_ ∧ rl_h 4 _ _) ↔ _
        rw [rl_4]
        exact ⟨fun ⟨p, q⟩ => ⟨p, _, la, rl_2.mpr q⟩, fun ⟨p, y, q1, q2⟩ => ⟨p, by have := rl_2.mp q2; have := q1.1; omega⟩⟩
      · show (_ ∧ rl_h 5 _ _) ↔ _
        rw [rl_5]
        exact ⟨fun ⟨p, q⟩ => ⟨p, _, la, rl_3.mpr q⟩, fun ⟨p, y, q1, q2⟩ => ⟨p, by have := rl_3.mp q2; have := q1.1; omega⟩⟩
  refine ib_eq r 2 (fun e => up1 (Or.inl e)) (fun e => ib_eq r 3 (fun e2 => up1 (Or.inr e2)) (fun e2 => ?_) rfl rfl (by omega)) rfl rfl (by omega)
  have hr2 : r = 4 ∨ r = 5 := by omega
  refine ib_eq 0 0 (fun _ => And.intro hia (And.intro hia (And.intro hia (ib_eq 0 0 (fun _ => And.intro hib ?_) (fun e => absurd rfl e))))) (fun e => absurd rfl e)
  refine x_k73 (r := r) (r' := r - 2) (up := 0) (e := (M b).1) rfl (ii_sub r 2) (xl_g M (by omega)) rfl (xs_g M (by omega)) (xu_g M (by omega)) (xl_g M (by omega)) ha hb ca cb (by omega) (by omega) (Or.inl rfl) (by omega) (fun M' hf h1 h2 => h M' hf (cl_hx h1 fun v => ?_) (cl_hx h2 fun v => ?_))
  · rcases hr2 with e | e <;> subst e
    · rw [rl_4]
      exact ⟨fun ⟨p, q⟩ => ⟨p, _, lb, rl_4.mpr q⟩, fun ⟨p, y, q1, q2⟩ => ⟨p, by have := rl_4.mp q2; have := q1.1; omega⟩⟩
    · rw [rl_5]
      exact ⟨fun ⟨p, q⟩ => ⟨p, _, lb, rl_5.mpr q⟩, fun ⟨p, y, q1, q2⟩ => ⟨p, by have := rl_5.mp q2; have := q1.1; omega⟩⟩
  · rw [if_pos rfl]
    rcases hr2 with e | e <;> subst e
    · show (_ ∧ rl_h 2 _ _) ↔ _
      rw [rl_2]
      exact ⟨fun ⟨p, q⟩ => ⟨p, _, ua, rl_4.mpr q⟩, fun ⟨p, y, q1, q2⟩ => ⟨p, by have := rl_4.mp q2; have := q1.2.1; omega⟩⟩
    · show (_ ∧ rl_h 3 _ _) ↔ _
      rw [rl_3]
      exact ⟨fun ⟨p, q⟩ => ⟨p, _, ua, rl_5.mpr q⟩, fun ⟨p, y, q1, q2⟩ => ⟨p, by have := rl_5.mp q2; have := q1.2.1; omega⟩⟩
theorem x_kp62 {post : SX → Prop} {a b r : Int} (ha : 0 ≤ a ∧ a < 52 ∧ a ≠ 48 ∧ a ≠ 49 ∧ a ≠ 50) (hb : 0 ≤ b ∧ b < 52 ∧ b ≠ 48 ∧ b ≠ 49 ∧ b ≠ 50) (ca : cg_ (M a)) (cb : cg_ (M b)) (hr : 0 ≤ r ∧ r ≤ 6) (h48 : M 48 = (1, 0, 0)) (h49 : M 49 = (1, 0, 0)) (h : ∀ M' : mT, (∀ j, j ≠ 48 → j ≠ 49 → j ≠ 50 → M' j = M j) → cl_h (M' 48) (fun v => cl_m (M a) v ∧ ∃ y, cl_m (M b) y ∧ rl_h r v y) → cl_h (M' 49) (fun v => cl_m (M b) v ∧ ∃ x, cl_m (M a) x ∧ rl_h r x v) → post (XC k z R M')) : wX_keepPairs_62 post (iI a) (iI r) (iI b) (iI (kB k)) (iI (kP k)) (iI (kV k)) (iI (kC k)) (iI (-kh k)) (iI (kh k - 1)) (iI (kE k)) (iI (kN k)) z.1 40 44 48 49 50 51 z.2.1 z.2.2.1 z.2.2.2.1 z.2.2.2.2.1 (xA k 0) (xA k 1) (xA k 2) (xA k 3) (xA k 4) (xA k 5) (xA k 6) (xH k) (xL (M)) (xU (M)) (xS (M)) R.1 R.2.1 R.2.2.1 R.2.2.2 z.2.2.2.2.2.1 z.2.2.2.2.2.2 := by
  have hA := cg_b ca
  have hB := cg_b cb
  have hsd := cg_s cb
  have hia : vp_in (iI a) 52 := ii_in (by omega) (by omega) (by omega)
  have hib : vp_in (iI b) 52 := ii_in (by omega) (by omega) (by omega)
  have main : ∀ z0 : Int32, z0 = iI (sd_ (M b)) → wX_keepPairs_81 post (iI a) (iI r) (iI b) z0 (iI (kB k)) (iI (kP k)) (iI (kV k)) (iI (kC k)) (iI (-kh k)) (iI (kh k - 1)) (iI (kE k)) (iI (kN k)) z.1 40 44 48 49 50 51 z.2.1 z.2.2.1 z.2.2.2.1 z.2.2.2.2.1 (xA k 0) (xA k 1) (xA k 2) (xA k 3) (xA k 4) (xA k 5) (xA k 6) (xH k) (xL (M)) (xU (M)) (xS (M)) R.1 R.2.1 R.2.2.1 R.2.2.2 z.2.2.2.2.2.1 z.2.2.2.2.2.2 := fun z0 hz => by
    subst hz
    refine And.intro hib (nm_r (xu_g M (by omega)) (And.intro hib (nm_r (xl_g M (by omega)) (Exists.intro 1000 ?_))))
    refine lp_en (σ := mT) cb.1 (fun n x M' => wX_keepPairs_99 post (iI a) (iI r) (iI (sd_ (M b))) (iI (M b).2.1) n (iI x) (iI (kB k)) (iI (kP k)) (iI (kV k)) (iI (kC k)) (iI (-kh k)) (iI (kh k - 1)) (iI (kE k)) (iI (kN k)) z.1 40 44 48 49 50 51 z.2.1 z.2.2.1 z.2.2.2.1 z.2.2.2.2.1 (xA k 0) (xA k 1) (xA k 2) (xA k 3) (xA k 4) (xA k 5) (xA k 6) (xH k) (xL (M')) (xU (M')) (xS (M')) R.1 R.2.1 R.2.2.1 R.2.2.2 z.2.2.2.2.2.1 z.2.2.2.2.2.2) (fun x M' => (∀ j, j ≠ 48 → j ≠ 49 → j ≠ 50 → M' j = M j) ∧ cl_h (M' 48) (fun v => cl_m (M a) v ∧ ∃ y, (cl_m (M b) y ∧ y < x) ∧ rl_h r v y) ∧ cl_h (M' 49) (fun v => (cl_m (M b) v ∧ v < x) ∧ ∃ w, cl_m (M a) w ∧ rl_h r w v) ∧ -100 ≤ x ∧ x ≤ 100) ?_ ?_ 1000 _ M ⟨fun _ _ _ _ => rfl, ?_, ?_, by omega, by omega⟩ (fun _ => cl_lo cb.1) (by omega)
    · intro n x M' hx ⟨hf, hM1, hM2, hx1, hx2⟩
      refine ib_lt (M b).2.1 x (fun _ => h M' hf (cl_hx hM1 fun v => ?_) (cl_hx hM2 fun v => ?_)) (fun e => by omega) rfl rfl (by omega)
      · exact ⟨fun ⟨p, y, q1, q2⟩ => ⟨p, y, q1.1, q2⟩, fun ⟨p, y, q1, q2⟩ => ⟨p, y, ⟨q1, by have := q1.2.1; omega⟩, q2⟩⟩
      · exact ⟨fun ⟨p, q⟩ => ⟨p.1, q⟩, fun ⟨p, q⟩ => ⟨⟨p, by have := p.2.1; omega⟩, q⟩⟩
    · intro n x M' hx ⟨hf, hM1, hM2, hx1, hx2⟩ ih
      have xb := cg_m cb hx
      have eM : M' a = M a := hf a (by omega) (by omega) (by omega)
      refine ib_lt (M b).2.1 x (fun e => by have := hx.2.1; omega) (fun _ => And.intro hia (And.intro hia (And.intro hia (x_restr (lo := (M a).1) (hi := (M a).2.1) (st := (M a).2.2) (r := r) (n := x) ?_ ?_ ?_ rfl rfl ca.1 hr (by omega) (by omega) (fun c1 hc1 => ?_))))) rfl rfl (by omega)
      · rw [xl_g M' (by omega), eM]
      · rw [xu_g M' (by omega), eM]
      · rw [xs_g M' (by omega), eM]
      · have cb1 := cs_h hc1 (fun n hn => by have := cg_m ca hn.1; omega)
        have cb2 := cb1
        unfold cs_ at cb2
        refine x_emp (c := 50) rfl (by omega) (by rw [ms_s]; exact cb1) (fun e => br_t rfl ?_) (fun e => br_f (by decide) (nm_r (ii_add x _) (ih _ ⟨fun j j1 j2 j3 => ?_, ?_, ?_, by omega, by omega⟩)))
        · rw [ms_s] at e
          have hN := cl_hl hc1 e
          refine x_join (c := 48) (lo := c1.1) (hi := c1.2.1) (st := c1.2.2) (S := fun v => cl_m (M a) v ∧ ∃ y, (cl_m (M b) y ∧ y < x) ∧ rl_h r v y) (T := fun v => cl_m (M a) v ∧ rl_h r v x) rfl ?_ ?_ ?_ (by omega) (by rw [ms_n _ _ (by omega)]; exact hM1) (fun v hv => cg_m ca hv.1) (by omega) (jo_0 hc1 (fun v hv => cg_m ca hv.1)) (fun c2 hc2 => ?_)
          · exact congrArg (fun q : cT => iI q.1) (ms_s M' 50 c1)
          · exact congrArg (fun q : cT => iI q.2.1) (ms_s M' 50 c1)
          · exact congrArg (fun q : cT => iI q.2.2) (ms_s M' 50 c1)
          · refine x_join (c := 49) (lo := x) (hi := x) (st := 0) (S := fun v => (cl_m (M b) v ∧ v < x) ∧ ∃ w, cl_m (M a) w ∧ rl_h r w v) (T := fun v => v = x) rfl rfl rfl rfl (by omega) (by rw [ms_n _ _ (by omega), ms_n _ _ (by omega)]; exact hM2) (fun v hv => cg_m cb hv.1.1) (by omega) (jo_1 x (by omega)) (fun c3 hc3 => nm_r (ii_add x _) (ih _ ⟨fun j j1 j2 j3 => ?_, ?_, ?_, by omega, by omega⟩))
            · rw [ms_n _ _ j2, ms_n _ _ j1, ms_n _ _ j3]
              exact hf j j1 j2 j3
            · rw [ms_n _ _ (by omega), ms_s]
              refine cl_hx hc2 fun v => ?_
              constructor
              · rintro (⟨p, y, q1, q2⟩ | ⟨p, q⟩)
                · exact ⟨p, y, (en_1 cb.1 hx y).mpr (Or.inl q1), q2⟩
                · exact ⟨p, x, (en_1 cb.1 hx x).mpr (Or.inr rfl), q⟩
              · rintro ⟨p, y, q1, q2⟩
                rcases (en_1 cb.1 hx y).mp q1 with q3 | q3
                · exact Or.inl ⟨p, y, q3, q2⟩
                · rw [q3] at q2
                  exact Or.inr ⟨p, q2⟩
            · rw [ms_s]
              refine cl_hx hc3 fun v => ?_
              constructor
              · rintro (⟨p, q⟩ | p)
                · exact ⟨(en_1 cb.1 hx v).mpr (Or.inl p), q⟩
                · subst p
                  exact ⟨(en_1 cb.1 hx v).mpr (Or.inr rfl), c1.1, hN.1⟩
              · rintro ⟨p, q⟩
                rcases (en_1 cb.1 hx v).mp p with q3 | q3
                · exact Or.inl ⟨q3, q⟩
                · exact Or.inr q3
        · rw [ms_n _ _ j3]
          exact hf j j1 j2 j3
        · rw [ms_s] at e
          have hE := (cl_h0 hc1 e).2
          rw [ms_n _ _ (by omega)]
          refine cl_hx hM1 fun v => ?_
          constructor
          · rintro ⟨p, y, q1, q2⟩
            exact ⟨p, y, (en_1 cb.1 hx y).mpr (Or.inl q1), q2⟩
          · rintro ⟨p, y, q1, q2⟩
            rcases (en_1 cb.1 hx y).mp q1 with q3 | q3
            · exact ⟨p, y, q3, q2⟩
            · rw [q3] at q2
              exact absurd ⟨p, q2⟩ (hE v)
        · rw [ms_s] at e
          have hE := (cl_h0 hc1 e).2
          rw [ms_n _ _ (by omega)]
          refine cl_hx hM2 fun v => ?_
          constructor
          · rintro ⟨p, q⟩
            exact ⟨(en_1 cb.1 hx v).mpr (Or.inl p), q⟩
          · rintro ⟨p, w, q1, q2⟩
            rcases (en_1 cb.1 hx v).mp p with q3 | q3
            · exact ⟨q3, w, q1, q2⟩
            · rw [q3] at q2
              exact absurd ⟨q1, q2⟩ (hE w)
    · rw [h48]
      exact cl_he fun v ⟨_, m, ⟨m1, m2⟩, _⟩ => by have := m1.1; omega
    · rw [h49]
      exact cl_he fun v ⟨⟨m1, m2⟩, _⟩ => by have := m1.1; omega
  refine And.intro hib (ib_le (M b).2.2 0 (fun e2 => main _ ?_) (fun e2 => And.intro hib (main _ ?_)) (xs_g M (by omega)) rfl (by omega))
  · rw [show sd_ (M b) = 1 from if_neg (by omega)]
    rfl
  · rw [show sd_ (M b) = (M b).2.2 from if_pos e2]
    exact xs_g M (by omega)
theorem x_refl {post : Int32 → Prop} {r : Int} {x0 : Int32} (h0 : x0 = iI r) (hr : 0 ≤ r ∧ r ≤ 6) (h1 : (∀ n, rl_h r n n) → post 1) (h2 : (∀ n, ¬ rl_h r n n) → post 0) : wpX_isReflexive post (XC k z R M) x0 := by
  subst h0
  refine ib_eq r 0 (fun e => h1 (fun n => by subst e; exact rl_0.mpr rfl)) (fun e0 => ib_eq r 3 (fun e => h1 (fun n => by subst e; exact rl_3.mpr (Int.le_refl _))) (fun e3 => ib_eq r 5 (fun e => h1 (fun n => by subst e; exact rl_5.mpr (Int.le_refl _))) (fun e5 => ib_eq r 6 (fun e => h1 (fun n => by subst e; exact rl_6.mpr (Int.dvd_refl _))) (fun e6 => h2 (fun n => ?_)) rfl rfl (by omega)) rfl rfl (by omega)) rfl rfl (by omega)) rfl rfl (by omega)
  rcases (by omega : r = 1 ∨ r = 2 ∨ r = 4) with e | e | e <;> subst e
  · rw [rl_1]
    exact fun q => q rfl
  · rw [rl_2]
    omega
  · rw [rl_4]
    omega
theorem x_kp {post : SX → Prop} {a b r : Int} {x0 x1 x2 : Int32} (h0 : x0 = iI a) (h1 : x1 = iI r) (h2 : x2 = iI b) (ha : 0 ≤ a ∧ a < 52 ∧ a ≠ 48 ∧ a ≠ 49 ∧ a ≠ 50) (hb : 0 ≤ b ∧ b < 52 ∧ b ≠ 48 ∧ b ≠ 49 ∧ b ≠ 50) (ca : cg_ (M a)) (cb : cg_ (M b)) (hr : 0 ≤ r ∧ r ≤ 6) (h : ∀ M' : mT, (∀ j, j ≠ 48 → j ≠ 49 → j ≠ 50 → M' j = M j) → cl_h (M' 48) (fun v => cl_m (M a) v ∧ ∃ y, cl_m (M b) y ∧ (a = b → v = y) ∧ rl_h r v y) → cl_h (M' 49) (fun v => cl_m (M b) v ∧ ∃ x, cl_m (M a) x ∧ (a = b → x = v) ∧ rl_h r x v) → post (XC k z R M')) : wpX_keepPairs post (XC k z R M) x0 x1 x2 := by
  subst h0 h1 h2
  have e48 : (ms (ms M 48 (1, 0, 0)) 49 (1, 0, 0)) 48 = (1, 0, 0) := by rw [ms_n _ _ (by omega), ms_s]
  have e49 : (ms (ms M 48 (1, 0, 0)) 49 (1, 0, 0)) 49 = (1, 0, 0) := ms_s _ _ _
  have eA : (ms (ms M 48 (1, 0, 0)) 49 (1, 0, 0)) a = M a := by rw [ms_n _ _ (by omega), ms_n _ _ (by omega)]
  have eB : (ms (ms M 48 (1, 0, 0)) 49 (1, 0, 0)) b = M b := by rw [ms_n _ _ (by omega), ms_n _ _ (by omega)]
  have fr : ∀ M' : mT, (∀ j, j ≠ 48 → j ≠ 49 → j ≠ 50 → M' j = (ms (ms M 48 (1, 0, 0)) 49 (1, 0, 0)) j) → ∀ j, j ≠ 48 → j ≠ 49 → j ≠ 50 → M' j = M j := fun M' hf j j1 j2 j3 => (hf j j1 j2 j3).trans (by rw [ms_n _ _ j2, ms_n _ _ j1])
  have ne : a ≠ b → ∀ M' : mT, (∀ j, j ≠ 48 → j ≠ 49 → j ≠ 50 → M' j = (ms (ms M 48 (1, 0, 0)) 49 (1, 0, 0)) j) → cl_h (M' 48) (fun v => cl_m ((ms (ms M 48 (1, 0, 0)) 49 (1, 0, 0)) a) v ∧ ∃ y, cl_m ((ms (ms M 48 (1, 0, 0)) 49 (1, 0, 0)) b) y ∧ rl_h r v y) → cl_h (M' 49) (fun v => cl_m ((ms (ms M 48 (1, 0, 0)) 49 (1, 0, 0)) b) v ∧ ∃ x, cl_m ((ms (ms M 48 (1, 0, 0)) 49 (1, 0, 0)) a) x ∧ rl_h r x v) → post (XC k z R M') := fun e M' hf p1 p2 => by
    rw [eA, eB] at p1 p2
    exact h M' (fr M' hf) (cl_hx p1 fun v => ⟨fun ⟨p, y, q1, q2⟩ => ⟨p, y, q1, fun x => absurd x e, q2⟩, fun ⟨p, y, q1, _, q2⟩ => ⟨p, y, q1, q2⟩⟩) (cl_hx p2 fun v => ⟨fun ⟨p, y, q1, q2⟩ => ⟨p, y, q1, fun x => absurd x e, q2⟩, fun ⟨p, y, q1, _, q2⟩ => ⟨p, y, q1, q2⟩⟩)
  unfold wpX_keepPairs
  dsimp only [XC, XD]
  refine x_clear (c := 48) rfl (by omega) (x_clear (c := 49) rfl (by omega) (ib_eq a b (fun e => ?_) (fun e => ib_lt r 2 (fun e2 => ?_) (fun e2 => ib_lt 5 r (fun e3 => ?_) (fun e3 => ?_) rfl rfl (by omega)) rfl rfl (by omega)) rfl rfl (by omega)))
  · subst e
    refine x_refl rfl hr (fun hR => br_f (by decide) ?_) (fun hR => br_t rfl ?_)
    · refine x_copy (c := 48) (d := a) rfl rfl (by omega) (by omega) (x_copy (c := 49) (d := a) rfl rfl (by omega) (by omega) (h _ (fun j j1 j2 j3 => ?_) ?_ ?_))
      · rw [ms_n _ _ j2, ms_n _ _ j1, ms_n _ _ j2, ms_n _ _ j1]
      · rw [ms_n _ _ (by omega), ms_s, eA]
        exact cl_Nh (cl_Nx (cl_hm ca.1) fun v => ⟨fun p => ⟨p, v, p, fun _ => rfl, hR v⟩, fun p => p.1⟩)
      · rw [ms_s, ms_n _ _ (by omega), eA]
        exact cl_Nh (cl_Nx (cl_hm ca.1) fun v => ⟨fun p => ⟨p, v, p, fun _ => rfl, hR v⟩, fun p => p.1⟩)
    · refine h _ (fun j j1 j2 j3 => ?_) ?_ ?_
      · rw [ms_n _ _ j2, ms_n _ _ j1]
      · rw [e48]
        exact cl_he fun v ⟨_, y, _, q1, q2⟩ => hR v (by rw [← q1 rfl] at q2; exact q2)
      · rw [e49]
        exact cl_he fun v ⟨_, y, _, q1, q2⟩ => hR v (by rw [q1 rfl] at q2; exact q2)
  · exact x_kp62 ha hb (by rw [eA]; exact ca) (by rw [eB]; exact cb) hr e48 e49 (ne e)
  · exact x_kp62 ha hb (by rw [eA]; exact ca) (by rw [eB]; exact cb) hr e48 e49 (ne e)
  · exact x_ko rfl rfl rfl ha hb (by rw [eA]; exact ca) (by rw [eB]; exact cb) (by omega) (ne e)
end
end
section
/-! ===== X: holds, keepSums ===== -/
theorem cl_cm {c c1 : cT} {fr to : Int} (h : cl_N c1 (fun m => cl_m c m ∧ fr ≤ m ∧ m ≤ to)) (m : Int) : cl_m c1 m ↔ (cl_m c m ∧ fr ≤ m ∧ m ≤ to) := by
  constructor
  · rintro ⟨a1, a2, a3⟩
    have h1 := h.1
    have h2 := h.2.1
    have d1 : c.2.2 ∣ c1.2.2 := (h.2.2.2.2 _).mpr fun n hn => dv_s hn.1.2.2 h1.1.2.2
    have l1 := h1.1.1
    have u1 := h2.1.2.1
    exact ⟨⟨by omega, by omega, dv_t (Int.dvd_trans d1 a3) h1.1.2.2⟩, by omega, by omega⟩
  · intro hm
    exact cl_hs (cl_Nh h) hm
section
variable {k : kT} {z : zT} {R : rT} {M : mT}
theorem x_holds {post : Int32 → Prop} {a r b : Int} {x0 x1 x2 : Int32} (h0 : x0 = iI a) (h1 : x1 = iI r) (h2 : x2 = iI b) (ha : -1000 ≤ a ∧ a ≤ 1000) (hr : 0 ≤ r ∧ r ≤ 6) (hb : -1000 ≤ b ∧ b ≤ 1000) (ht : rl_h r a b → post 1) (hf : ¬ rl_h r a b → post 0) : wpX_holds post (XC k z R M) x0 x1 x2 := by
  subst h0 h1 h2
  refine ib_lt r 0 (fun e => by omega) (fun _ => ib_lt 5 r (fun e => ?_) (fun _ => ib_eq r 0 (fun e => ?_) (fun _ => ib_eq r 1 (fun e => ?_) (fun _ => ib_eq r 2 (fun e => ?_) (fun _ => ib_eq r 3 (fun e => ?_) (fun _ => ib_eq r 4 (fun e => ?_) (fun _ => ib_eq r 5 (fun e => ?_) (fun _ => trivial))))))))
  · obtain rfl : r = 6 := by omega
    rw [rl_6] at ht hf
    refine ib_eq b 0 (fun e2 => ib_eq a 0 (fun e3 => ht ?_) (fun e3 => hf ?_)) (fun e2 => And.intro (ib_ne b e2) (ib_dv a b ht hf))
    · rw [e2, e3]
      exact Int.dvd_refl 0
    · rw [e2, Int.zero_dvd]
      exact e3
  · subst e
    rw [rl_0] at ht hf
    exact ib_eq a b ht hf
  · subst e
    rw [rl_1] at ht hf
    exact ib_eq a b (fun e => hf (fun x => x e)) ht
  · subst e
    rw [rl_2] at ht hf
    exact ib_le b a (fun e => hf (by omega)) ht
  · subst e
    rw [rl_3] at ht hf
    exact ib_lt b a (fun e => hf (by omega)) ht
  · subst e
    rw [rl_4] at ht hf
    exact ib_le a b (fun e => hf (by omega)) ht
  · subst e
    rw [rl_5] at ht hf
    exact ib_lt a b (fun e => hf (by omega)) ht
theorem x_ksw51 {post : Int32 → SX → Prop} (ok : k_ok k) {a n r w : Int} (ha : 0 ≤ a ∧ a < 52 ∧ a ≠ 48 ∧ a ≠ 50) (ca : cg_ (M a)) (hn : -16 ≤ n ∧ n ≤ 16) (hr : 0 ≤ r ∧ r ≤ 6) (hw : -16 ≤ w ∧ w ≤ 16) {S : Int → Prop} (rS : ∀ n, S n → -16 ≤ n ∧ n ≤ 16) (h : ∀ (M' : mT) (b : Bool), (∀ j, j ≠ 48 → j ≠ 50 → M' j = M j) → cl_h (M' 48) (fun v => S v ∨ (cl_m (M a) v ∧ rl_h r (wr (kh k) (v + n)) w)) → (b = true ↔ ∃ v, cl_m (M a) v ∧ rl_h r (wr (kh k) (v + n)) w) → post (bI b) (XC k z R M')) : ∀ (f : Nat) (t : Int) (b : Bool) (M' : mT), (∀ j, j ≠ 48 → j ≠ 50 → M' j = M j) → cl_h (M' 48) (fun v => S v ∨ ((cl_m (M a) v ∧ rl_h r (wr (kh k) (v + n)) w) ∧ (v + n + kh k) / (2 * kh k) < t)) → (b = true ↔ ∃ v, (cl_m (M a) v ∧ rl_h r (wr (kh k) (v + n)) w) ∧ (v + n + kh k) / (2 * kh k) < t) → ((M a).1 + n + kh k) / (2 * kh k) ≤ t → t ≤ ((M a).2.1 + n + kh k) / (2 * kh k) + 1 → (((M a).2.1 + n + kh k) / (2 * kh k) + 1 - t).toNat < f → wX_keepSumsWith_51 post (iI a) (iI n) (iI r) (iI w) (iI ((M a).1 + n)) (iI ((M a).2.1 + n)) (iI (((M a).2.1 + n + kh k) / (2 * kh k))) f (bI b) (iI t) (iI (kB k)) (iI (kP k)) (iI (kV k)) (iI (kC k)) (iI (-kh k)) (iI (kh k - 1)) (iI (kE k)) (iI (kN k)) z.1 40 44 48 49 50 51 z.2.1 z.2.2.1 z.2.2.2.1 z.2.2.2.2.1 (xA k 0) (xA k 1) (xA k 2) (xA k 3) (xA k 4) (xA k 5) (xA k 6) (xH k) (xL (M')) (xU (M')) (xS (M')) R.1 R.2.1 R.2.2.1 R.2.2.2 z.2.2.2.2.2.1 z.2.2.2.2.2.2
  | 0, _, _, _, _, _, _, _, _, hf => by omega
  | f + 1, t, b, M', hf, hM, hb, t0, t1, hfu => by
    have hh := k_h ok
    have hA := cg_b ca
    have hia : vp_in (iI a) 52 := ii_in (by omega) (by omega) (by omega)
    have eM : M' a = M a := hf a ha.2.2.1 ha.2.2.2
    obtain ⟨q1, q2⟩ := im_a (lo := (M a).1) (hi := (M a).2.1) (st := (M a).2.2) ca.1 n
    have q2' : ∀ v, cl_m ((M a).1 + n, (M a).2.1 + n, (M a).2.2) (v + n) ↔ cl_m (M a) v := fun v => by
      rw [q2]
      constructor
      · rintro ⟨x, hx, e⟩
        rw [show v = x by omega]
        exact hx
      · intro hv
        exact ⟨v, hv, rfl⟩
    have tb : -100 ≤ ((M a).1 + n + kh k) / (2 * kh k) ∧ ((M a).2.1 + n + kh k) / (2 * kh k) ≤ 100 := by
      rcases hh with e | e | e <;> rw [e] <;> omega
    refine ib_lt (((M a).2.1 + n + kh k) / (2 * kh k)) t (fun e => And.intro (ib_nar b) (h M' b hf (cl_hx hM fun v => ?_) ?_)) (fun e => nm_r (e' := iI (t * (2 * kh k))) (ws_l ok.1 (by omega)) (And.intro hia ?_)) rfl rfl (by omega)
    · have hl : cl_m (M a) v → (v + n + kh k) / (2 * kh k) < t := fun hv => by
        have := tn_m (m := v + n) (n := (M a).2.1 + n) hh (by have := hv.2.1; omega)
        omega
      constructor
      · rintro (hv | hv)
        · exact Or.inl hv
        · exact Or.inr hv.1
      · rintro (hv | hv)
        · exact Or.inl hv
        · exact Or.inr ⟨hv, hl hv.1⟩
    · rw [hb]
      constructor
      · rintro ⟨v, hv, _⟩
        exact ⟨v, hv⟩
      · rintro ⟨v, hv⟩
        have := tn_m (m := v + n) (n := (M a).2.1 + n) hh (by have := hv.1.2.1; omega)
        exact ⟨v, hv, by omega⟩
    · have sb := tw_b hh (show -400 ≤ (M a).1 + n by omega) (show (M a).1 + n ≤ (M a).2.1 + n by omega) (by omega) t0 e
      have win : ∀ v, ((-kh k + t * (2 * kh k) ≤ v + n ∧ v + n ≤ kh k - 1 + t * (2 * kh k)) ↔ (v + n + kh k) / (2 * kh k) = t) := fun v => tn_w hh
      -- nothing new in this turn
      have stay : (∀ v, ¬ ((cl_m (M a) v ∧ rl_h r (wr (kh k) (v + n)) w) ∧ (v + n + kh k) / (2 * kh k) = t)) → ∀ M'' : mT, (∀ j, j ≠ 48 → j ≠ 50 → M'' j = M' j) → M'' 48 = M' 48 → wX_keepSumsWith_51 post (iI a) (iI n) (iI r) (iI w) (iI ((M a).1 + n)) (iI ((M a).2.1 + n)) (iI (((M a).2.1 + n + kh k) / (2 * kh k))) f (bI b) (iI (t + 1)) (iI (kB k)) (iI (kP k)) (iI (kV k)) (iI (kC k)) (iI (-kh k)) (iI (kh k - 1)) (iI (kE k)) (iI (kN k)) z.1 40 44 48 49 50 51 z.2.1 z.2.2.1 z.2.2.2.1 z.2.2.2.2.1 (xA k 0) (xA k 1) (xA k 2) (xA k 3) (xA k 4) (xA k 5) (xA k 6) (xH k) (xL (M'')) (xU (M'')) (xS (M'')) R.1 R.2.1 R.2.2.1 R.2.2.2 z.2.2.2.2.2.1 z.2.2.2.2.2.2 := fun hno M'' hf2 e48 => by
        have hlt : ∀ v, ((cl_m (M a) v ∧ rl_h r (wr (kh k) (v + n)) w) ∧ (v + n + kh k) / (2 * kh k) < t) ↔ ((cl_m (M a) v ∧ rl_h r (wr (kh k) (v + n)) w) ∧ (v + n + kh k) / (2 * kh k) < t + 1) := fun v => by
          constructor
          · rintro ⟨p, q⟩
            exact ⟨p, by omega⟩
          · rintro ⟨p, q⟩
            by_cases e2 : (v + n + kh k) / (2 * kh k) = t
            · exact absurd ⟨p, e2⟩ (hno v)
            · exact ⟨p, by omega⟩
        refine x_ksw51 ok ha ca hn hr hw rS h f (t + 1) b M'' (fun j j1 j2 => (hf2 j j1 j2).trans (hf j j1 j2)) ?_ ?_ (by omega) (by omega) (by omega)
        · rw [e48]
          exact cl_hx hM fun v => by rw [hlt]
        · rw [hb]
          exact ⟨fun ⟨v, hv⟩ => ⟨v, (hlt v).mp hv⟩, fun ⟨v, hv⟩ => ⟨v, (hlt v).mpr hv⟩⟩
      refine x_clip (lo := (M a).1 + n) (hi := (M a).2.1 + n) (st := (M a).2.2) (fr := -kh k + t * (2 * kh k)) (to := kh k - 1 + t * (2 * kh k)) rfl rfl ?_ (ii_add _ _) (ii_add _ _) q1 (by omega) (fun c1 hc1 => ?_)
      · rw [xs_g M' (by omega), eM]
      have cb1 := cs_h hc1 (fun n hn => by
        have h1 := hn.1.1
        have h2 := hn.1.2.1
        dsimp only at h1 h2
        omega)
      have cb2 := cb1
      unfold cs_ at cb2
      refine x_emp (c := 50) rfl (by omega) (by rw [ms_s]; exact cb1) (fun e1 => br_t rfl ?_) (fun e1 => br_f (by decide) (nm_r (ii_add t 1) ?_))
      · rw [ms_s] at e1
        have hN1 := cl_hl hc1 e1
        have hcm := cl_cm hN1
        have hN2 := cl_sh (cl_hm (cl_Np hN1)) (t * (2 * kh k))
        have r1 := hN1.1.2
        have r2 := hN1.2.1.2
        refine x_restr (lo := c1.1 - t * (2 * kh k)) (hi := c1.2.1 - t * (2 * kh k)) (st := c1.2.2) (r := r) (n := w) ?_ ?_ ?_ rfl rfl (cl_Np hN2) hr (by omega) (by omega) (fun c2 hc2 => ?_)
        · show xL (ms M' 50 c1) 50 - _ = _
          rw [show xL (ms M' 50 c1) 50 = iI c1.1 from congrArg (fun q : cT => iI q.1) (ms_s M' 50 c1), ii_sub]
        · show xU (ms M' 50 c1) 50 - _ = _
          rw [show xU (ms M' 50 c1) 50 = iI c1.2.1 from congrArg (fun q : cT => iI q.2.1) (ms_s M' 50 c1), ii_sub]
        · exact congrArg (fun q : cT => iI q.2.2) (ms_s M' 50 c1)
        -- what is left, in terms of v
        have shm : ∀ u, cl_m (c1.1 - t * (2 * kh k), c1.2.1 - t * (2 * kh k), c1.2.2) u ↔ (cl_m ((M a).1 + n, (M a).2.1 + n, (M a).2.2) (u + t * (2 * kh k)) ∧ -kh k + t * (2 * kh k) ≤ u + t * (2 * kh k) ∧ u + t * (2 * kh k) ≤ kh k - 1 + t * (2 * kh k)) := fun u => by
          rw [← hcm]
          unfold cl_m
          dsimp only
          rw [show u - (c1.1 - t * (2 * kh k)) = u + t * (2 * kh k) - c1.1 by omega]
          exact ⟨fun ⟨a1, a2, a3⟩ => ⟨by omega, by omega, a3⟩, fun ⟨a1, a2, a3⟩ => ⟨by omega, by omega, a3⟩⟩
        have eT : ∀ v, (cl_m (c1.1 - t * (2 * kh k), c1.2.1 - t * (2 * kh k), c1.2.2) (v + (n - t * (2 * kh k))) ∧ rl_h r (v + (n - t * (2 * kh k))) w) ↔ ((cl_m (M a) v ∧ rl_h r (wr (kh k) (v + n)) w) ∧ (v + n + kh k) / (2 * kh k) = t) := fun v => by
          rw [shm, show v + (n - t * (2 * kh k)) + t * (2 * kh k) = v + n by omega, q2', win]
          constructor
          · rintro ⟨⟨p1, p2⟩, p3⟩
            refine ⟨⟨p1, ?_⟩, p2⟩
            rw [← tn_r hh, p2, show v + n - t * (2 * kh k) = v + (n - t * (2 * kh k)) by omega]
            exact p3
          · rintro ⟨⟨p1, p3⟩, p2⟩
            refine ⟨⟨p1, p2⟩, ?_⟩
            rw [← tn_r hh, p2, show v + n - t * (2 * kh k) = v + (n - t * (2 * kh k)) by omega] at p3
            exact p3
        have cb3 := cs_h hc2 (fun n hn => by
          have h1 := hn.1.1
          have h2 := hn.1.2.1
          dsimp only at h1 h2
          omega)
        have cb4 := cb3
        unfold cs_ at cb4
        refine x_emp (c := 50) rfl (by omega) (by rw [ms_s]; exact cb3) (fun e2 => br_t rfl ?_) (fun e2 => br_f (by decide) (nm_r (ii_add t 1) ?_))
        · rw [ms_s] at e2
          have hN3 := cl_hl hc2 e2
          have w1 := hN3.1.1.1
          have w2 := hN3.1.1.2.1
          have w3 := hN3.2.1.1.1
          have w4 := hN3.2.1.1.2.1
          dsimp only at w1 w2 w3 w4
          refine x_join (c := 48) (lo := c2.1 - (n - t * (2 * kh k))) (hi := c2.2.1 - (n - t * (2 * kh k))) (st := c2.2.2) (S := fun v => S v ∨ ((cl_m (M a) v ∧ rl_h r (wr (kh k) (v + n)) w) ∧ (v + n + kh k) / (2 * kh k) < t)) (T := fun v => (cl_m (M a) v ∧ rl_h r (wr (kh k) (v + n)) w) ∧ (v + n + kh k) / (2 * kh k) = t) rfl ?_ ?_ ?_ (by omega) (by rw [ms_n _ _ (by omega), ms_n _ _ (by omega)]; exact hM) ?_ (by omega) (jo_T _ hc2 eT (fun v hv => cg_m ca hv.1.1)) (fun c3 hc3 => nm_r (ii_add t 1) ?_)
          · show xL (ms (ms M' 50 c1) 50 c2) 50 + _ - _ = _
            rw [show xL (ms (ms M' 50 c1) 50 c2) 50 = iI c2.1 from congrArg (fun q : cT => iI q.1) (ms_s _ 50 c2), ii_add, ii_sub]
            exact congrArg iI (by omega)
          · show xU (ms (ms M' 50 c1) 50 c2) 50 + _ - _ = _
            rw [show xU (ms (ms M' 50 c1) 50 c2) 50 = iI c2.2.1 from congrArg (fun q : cT => iI q.2.1) (ms_s _ 50 c2), ii_add, ii_sub]
            exact congrArg iI (by omega)
          · exact congrArg (fun q : cT => iI q.2.2) (ms_s _ 50 c2)
          · rintro v (hv | hv)
            · exact rS v hv
            · exact cg_m ca hv.1.1
          · refine x_ksw51 ok ha ca hn hr hw rS h f (t + 1) true _ (fun j j1 j2 => ?_) ?_ ⟨fun _ => ?_, fun _ => rfl⟩ (by omega) (by omega) (by omega)
            · rw [ms_n _ _ j1, ms_n _ _ j2, ms_n _ _ j2]
              exact hf j j1 j2
            · rw [ms_s]
              refine cl_hx hc3 fun v => ?_
              constructor
              · rintro ((hv | hv) | hv)
                · exact Or.inl hv
                · exact Or.inr ⟨hv.1, by omega⟩
                · exact Or.inr ⟨hv.1, by omega⟩
              · rintro (hv | hv)
                · exact Or.inl (Or.inl hv)
                · by_cases e3 : (v + n + kh k) / (2 * kh k) = t
                  · exact Or.inr ⟨hv.1, e3⟩
                  · exact Or.inl (Or.inr ⟨hv.1, by omega⟩)
            · have h3 := (eT (c2.1 - (n - t * (2 * kh k)))).mp (by rw [show c2.1 - (n - t * (2 * kh k)) + (n - t * (2 * kh k)) = c2.1 by omega]; exact hN3.1)
              exact ⟨_, h3.1, by omega⟩
        · rw [ms_s] at e2
          have hE := (cl_h0 hc2 e2).2
          refine stay (fun v hv => hE _ ((eT v).mpr hv)) _ (fun j j1 j2 => ?_) ?_
          · rw [ms_n _ _ j2, ms_n _ _ j2]
          · rw [ms_n _ _ (by omega), ms_n _ _ (by omega)]
      · rw [ms_s] at e1
        have hE := (cl_h0 hc1 e1).2
        refine stay (fun v hv => hE (v + n) ⟨(q2' v).mpr hv.1.1, (win v).mpr hv.2⟩) _ (fun j j1 j2 => ?_) ?_
        · rw [ms_n _ _ j2]
        · rw [ms_n _ _ (by omega)]
theorem x_ksw {post : Int32 → SX → Prop} (ok : k_ok k) {a n r w : Int} {x0 x1 x2 x3 : Int32} (h0 : x0 = iI a) (h1 : x1 = iI n) (h2 : x2 = iI r) (h3 : x3 = iI w) (ha : 0 ≤ a ∧ a < 52 ∧ a ≠ 48 ∧ a ≠ 50) (ca : cg_ (M a)) (hn : -16 ≤ n ∧ n ≤ 16) (hr : 0 ≤ r ∧ r ≤ 6) (hw : -16 ≤ w ∧ w ≤ 16) {S : Int → Prop} (hS : cl_h (M 48) S) (rS : ∀ n, S n → -16 ≤ n ∧ n ≤ 16) (h : ∀ (M' : mT) (b : Bool), (∀ j, j ≠ 48 → j ≠ 50 → M' j = M j) → cl_h (M' 48) (fun v => S v ∨ (cl_m (M a) v ∧ rl_h r (wr (kh k) (v + n)) w)) → (b = true ↔ ∃ v, cl_m (M a) v ∧ rl_h r (wr (kh k) (v + n)) w) → post (bI b) (XC k z R M')) : wpX_keepSumsWith post (XC k z R M) x0 x1 x2 x3 := by
  subst h0 h1 h2 h3
  have hh := k_h ok
  have hA := cg_b ca
  have hia : vp_in (iI a) 52 := ii_in (by omega) (by omega) (by omega)
  have s1 : ∀ x : Int, -600 ≤ x ∧ x ≤ 600 → (iI x - iI (-kh k)) >>> (iI (kB k) &&& 31) = iI ((x + kh k) / (2 * kh k)) := fun x hx => by
    rw [ii_sub, ws_r ok.1 (by rcases hh with e | e | e <;> rw [e] <;> omega), show x - -kh k = x + kh k by omega]
    rfl
  have hlow : ∀ v, cl_m (M a) v → ((M a).1 + n + kh k) / (2 * kh k) ≤ (v + n + kh k) / (2 * kh k) := fun v hv => tn_m hh (by have := hv.1; omega)
  refine And.intro hia (nm_r (e' := iI ((M a).1 + n)) (by rw [xl_g M (by omega), ii_add]) (And.intro hia (nm_r (e' := iI ((M a).2.1 + n)) (by rw [xu_g M (by omega), ii_add]) (nm_r (s1 _ (by omega)) (nm_r (s1 _ (by omega)) (Exists.intro 1000 (x_ksw51 ok ha ca hn hr hw rS h 1000 _ false M (fun _ _ _ => rfl) (cl_hx hS fun v => ?_) ⟨fun e => absurd e (by decide), fun ⟨v, hv, e⟩ => ?_⟩ (Int.le_refl _) ?_ ?_)))))))
  · constructor
    · exact Or.inl
    · rintro (hv | ⟨hv, e⟩)
      · exact hv
      · have := hlow v hv.1
        omega
  · have := hlow v hv.1
    omega
  · have := tn_m (m := (M a).1 + n) (n := (M a).2.1 + n) hh (by omega)
    omega
  · rcases hh with e | e | e <;> rw [e] <;> omega
end
end
section
/-! ===== X: keepSums, clearRow, narrow; what flows, slot by slot ===== -/
section
variable {k : kT} {z : zT} {R : rT} {M : mT}
theorem x_ks {post : SX → Prop} (ok : k_ok k) {a b r w : Int} {x0 x1 x2 x3 : Int32} (h0 : x0 = iI a) (h1 : x1 = iI b) (h2 : x2 = iI r) (h3 : x3 = iI w) (ha : 0 ≤ a ∧ a < 52 ∧ a ≠ 48 ∧ a ≠ 49 ∧ a ≠ 50) (hb : 0 ≤ b ∧ b < 52 ∧ b ≠ 48 ∧ b ≠ 49 ∧ b ≠ 50) (ca : cg_ (M a)) (cb : cg_ (M b)) (hr : 0 ≤ r ∧ r ≤ 6) (hw : -16 ≤ w ∧ w ≤ 16) (h : ∀ M' : mT, (∀ j, j ≠ 48 → j ≠ 49 → j ≠ 50 → M' j = M j) → cl_h (M' 48) (fun v => cl_m (M a) v ∧ ∃ y, cl_m (M b) y ∧ (a = b → v = y) ∧ rl_h r (wr (kh k) (v + y)) w) → cl_h (M' 49) (fun v => cl_m (M b) v ∧ ∃ x, cl_m (M a) x ∧ (a = b → x = v) ∧ rl_h r (wr (kh k) (x + v)) w) → post (XC k z R M')) : wpX_keepSums post (XC k z R M) x0 x1 x2 x3 := by
  subst h0 h1 h2 h3
  have hh := k_h ok
  have hA := cg_b ca
  have hB := cg_b cb
  have hsd := cg_s cb
  have hib : vp_in (iI b) 52 := ii_in (by omega) (by omega) (by omega)
  have e48 : (ms (ms M 48 (1, 0, 0)) 49 (1, 0, 0)) 48 = (1, 0, 0) := by rw [ms_n _ _ (by omega), ms_s]
  have e49 : (ms (ms M 48 (1, 0, 0)) 49 (1, 0, 0)) 49 = (1, 0, 0) := ms_s _ _ _
  have eB : (ms (ms M 48 (1, 0, 0)) 49 (1, 0, 0)) b = M b := by rw [ms_n _ _ (by omega), ms_n _ _ (by omega)]
  have eS : xS (ms (ms M 48 (1, 0, 0)) 49 (1, 0, 0)) (iI b).toNatClampNeg = iI (M b).2.2 := by rw [xs_g _ (by omega), eB]
  unfold wpX_keepSums
  dsimp only [XC, XD]
  have main : ∀ z0 : Int32, z0 = iI (sd_ (M b)) → wX_keepSums_31 post (iI a) (iI b) (iI r) (iI w) z0 (iI (kB k)) (iI (kP k)) (iI (kV k)) (iI (kC k)) (iI (-kh k)) (iI (kh k - 1)) (iI (kE k)) (iI (kN k)) z.1 40 44 48 49 50 51 z.2.1 z.2.2.1 z.2.2.2.1 z.2.2.2.2.1 (xA k 0) (xA k 1) (xA k 2) (xA k 3) (xA k 4) (xA k 5) (xA k 6) (xH k) (xL (ms (ms M 48 (1, 0, 0)) 49 (1, 0, 0))) (xU (ms (ms M 48 (1, 0, 0)) 49 (1, 0, 0))) (xS (ms (ms M 48 (1, 0, 0)) 49 (1, 0, 0))) R.1 R.2.1 R.2.2.1 R.2.2.2 z.2.2.2.2.2.1 z.2.2.2.2.2.2 := fun z0 hz => by
    subst hz
    refine And.intro hib (nm_r (e' := iI (M b).2.1) (by rw [xu_g _ (by omega), eB]) (And.intro hib (nm_r (e' := iI (M b).1) (by rw [xl_g _ (by omega), eB]) (Exists.intro 1000 ?_))))
    refine lp_en (σ := mT) cb.1 (fun n x M' => wX_keepSums_49 post (iI a) (iI b) (iI r) (iI w) (iI (sd_ (M b))) (iI (M b).2.1) n (iI x) (iI (kB k)) (iI (kP k)) (iI (kV k)) (iI (kC k)) (iI (-kh k)) (iI (kh k - 1)) (iI (kE k)) (iI (kN k)) z.1 40 44 48 49 50 51 z.2.1 z.2.2.1 z.2.2.2.1 z.2.2.2.2.1 (xA k 0) (xA k 1) (xA k 2) (xA k 3) (xA k 4) (xA k 5) (xA k 6) (xH k) (xL (M')) (xU (M')) (xS (M')) R.1 R.2.1 R.2.2.1 R.2.2.2 z.2.2.2.2.2.1 z.2.2.2.2.2.2) (fun x M' => (∀ j, j ≠ 48 → j ≠ 49 → j ≠ 50 → M' j = M j) ∧ cl_h (M' 48) (fun v => cl_m (M a) v ∧ ∃ y, (cl_m (M b) y ∧ y < x) ∧ (a = b → v = y) ∧ rl_h r (wr (kh k) (v + y)) w) ∧ cl_h (M' 49) (fun v => (cl_m (M b) v ∧ v < x) ∧ ∃ u, cl_m (M a) u ∧ (a = b → u = v) ∧ rl_h r (wr (kh k) (u + v)) w) ∧ -100 ≤ x ∧ x ≤ 100) ?_ ?_ 1000 _ _ ⟨fun j j1 j2 j3 => by rw [ms_n _ _ j2, ms_n _ _ j1], ?_, ?_, by omega, by omega⟩ (fun _ => cl_lo cb.1) (by omega)
    · intro n x M' hx ⟨hf, hM1, hM2, hx1, hx2⟩
      refine ib_lt (M b).2.1 x (fun _ => h M' hf (cl_hx hM1 fun v => ?_) (cl_hx hM2 fun v => ?_)) (fun e => by omega) rfl rfl (by omega)
      · exact ⟨fun ⟨p, y, q1, q2⟩ => ⟨p, y, q1.1, q2⟩, fun ⟨p, y, q1, q2⟩ => ⟨p, y, ⟨q1, by have := q1.2.1; omega⟩, q2⟩⟩
      · exact ⟨fun ⟨p, q⟩ => ⟨p.1, q⟩, fun ⟨p, q⟩ => ⟨⟨p, by have := p.2.1; omega⟩, q⟩⟩
    · intro n x M' hx ⟨hf, hM1, hM2, hx1, hx2⟩ ih
      have xb := cg_m cb hx
      have eM : M' a = M a := hf a (by omega) (by omega) (by omega)
      have stay : (∀ u, cl_m (M a) u → (a = b → u = x) → ¬ rl_h r (wr (kh k) (u + x)) w) → ∀ M'' : mT, (∀ j, j ≠ 48 → j ≠ 49 → j ≠ 50 → M'' j = M' j) → cl_h (M'' 48) (fun v => cl_m (M a) v ∧ ∃ y, (cl_m (M b) y ∧ y < x) ∧ (a = b → v = y) ∧ rl_h r (wr (kh k) (v + y)) w) → M'' 49 = M' 49 → wX_keepSums_49 post (iI a) (iI b) (iI r) (iI w) (iI (sd_ (M b))) (iI (M b).2.1) n (iI (x + sd_ (M b))) (iI (kB k)) (iI (kP k)) (iI (kV k)) (iI (kC k)) (iI (-kh k)) (iI (kh k - 1)) (iI (kE k)) (iI (kN k)) z.1 40 44 48 49 50 51 z.2.1 z.2.2.1 z.2.2.2.1 z.2.2.2.2.1 (xA k 0) (xA k 1) (xA k 2) (xA k 3) (xA k 4) (xA k 5) (xA k 6) (xH k) (xL (M'')) (xU (M'')) (xS (M'')) R.1 R.2.1 R.2.2.1 R.2.2.2 z.2.2.2.2.2.1 z.2.2.2.2.2.2 := fun hno M'' hf2 h48 h49 => by
        refine ih M'' ⟨fun j j1 j2 j3 => (hf2 j j1 j2 j3).trans (hf j j1 j2 j3), cl_hx h48 fun v => ?_, ?_, by omega, by omega⟩
        · constructor
          · rintro ⟨p, y, q1, q2⟩
            exact ⟨p, y, (en_1 cb.1 hx y).mpr (Or.inl q1), q2⟩
          · rintro ⟨p, y, q1, q2, q3⟩
            rcases (en_1 cb.1 hx y).mp q1 with q4 | q4
            · exact ⟨p, y, q4, q2, q3⟩
            · rw [q4] at q2 q3
              exact absurd q3 (hno v p q2)
        · rw [h49]
          refine cl_hx hM2 fun v => ?_
          constructor
          · rintro ⟨p, q⟩
            exact ⟨(en_1 cb.1 hx v).mpr (Or.inl p), q⟩
          · rintro ⟨p, u, q1, q2, q3⟩
            rcases (en_1 cb.1 hx v).mp p with q4 | q4
            · exact ⟨q4, u, q1, q2, q3⟩
            · rw [q4] at q2 q3
              exact absurd q3 (hno u q1 q2)
      have right : (∃ u, cl_m (M a) u ∧ (a = b → u = x) ∧ rl_h r (wr (kh k) (u + x)) w) → ∀ M'' : mT, (∀ j, j ≠ 48 → j ≠ 49 → j ≠ 50 → M'' j = M' j) → cl_h (M'' 48) (fun v => (cl_m (M a) v ∧ ∃ y, (cl_m (M b) y ∧ y < x) ∧ (a = b → v = y) ∧ rl_h r (wr (kh k) (v + y)) w) ∨ (cl_m (M a) v ∧ (a = b → v = x) ∧ rl_h r (wr (kh k) (v + x)) w)) → M'' 49 = M' 49 → wpX_join (fun u => match u with | (f_bits, f_points, f_vars, f_cells, f_min, f_max, f_edgeCount, f_thresholdCount, f_analysed, f_postRow, f_inRow, f_left, f_right, f_cut, f_constant, f_currentPoint, f_status, f_faultEdge, f_pendingInput, a_sources, a_targets, a_kinds, a_argA, a_argB, a_argC, a_argD, a_thresholds, a_lows, a_highs, a_steps, a_order, a_successors, a_reach, a_pendingSets, a_values, a_cellValues) => ∀ y : Int32, y = iI x + iI (sd_ (M b)) → wX_keepSums_49 post (iI a) (iI b) (iI r) (iI w) (iI (sd_ (M b))) (iI (M b).2.1) n y f_bits f_points f_vars f_cells f_min f_max f_edgeCount f_thresholdCount f_analysed f_postRow f_inRow f_left f_right f_cut f_constant f_currentPoint f_status f_faultEdge f_pendingInput a_sources a_targets a_kinds a_argA a_argB a_argC a_argD a_thresholds a_lows a_highs a_steps a_order a_successors a_reach a_pendingSets a_values a_cellValues) (XC k z R M'') 49 (iI x) (iI x) 0 := fun hsome M'' hf2 h48 h49 => by
        refine x_join (c := 49) (lo := x) (hi := x) (st := 0) (S := fun v => (cl_m (M b) v ∧ v < x) ∧ ∃ u, cl_m (M a) u ∧ (a = b → u = v) ∧ rl_h r (wr (kh k) (u + v)) w) (T := fun v => v = x) rfl rfl rfl rfl (by omega) (by rw [h49]; exact hM2) (fun v hv => cg_m cb hv.1.1) (by omega) (jo_1 x (by omega)) (fun c3 hc3 => nm_r (ii_add x _) (ih _ ⟨fun j j1 j2 j3 => ?_, ?_, ?_, by omega, by omega⟩))
        · rw [ms_n _ _ j2]
          exact (hf2 j j1 j2 j3).trans (hf j j1 j2 j3)
        · rw [ms_n _ _ (by omega)]
          refine cl_hx h48 fun v => ?_
          constructor
          · rintro (⟨p, y, q1, q2⟩ | ⟨p, q⟩)
            · exact ⟨p, y, (en_1 cb.1 hx y).mpr (Or.inl q1), q2⟩
            · exact ⟨p, x, (en_1 cb.1 hx x).mpr (Or.inr rfl), q⟩
          · rintro ⟨p, y, q1, q2⟩
            rcases (en_1 cb.1 hx y).mp q1 with q3 | q3
            · exact Or.inl ⟨p, y, q3, q2⟩
            · rw [q3] at q2
              exact Or.inr ⟨p, q2⟩
        · rw [ms_s]
          refine cl_hx hc3 fun v => ?_
          constructor
          · rintro (⟨p, q⟩ | p)
            · exact ⟨(en_1 cb.1 hx v).mpr (Or.inl p), q⟩
            · subst p
              exact ⟨(en_1 cb.1 hx v).mpr (Or.inr rfl), hsome⟩
          · rintro ⟨p, q⟩
            rcases (en_1 cb.1 hx v).mp p with q3 | q3
            · exact Or.inl ⟨q3, q⟩
            · exact Or.inr q3
      refine ib_lt (M b).2.1 x (fun e => by have := hx.2.1; omega) (fun _ => ib_eq a b (fun e => ?_) (fun e => ?_) rfl rfl (by omega)) rfl rfl (by omega)
      · have wb := wr_in (h := kh k) (x + x) hh
        have xa : cl_m (M a) x := by rw [e]; exact hx
        refine x_wrapI ok (ii_add x x) (by omega) (x_holds (a := wr (kh k) (x + x)) (r := r) (b := w) rfl rfl rfl (by omega) hr (by omega) (fun ht => br_f (by decide) ?_) (fun hf3 => br_t rfl (nm_r (ii_add x _) (stay (fun u q1 q2 => by rw [q2 e]; exact hf3) M' (fun _ _ _ _ => rfl) hM1 rfl))))
        refine x_join (c := 48) (lo := x) (hi := x) (st := 0) (T := fun v => v = x) rfl rfl rfl rfl (by omega) hM1 (fun v hv => cg_m ca hv.1) (by omega) (jo_1 x (by omega)) (fun c2 hc2 => right ⟨x, xa, fun _ => rfl, ht⟩ _ (fun j j1 j2 j3 => ms_n _ _ j1) ?_ (ms_n _ _ (by omega)))
        rw [ms_s]
        refine cl_hx hc2 fun v => ?_
        constructor
        · rintro (q | q)
          · exact Or.inl q
          · subst q
            exact Or.inr ⟨xa, fun _ => rfl, ht⟩
        · rintro (q | q)
          · exact Or.inl q
          · exact Or.inr (q.2.1 e)
      · refine x_ksw ok rfl rfl rfl rfl (by omega) (by rw [eM]; exact ca) xb hr hw hM1 (fun v hv => cg_m ca hv.1) (fun M'' bb hf2 h48 hbb => ib_b bb (fun eb => nm_r (ii_add x _) (stay ?_ M'' (fun j j1 j2 j3 => hf2 j j1 j3) ?_ (hf2 49 (by omega) (by omega)))) (fun eb => right ?_ M'' (fun j j1 j2 j3 => hf2 j j1 j3) ?_ (hf2 49 (by omega) (by omega))))
        · rw [eM] at hbb
          intro u q1 _ q3
          have := hbb.mpr ⟨u, q1, q3⟩
          rw [eb] at this
          exact absurd this (by decide)
        · rw [eM] at hbb h48
          refine cl_hx h48 fun v => ?_
          constructor
          · rintro (q | q)
            · exact q
            · have := hbb.mpr ⟨v, q⟩
              rw [eb] at this
              exact absurd this (by decide)
          · exact Or.inl
        · rw [eM] at hbb
          obtain ⟨u, q1, q2⟩ := hbb.mp eb
          exact ⟨u, q1, fun x => absurd x e, q2⟩
        · rw [eM] at h48
          refine cl_hx h48 fun v => ?_
          constructor
          · rintro (q | q)
            · exact Or.inl q
            · exact Or.inr ⟨q.1, fun x => absurd x e, q.2⟩
          · rintro (q | q)
            · exact Or.inl q
            · exact Or.inr ⟨q.1, q.2.2⟩
    · rw [e48]
      exact cl_he fun v ⟨_, m, ⟨m1, m2⟩, _⟩ => by have := m1.1; omega
    · rw [e49]
      exact cl_he fun v ⟨⟨m1, m2⟩, _⟩ => by have := m1.1; omega
  refine x_clear (c := 48) rfl (by omega) (x_clear (c := 49) rfl (by omega) (And.intro hib (ib_le (M b).2.2 0 (fun e2 => main _ ?_) (fun e2 => And.intro hib (main _ ?_)) eS rfl (by omega))))
  · rw [show sd_ (M b) = 1 from if_neg (by omega)]
    rfl
  · rw [show sd_ (M b) = (M b).2.2 from if_pos e2]
    exact eS
theorem x_clr2 {post : SX → Prop} (ok : k_ok k) {r : Int} (hr : 0 ≤ r ∧ r < 48) (h : ∀ M' : mT, (∀ j, r ≤ j → j ≤ r + kV k → M' j = (1, 0, 0)) → (∀ j, (j < r ∨ r + kV k < j) → M' j = M j) → post (XC k z R M')) : ∀ (n : Nat) (s : Int) (M' : mT), (∀ j, r ≤ j → j < r + s → M' j = (1, 0, 0)) → (∀ j, (j < r ∨ r + kV k < j) → M' j = M j) → 0 ≤ s → s ≤ kV k + 1 → (kV k + 1 - s).toNat < n → wX_clearRow_2 post (iI r) n (iI s) (iI (kB k)) (iI (kP k)) (iI (kV k)) (iI (kC k)) (iI (-kh k)) (iI (kh k - 1)) (iI (kE k)) (iI (kN k)) z.1 40 44 48 49 50 51 z.2.1 z.2.2.1 z.2.2.2.1 z.2.2.2.2.1 (xA k 0) (xA k 1) (xA k 2) (xA k 3) (xA k 4) (xA k 5) (xA k 6) (xH k) (xL (M')) (xU (M')) (xS (M')) R.1 R.2.1 R.2.2.1 R.2.2.2 z.2.2.2.2.2.1 z.2.2.2.2.2.2
  | 0, _, _, _, _, _, _, hn => by omega
  | n + 1, s, M', h1, h2, s0, s1, hn => by
    have hV := ok.2.1
    refine ib_lt (kV k) s (fun e => h M' (fun j j1 j2 => h1 j j1 (by omega)) h2) (fun e => x_clear (c := r + s) (ii_add r s) (by omega) (nm_r (ii_add s 1) (x_clr2 ok hr h n (s + 1) _ (fun j j1 j2 => ?_) (fun j j1 => ?_) (by omega) (by omega) (by omega)))) rfl rfl (by omega)
    · by_cases e2 : j = r + s
      · rw [e2, ms_s]
      · rw [ms_n _ _ e2]
        exact h1 j j1 (by omega)
    · rw [ms_n _ _ (by omega)]
      exact h2 j j1
theorem x_clr {post : SX → Prop} (ok : k_ok k) {r : Int} {x : Int32} (hx : x = iI r) (hr : 0 ≤ r ∧ r < 48) (h : ∀ M' : mT, (∀ j, r ≤ j → j ≤ r + kV k → M' j = (1, 0, 0)) → (∀ j, (j < r ∨ r + kV k < j) → M' j = M j) → post (XC k z R M')) : wpX_clearRow post (XC k z R M) x := by
  subst hx
  have hV := ok.2.1
  exact Exists.intro 10 (x_clr2 ok hr h 10 0 M (fun j j1 j2 => by omega) (fun j _ => rfl) (by omega) (by omega) (by omega))
theorem x_nar {post : SX → Prop} (ok : k_ok k) {a b : Int} {x0 x1 : Int32} (h0 : x0 = iI a) (h1 : x1 = iI b) (ha : 40 ≤ a ∧ a ≤ 40 + kV k) (hb : (40 ≤ b ∧ b ≤ 40 + kV k) ∨ b = 51) (hs : cs_ (M 48)) (hn : (M 48).1 ≤ (M 48).2.1 → post (XC k z R (ms (ms M a (M 48)) b (M 49)))) (he : (M 48).2.1 < (M 48).1 → ∀ M' : mT, (∀ j, 40 ≤ j → j ≤ 40 + kV k → M' j = (1, 0, 0)) → (∀ j, j < 40 ∨ (44 ≤ j ∧ j < 48) → M' j = M j) → post (XC k z R M')) : wpX_narrow post (XC k z R M) x0 x1 := by
  subst h0 h1
  have hV := ok.2.1
  unfold wpX_narrow
  dsimp only [XC, XD]
  refine x_copy (c := a) (d := 48) rfl rfl (by omega) (by omega) (x_copy (c := b) (d := 49) rfl rfl (by omega) (by omega) ?_)
  have e49 : (ms M a (M 48)) 49 = M 49 := ms_n _ _ (by omega)
  rw [e49]
  have e48 : (ms (ms M a (M 48)) b (M 49)) 48 = M 48 := by rw [ms_n _ _ (by omega), ms_n _ _ (by omega)]
  refine x_emp (c := 48) rfl (by omega) (by rw [e48]; exact hs) (fun e => br_t rfl (hn (by rw [e48] at e; exact e))) (fun e => br_f (by decide) (x_clr (r := 40) ok rfl (by omega) (fun M' q1 q2 => he (by rw [e48] at e; exact e) M' q1 (fun j j1 => ?_))))
  rw [q2 j (by omega), ms_n _ _ (by omega), ms_n _ _ (by omega)]
end
section
variable {h V C : Int} {g : Int → Int} {σ : Int → Int → Prop}
theorem fl_o {s : Int} (h1 : s ≠ fl_1 g) (h2 : s ≠ fl_2 V g) (h3 : s ≠ fl_t V g) (v : Int) : fl_F h V C g σ s v ↔ ((∃ a b, fl_G h V C g σ a b) ∧ σ s v) := by
  constructor
  · rintro ⟨a, b, hG, (⟨e, _⟩ | ⟨e, _⟩ | ⟨e, _⟩) | (⟨_, hv⟩ | ⟨e, _⟩)⟩
    · exact absurd e h1
    · exact absurd e h2
    · exact absurd e h3
    · exact ⟨⟨a, b, hG⟩, hv⟩
    · exact absurd e h3
  · rintro ⟨⟨a, b, hG⟩, hv⟩
    exact ⟨a, b, hG, Or.inr (Or.inl ⟨Or.inl ⟨h1, h2, h3⟩, hv⟩)⟩
theorem fl_a {s : Int} (h1 : s = fl_1 g) (h3 : s ≠ fl_t V g) (v : Int) : fl_F h V C g σ s v ↔ ∃ b, fl_G h V C g σ v b := by
  constructor
  · rintro ⟨a, b, hG, (⟨e, _, e2⟩ | ⟨e, _, e2⟩ | ⟨e, _⟩) | (⟨⟨e, _⟩ | ⟨e, _⟩, _⟩ | ⟨e, _⟩)⟩
    · rw [e2]
      exact ⟨b, hG⟩
    · have : a = b := hG.2.2.1 (h1.symm.trans e)
      rw [e2, ← this]
      rw [← this] at hG
      exact ⟨a, hG⟩
    · exact absurd e h3
    · exact absurd h1 e
    · exact absurd e h3
    · exact absurd e h3
  · rintro ⟨b, hG⟩
    exact ⟨v, b, hG, Or.inl (Or.inl ⟨h1, fun e => h3 (h1.trans e), rfl⟩)⟩
theorem fl_b {s : Int} (h2 : s = fl_2 V g) (h3 : s ≠ fl_t V g) (v : Int) : fl_F h V C g σ s v ↔ ∃ a, fl_G h V C g σ a v := by
  constructor
  · rintro ⟨a, b, hG, (⟨e, _, e2⟩ | ⟨e, _, e2⟩ | ⟨e, _⟩) | (⟨⟨_, e, _⟩ | ⟨e, _⟩, _⟩ | ⟨e, _⟩)⟩
    · have : a = b := hG.2.2.1 (e.symm.trans h2)
      rw [e2]
      rw [← this] at hG
      exact ⟨a, hG⟩
    · rw [e2]
      exact ⟨a, hG⟩
    · exact absurd e h3
    · exact absurd h2 e
    · exact absurd e h3
    · exact absurd e h3
  · rintro ⟨a, hG⟩
    exact ⟨a, v, hG, Or.inl (Or.inr (Or.inl ⟨h2, fun e => h3 (h2.trans e), rfl⟩))⟩
theorem fl_d {s : Int} (h3 : s = fl_t V g) (k3 : g 2 ≠ 3) (k8 : g 2 ≠ 8) (v : Int) : fl_F h V C g σ s v ↔ ∃ a b, fl_G h V C g σ a b ∧ v = fl_r h g a b := by
  constructor
  · rintro ⟨a, b, hG, (⟨e, e1, _⟩ | ⟨e, e1, _⟩ | ⟨_, _, e⟩) | (⟨⟨_, _, e⟩ | ⟨_, e⟩, _⟩ | ⟨_, e, _⟩)⟩
    · exact absurd (e.symm.trans h3) e1
    · exact absurd (e.symm.trans h3) e1
    · exact ⟨a, b, hG, e⟩
    · exact absurd h3 e
    · exact absurd e k8
    · exact absurd e k3
  · rintro ⟨a, b, hG, e⟩
    exact ⟨a, b, hG, Or.inl (Or.inr (Or.inr ⟨h3, k3, e⟩))⟩
theorem fl_i {s : Int} (h3 : s = fl_t V g) (k3 : g 2 = 3) (v : Int) : fl_F h V C g σ s v ↔ ((∃ a b, fl_G h V C g σ a b) ∧ g 4 ≤ v ∧ v ≤ g 5) := by
  constructor
  · rintro ⟨a, b, hG, (⟨e, e1, _⟩ | ⟨e, e1, _⟩ | ⟨_, e, _⟩) | (⟨⟨_, _, e⟩ | ⟨_, e⟩, _⟩ | ⟨_, _, e⟩)⟩
    · exact absurd (e.symm.trans h3) e1
    · exact absurd (e.symm.trans h3) e1
    · exact absurd k3 e
    · exact absurd h3 e
    · omega
    · exact ⟨⟨a, b, hG⟩, e⟩
  · rintro ⟨⟨a, b, hG⟩, e⟩
    exact ⟨a, b, hG, Or.inr (Or.inr ⟨h3, k3, e⟩)⟩
theorem fl_st {s : Int} (h3 : s = fl_t V g) (k8 : g 2 = 8) (v : Int) : fl_F h V C g σ s v ↔ ((∃ a b, fl_G h V C g σ a b ∧ v = fl_r h g a b) ∨ ((∃ a b, fl_G h V C g σ a b) ∧ σ s v)) := by
  constructor
  · rintro ⟨a, b, hG, (⟨e, e1, _⟩ | ⟨e, e1, _⟩ | ⟨_, _, e⟩) | (⟨_, e⟩ | ⟨_, e, _⟩)⟩
    · exact absurd (e.symm.trans h3) e1
    · exact absurd (e.symm.trans h3) e1
    · exact Or.inl ⟨a, b, hG, e⟩
    · exact Or.inr ⟨⟨a, b, hG⟩, e⟩
    · omega
  · rintro (⟨a, b, hG, e⟩ | ⟨⟨a, b, hG⟩, hv⟩)
    · exact ⟨a, b, hG, Or.inl (Or.inr (Or.inr ⟨h3, by omega, e⟩))⟩
    · exact ⟨a, b, hG, Or.inr (Or.inl ⟨Or.inr ⟨h3, k8⟩, hv⟩)⟩
/-- no pair passes: nothing flows -/
theorem fl_no (hn : ∀ a b, ¬ fl_G h V C g σ a b) (s v : Int) : ¬ fl_F h V C g σ s v := fun ⟨a, b, hG, _⟩ => hn a b hG
/-- every pair passes: slots that aren't written keep what they have -/
theorem fl_id {s : Int} (h3 : s ≠ fl_t V g) (hp : ∀ a b, fl_p h C g a b) (hne : ∀ s, (s = fl_1 g ∨ s = fl_2 V g) → ∃ v, σ s v) (v : Int) : fl_F h V C g σ s v ↔ σ s v := by
  by_cases e1 : s = fl_1 g
  · rw [fl_a e1 h3]
    constructor
    · rintro ⟨b, hG⟩
      rw [e1]
      exact hG.1
    · intro hv
      by_cases e2 : fl_1 g = fl_2 V g
      · exact ⟨v, by rw [← e1]; exact hv, by rw [← e2, ← e1]; exact hv, fun _ => rfl, hp _ _⟩
      · obtain ⟨b, hb⟩ := hne _ (Or.inr rfl)
        exact ⟨b, by rw [← e1]; exact hv, hb, fun x => absurd x e2, hp _ _⟩
  · by_cases e2 : s = fl_2 V g
    · rw [fl_b e2 h3]
      constructor
      · rintro ⟨a, hG⟩
        rw [e2]
        exact hG.2.1
      · intro hv
        obtain ⟨a, ha⟩ := hne _ (Or.inl rfl)
        exact ⟨a, ha, by rw [← e2]; exact hv, fun x => absurd (e2.trans x.symm) e1, hp _ _⟩
    · rw [fl_o e1 e2 h3]
      constructor
      · exact fun x => x.2
      · intro hv
        refine ⟨?_, hv⟩
        obtain ⟨a, ha⟩ := hne _ (Or.inl rfl)
        by_cases e3 : fl_1 g = fl_2 V g
        · exact ⟨a, a, ha, by rw [← e3]; exact ha, fun _ => rfl, hp _ _⟩
        · obtain ⟨b, hb⟩ := hne _ (Or.inr rfl)
          exact ⟨a, b, ha, hb, fun x => absurd x e3, hp _ _⟩
end
end
section
/-! ===== X: post ===== -/
def xM (k : kT) (M : mT) : aT := fun p s v => k_d k p s ∧ cl_m (M (4 * p + s)) v
def x_ok (k : kT) (M : mT) : Prop := (∀ p s, k_d k p s → cl_n (M (4 * p + s))) ∧ k_g k (xM k M)
theorem xo_n {k : kT} {M : mT} (hx : x_ok k M) (ok : k_ok k) {p : Int} (hp : 0 ≤ p ∧ p < kP k) (hl : (M (4 * p)).1 ≤ (M (4 * p)).2.1) : ∀ s, 0 ≤ s → s ≤ kV k → cg_ (M (4 * p + s)) := by
  intro s s0 s1
  have hV := ok.2.1
  have hh := k_h ok
  have d0 : k_d k p 0 := ⟨hp.1, hp.2, by omega, by omega⟩
  have ds : k_d k p s := ⟨hp.1, hp.2, s0, s1⟩
  have h0 : cl_p (M (4 * p)) := cl_ne (by have := hx.1 p 0 d0; rw [Int.add_zero] at this; exact this) hl
  have m0 : xM k M p 0 (M (4 * p)).1 := ⟨d0, by rw [Int.add_zero]; exact cl_lo h0⟩
  obtain ⟨v, hv⟩ := hx.2.2 p 0 _ m0 s s0 s1
  have h1 : cl_p (M (4 * p + s)) := cl_ne (hx.1 p s ds) (by have := hv.2.1; have := hv.2.2.1; omega)
  have r1 := (hx.2.1 p s _ ⟨ds, cl_lo h1⟩).2
  have r2 := (hx.2.1 p s _ ⟨ds, cl_hi h1⟩).2
  exact ⟨h1, by omega, by omega⟩
theorem xo_0 {k : kT} {M : mT} (hx : x_ok k M) (ok : k_ok k) {p : Int} (hp : 0 ≤ p ∧ p < kP k) (hl : (M (4 * p)).2.1 < (M (4 * p)).1) : ∀ s, 0 ≤ s → s ≤ kV k → M (4 * p + s) = (1, 0, 0) := by
  intro s s0 s1
  have hV := ok.2.1
  have ds : k_d k p s := ⟨hp.1, hp.2, s0, s1⟩
  rcases hx.1 p s ds with h | h
  · exact h
  · obtain ⟨v, hv⟩ := hx.2.2 p s _ ⟨ds, cl_lo h⟩ 0 (by omega) (by omega)
    have h1 := hv.2.1
    have h2 := hv.2.2.1
    rw [Int.add_zero] at h1 h2
    omega
theorem xo_s {k : kT} {M : mT} (hx : x_ok k M) (ok : k_ok k) {p s : Int} (hp : k_d k p s) : cs_ (M (4 * p + s)) := by
  have hh := k_h ok
  exact cs_n (hx.1 p s hp) (fun n hn => by
    have := (hx.2.1 p s n ⟨hp, hn⟩).2
    omega)
section
variable {k : kT} {z : zT} {R : rT} {M : mT}
theorem x_pac {post : SX → Prop} (ok : k_ok k) {kd a b : Int} {x0 x1 x2 : Int32} (h0 : x0 = iI kd) (h1 : x1 = iI a) (h2 : x2 = iI b) (hk : kd = 7 ∨ kd = 8) (ha : 40 ≤ a ∧ a < 40 + kV k) (hb : 40 ≤ b ∧ b < 40 + kV k) (cb : cg_ (M b)) (ca : cg_ (M a)) (cv : cg_ (M (40 + kV k))) (he : (∀ v, ¬ (cl_m (M b) v ∧ 0 ≤ v ∧ v ≤ kC k - 1)) → ∀ M' : mT, (∀ j, 40 ≤ j → j ≤ 40 + kV k → M' j = (1, 0, 0)) → (∀ j, j < 40 ∨ (44 ≤ j ∧ j < 48) → M' j = M j) → post (XC k z R M')) (hn : (∃ v, cl_m (M b) v ∧ 0 ≤ v ∧ v ≤ kC k - 1) → ∀ c', cl_h c' (fun v => cl_m (M b) v ∧ 0 ≤ v ∧ v ≤ kC k - 1) → (kd = 7 → post (XC k z R (ms (ms (ms M 50 c') b c') a (M (40 + kV k))))) ∧ (kd = 8 → ∀ c2, cl_h c2 (fun v => cl_m (M (40 + kV k)) v ∨ cl_m ((ms M b c') a) v) → post (XC k z R (ms (ms (ms M 50 c') b c') (40 + kV k) c2)))) : wpX_postAccess post (XC k z R M) x0 x1 x2 := by
  subst h0 h1 h2
  have hV := ok.2.1
  have hB := cg_b cb
  have hA := cg_b ca
  have hib : vp_in (iI b) 52 := ii_in (by omega) (by omega) (by omega)
  have hia : vp_in (iI a) 52 := ii_in (by omega) (by omega) (by omega)
  refine And.intro hib (And.intro hib (And.intro hib (x_clip (lo := (M b).1) (hi := (M b).2.1) (st := (M b).2.2) (fr := 0) (to := kC k - 1) (xl_g M (by omega)) (xu_g M (by omega)) (xs_g M (by omega)) rfl (ii_sub _ 1) cb.1 (by omega) (fun c' hc' => ?_))))
  have cs := cs_h hc' (fun n hn => by have := cg_m cb hn.1; omega)
  have rc : ∀ v, (cl_m (M b) v ∧ 0 ≤ v ∧ v ≤ kC k - 1) → -16 ≤ v ∧ v ≤ 16 := fun v hv => cg_m cb hv.1
  refine x_emp (c := 50) rfl (by omega) (by rw [ms_s]; exact cs) (fun e => br_t rfl (x_copy (c := b) (d := 50) rfl rfl (by omega) (by omega) ?_)) (fun e => br_f (by decide) (x_clr ok (r := 40) rfl (by omega) (fun M' q1 q2 => he ?_ M' q1 (fun j j1 => ?_))))
  · rw [ms_s] at e ⊢
    have hN := cl_hl hc' e
    have hn2 := hn ⟨_, hN.1⟩ c' hc'
    refine nm_r (ii_add 40 (kV k)) (ib_eq kd 7 (fun e7 => x_copy (c := a) (d := 40 + kV k) rfl rfl (by omega) (by omega) ?_) (fun e7 => And.intro hia (And.intro hia (And.intro hia ?_))) rfl rfl (by omega))
    · rw [ms_n _ _ (by omega), ms_n _ _ (by omega)]
      exact hn2.1 e7
    · have eV : (ms (ms M 50 c') b c') (40 + kV k) = M (40 + kV k) := by rw [ms_n _ _ (by omega), ms_n _ _ (by omega)]
      have ea : (ms (ms M 50 c') b c') a = (ms M b c') a := by
        by_cases e : a = b
        · rw [e, ms_s, ms_s]
        · rw [ms_n _ _ e, ms_n _ _ (by omega), ms_n _ _ e]
      have ga : cg_ ((ms M b c') a) := by
        by_cases e : a = b
        · rw [e, ms_s]
          exact ⟨cl_Np hN, (rc _ hN.1).1, (rc _ hN.2.1).2⟩
        · rw [ms_n _ _ e]
          exact ca
      have gb := cg_b ga
      refine x_join (c := 40 + kV k) (lo := ((ms M b c') a).1) (hi := ((ms M b c') a).2.1) (st := ((ms M b c') a).2.2) (S := cl_m (M (40 + kV k))) (T := cl_m ((ms M b c') a)) rfl ?_ ?_ ?_ (by omega) (by rw [eV]; exact cl_Nh (cl_hm cv.1)) (fun v hv => cg_m cv hv) (by omega) (jo_0 (cl_Nh (cl_hm ga.1)) (fun v hv => cg_m ga hv)) (fun c2 hc2 => hn2.2 (by omega) c2 hc2)
      · rw [xl_g _ (by omega), ea]
      · rw [xu_g _ (by omega), ea]
      · rw [xs_g _ (by omega), ea]
  · rw [ms_s] at e
    exact (cl_h0 hc' e).2
  · rw [q2 j (by omega), ms_n _ _ (by omega)]
end
end
section
/-! ===== what post leaves, kind by kind (pure) ===== -/
section
variable {k : kT} {M : mT} {g : Int → Int} {σ : Int → Int → Prop}
theorem fp_t {h C : Int} (hk : g 2 = 0 ∨ g 2 = 1 ∨ g 2 = 2 ∨ g 2 = 3) (a b : Int) : fl_p h C g a b := ⟨fun e => by omega, fun e => by omega, fun e => by omega, fun e => by omega⟩
theorem pl_s (hσ : ∀ s v, 0 ≤ s → s ≤ kV k → (σ s v ↔ cl_m (M (40 + s)) v)) (cg : ∀ s, 0 ≤ s → s ≤ kV k → cg_ (M (40 + s))) {s : Int} (s0 : 0 ≤ s) (s1 : s ≤ kV k) : cl_h (M (40 + s)) (σ s) := cl_Nh (cl_Nx (cl_hm (cg s s0 s1).1) fun v => (hσ s v s0 s1).symm)
theorem pl_ne (hσ : ∀ s v, 0 ≤ s → s ≤ kV k → (σ s v ↔ cl_m (M (40 + s)) v)) (cg : ∀ s, 0 ≤ s → s ≤ kV k → cg_ (M (40 + s))) {s : Int} (s0 : 0 ≤ s) (s1 : s ≤ kV k) : ∃ v, σ s v := ⟨_, (hσ s _ s0 s1).mpr (cl_lo (cg s s0 s1).1)⟩
theorem pl_ne2 (ok : k_ok k) (ho : ed_ok (kh k) (kP k) (kV k) g) (hσ : ∀ s v, 0 ≤ s → s ≤ kV k → (σ s v ↔ cl_m (M (40 + s)) v)) (cg : ∀ s, 0 ≤ s → s ≤ kV k → cg_ (M (40 + s))) : ∀ s, (s = fl_1 g ∨ s = fl_2 (kV k) g) → ∃ v, σ s v := by
  have h12 := ed_12 ho (ok.2.1).2.2.1
  rintro s (rfl | rfl)
  · exact pl_ne hσ cg (by omega) (by omega)
  · exact pl_ne hσ cg (by omega) (by omega)
theorem pl_0 (ok : k_ok k) (ho : ed_ok (kh k) (kP k) (kV k) g) (hk : g 2 = 0) (hσ : ∀ s v, 0 ≤ s → s ≤ kV k → (σ s v ↔ cl_m (M (40 + s)) v)) (cg : ∀ s, 0 ≤ s → s ≤ kV k → cg_ (M (40 + s))) (s : Int) (s0 : 0 ≤ s) (s1 : s ≤ kV k) : cl_h (M (40 + s)) (fl_F (kh k) (kV k) (kC k) g σ s) := by
  have et : fl_t (kV k) g = -1 := by simp [fl_t, hk]
  exact cl_hx (pl_s hσ cg s0 s1) fun v => (fl_id (by omega) (fp_t (Or.inl hk)) (pl_ne2 ok ho hσ cg) v).symm
theorem pl_1 (ok : k_ok k) (ho : ed_ok (kh k) (kP k) (kV k) g) (hk : g 2 = 1) (hσ : ∀ s v, 0 ≤ s → s ≤ kV k → (σ s v ↔ cl_m (M (40 + s)) v)) (cg : ∀ s, 0 ≤ s → s ≤ kV k → cg_ (M (40 + s))) {M' : mT} (hf : ∀ j, j ≠ 48 → j ≠ 50 → M' j = M j) (hM : cl_h (M' 48) (fun v => ∃ x y, cl_m (M (40 + g 5)) x ∧ cl_m (M (40 + g 6)) y ∧ (40 + g 5 = 40 + g 6 → x = y) ∧ v = fl_c (kh k) (g 4) x y)) (s : Int) (s0 : 0 ≤ s) (s1 : s ≤ kV k) : cl_h ((ms M' (40 + g 3) (M' 48)) (40 + s)) (fl_F (kh k) (kV k) (kC k) g σ s) := by
  have hV := ok.2.1
  have et : fl_t (kV k) g = g 3 := by simp [fl_t, hk]
  have e1 : fl_1 g = g 5 := by simp [fl_1, hk]
  have e2 : fl_2 (kV k) g = g 6 := by simp [fl_2, hk]
  have er : ∀ a b, fl_r (kh k) g a b = fl_c (kh k) (g 4) a b := fun a b => by simp [fl_r, hk]
  have h1 := ho.2.1 hk
  by_cases es : s = g 3
  · rw [es, ms_s]
    refine cl_hx hM fun v => ?_
    rw [fl_d et.symm (by omega) (by omega)]
    constructor
    · rintro ⟨x, y, hx, hy, exy, ev⟩
      refine ⟨x, y, ⟨?_, ?_, ?_, fp_t (Or.inr (Or.inl hk)) _ _⟩, ?_⟩
      · rw [e1]
        exact (hσ _ _ (by omega) (by omega)).mpr hx
      · rw [e2]
        exact (hσ _ _ (by omega) (by omega)).mpr hy
      · rw [e1, e2]
        exact fun q => exy (by omega)
      · rw [er]
        exact ev
    · rintro ⟨x, y, ⟨hx, hy, exy, _⟩, ev⟩
      rw [e1] at hx
      rw [e2] at hy
      rw [e1, e2] at exy
      rw [er] at ev
      exact ⟨x, y, (hσ _ _ (by omega) (by omega)).mp hx, (hσ _ _ (by omega) (by omega)).mp hy, fun q => exy (by omega), ev⟩
  · rw [ms_n _ _ (by omega), hf _ (by omega) (by omega)]
    exact cl_hx (pl_s hσ cg s0 s1) fun v => (fl_id (by omega) (fp_t (Or.inr (Or.inl hk))) (pl_ne2 ok ho hσ cg) v).symm
theorem pl_2 (ok : k_ok k) (ho : ed_ok (kh k) (kP k) (kV k) g) (hk : g 2 = 2) (hσ : ∀ s v, 0 ≤ s → s ≤ kV k → (σ s v ↔ cl_m (M (40 + s)) v)) (cg : ∀ s, 0 ≤ s → s ≤ kV k → cg_ (M (40 + s))) {M' : mT} (hf : ∀ j, j ≠ 48 → j ≠ 50 → j ≠ 51 → M' j = M j) (hM : cl_h (M' 48) (fun v => ∃ x y, cl_m (M (40 + g 5)) x ∧ cl_m (g 6, g 6, 0) y ∧ (40 + g 5 = 51 → x = y) ∧ v = fl_c (kh k) (g 4) x y)) (s : Int) (s0 : 0 ≤ s) (s1 : s ≤ kV k) : cl_h ((ms M' (40 + g 3) (M' 48)) (40 + s)) (fl_F (kh k) (kV k) (kC k) g σ s) := by
  have hV := ok.2.1
  have et : fl_t (kV k) g = g 3 := by simp [fl_t, hk]
  have e1 : fl_1 g = g 5 := by simp [fl_1, hk]
  have e2 : fl_2 (kV k) g = g 5 := by simp [fl_2, hk]
  have er : ∀ a b, fl_r (kh k) g a b = fl_c (kh k) (g 4) a (g 6) := fun a b => by simp [fl_r, hk]
  have h1 := ho.2.2.1 hk
  by_cases es : s = g 3
  · rw [es, ms_s]
    refine cl_hx hM fun v => ?_
    rw [fl_d et.symm (by omega) (by omega)]
    constructor
    · rintro ⟨x, y, hx, hy, _, ev⟩
      have ey : y = g 6 := by have := hy.1; have := hy.2.1; dsimp only at *; omega
      refine ⟨x, x, ⟨?_, ?_, fun _ => rfl, fp_t (Or.inr (Or.inr (Or.inl hk))) _ _⟩, ?_⟩
      · rw [e1]
        exact (hσ _ _ (by omega) (by omega)).mpr hx
      · rw [e2]
        exact (hσ _ _ (by omega) (by omega)).mpr hx
      · rw [er, ev, ey]
    · rintro ⟨x, y, ⟨hx, hy, exy, _⟩, ev⟩
      rw [e1] at hx
      rw [er] at ev
      exact ⟨x, g 6, (hσ _ _ (by omega) (by omega)).mp hx, cl_lo (Or.inl ⟨rfl, rfl⟩), fun q => by omega, ev⟩
  · rw [ms_n _ _ (by omega), hf _ (by omega) (by omega) (by omega)]
    exact cl_hx (pl_s hσ cg s0 s1) fun v => (fl_id (by omega) (fp_t (Or.inr (Or.inr (Or.inl hk)))) (pl_ne2 ok ho hσ cg) v).symm
theorem pl_3 (ok : k_ok k) (ho : ed_ok (kh k) (kP k) (kV k) g) (hk : g 2 = 3) (hσ : ∀ s v, 0 ≤ s → s ≤ kV k → (σ s v ↔ cl_m (M (40 + s)) v)) (cg : ∀ s, 0 ≤ s → s ≤ kV k → cg_ (M (40 + s))) (s : Int) (s0 : 0 ≤ s) (s1 : s ≤ kV k) : cl_h ((ms M (40 + g 3) (g 4, g 5, if g 4 = g 5 then 0 else 1)) (40 + s)) (fl_F (kh k) (kV k) (kC k) g σ s) := by
  have hV := ok.2.1
  have et : fl_t (kV k) g = g 3 := by simp [fl_t, hk]
  have e1 : fl_1 g = g 3 := by simp [fl_1, hk]
  have e2 : fl_2 (kV k) g = g 3 := by simp [fl_2, hk]
  have h1 := ho.2.2.2.1 hk
  by_cases es : s = g 3
  · rw [es, ms_s]
    refine cl_Nh (cl_Nx (cl_sN (st := 1) (by omega) h1.2.1 (Int.one_dvd _)) fun v => ?_)
    rw [fl_i et.symm hk]
    constructor
    · rintro ⟨p, q, _⟩
      obtain ⟨a, ha⟩ := pl_ne hσ cg (s := g 3) (by omega) (by omega)
      exact ⟨⟨a, a, by rw [e1]; exact ha, by rw [e2]; exact ha, fun _ => rfl, fp_t (Or.inr (Or.inr (Or.inr hk))) _ _⟩, p, q⟩
    · rintro ⟨_, p, q⟩
      exact ⟨p, q, Int.one_dvd _⟩
  · rw [ms_n _ _ (by omega)]
    exact cl_hx (pl_s hσ cg s0 s1) fun v => (fl_id (by omega) (fp_t (Or.inr (Or.inr (Or.inr hk)))) (pl_ne2 ok ho hσ cg) v).symm
/-- a test: the two slots are narrowed, all others stay (t = -1) -/
theorem pl_n (et : fl_t (kV k) g = -1) {b : Int} (hσ : ∀ s v, 0 ≤ s → s ≤ kV k → (σ s v ↔ cl_m (M (40 + s)) v)) (cg : ∀ s, 0 ≤ s → s ≤ kV k → cg_ (M (40 + s))) {M' : mT} (hf : ∀ j, j ≠ 48 → j ≠ 49 → j ≠ 50 → j ≠ 51 → M' j = M j) (e1 : fl_1 g = g 3) (h3 : 0 ≤ g 3 ∧ g 3 < kV k ∧ kV k ≤ 3) (hb : (b = 40 + fl_2 (kV k) g ∧ 0 ≤ fl_2 (kV k) g ∧ fl_2 (kV k) g ≤ kV k ∧ cl_h (M' 49) (fun v => ∃ a, fl_G (kh k) (kV k) (kC k) g σ a v)) ∨ (b = 51 ∧ fl_2 (kV k) g = g 3)) (hM : cl_h (M' 48) (fun v => ∃ b, fl_G (kh k) (kV k) (kC k) g σ v b)) (hl : (M' 48).1 ≤ (M' 48).2.1) (s : Int) (s0 : 0 ≤ s) (s1 : s ≤ kV k) : cl_h ((ms (ms M' (40 + g 3) (M' 48)) b (M' 49)) (40 + s)) (fl_F (kh k) (kV k) (kC k) g σ s) := by
  have hG : ∃ a b, fl_G (kh k) (kV k) (kC k) g σ a b := ⟨_, (cl_hl hM hl).1⟩
  by_cases eb : 40 + s = b
  · rw [eb, ms_s]
    rcases hb with ⟨hb, _, _, h49⟩ | ⟨hb, _⟩
    · exact cl_hx h49 fun v => (fl_b (by omega) (by omega) v).symm
    · omega
  · rw [ms_n _ _ eb]
    by_cases es : s = g 3
    · rw [es, ms_s]
      exact cl_hx hM fun v => (fl_a (by omega) (by omega) v).symm
    · rw [ms_n _ _ (by omega), hf _ (by omega) (by omega) (by omega) (by omega)]
      exact cl_hx (pl_s hσ cg s0 s1) fun v => by
        rw [fl_o (by omega) (by omega) (by omega)]
        exact ⟨fun p => ⟨hG, p⟩, fun p => p.2⟩
theorem pl_e {M' : mT} (hM : ∀ v, ¬ ∃ b, fl_G (kh k) (kV k) (kC k) g σ v b) (hc : ∀ j, 40 ≤ j → j ≤ 40 + kV k → M' j = (1, 0, 0)) (s : Int) (s0 : 0 ≤ s) (s1 : s ≤ kV k) : cl_h (M' (40 + s)) (fl_F (kh k) (kV k) (kC k) g σ s) := by
  rw [hc _ (by omega) (by omega)]
  exact cl_he fun v => fl_no (fun a b hG => hM a ⟨b, hG⟩) s v
theorem pg_4 (hk : g 2 = 4) (e1 : fl_1 g = g 3) (e2 : fl_2 (kV k) g = g 5) (a b : Int) : fl_G (kh k) (kV k) (kC k) g σ a b ↔ (σ (g 3) a ∧ σ (g 5) b ∧ (g 3 = g 5 → a = b) ∧ rl_h (g 4) a b) := by
  unfold fl_G fl_p
  rw [e1, e2]
  constructor
  · rintro ⟨p1, p2, p3, p4⟩
    exact ⟨p1, p2, p3, p4.1 hk⟩
  · rintro ⟨p1, p2, p3, p4⟩
    exact ⟨p1, p2, p3, fun _ => p4, fun e => by omega, fun e => by omega, fun e => by omega⟩
theorem pg_5 (hk : g 2 = 5) (e1 : fl_1 g = g 3) (e2 : fl_2 (kV k) g = g 3) (a b : Int) : fl_G (kh k) (kV k) (kC k) g σ a b ↔ (σ (g 3) a ∧ a = b ∧ rl_h (g 4) a (g 5)) := by
  unfold fl_G fl_p
  rw [e1, e2]
  constructor
  · rintro ⟨p1, p2, p3, p4⟩
    exact ⟨p1, p3 rfl, p4.2.1 hk⟩
  · rintro ⟨p1, p2, p4⟩
    exact ⟨p1, p2 ▸ p1, fun _ => p2, fun e => by omega, fun _ => p4, fun e => by omega, fun e => by omega⟩
theorem pg_6 (hk : g 2 = 6) (e1 : fl_1 g = g 3) (e2 : fl_2 (kV k) g = g 4) (a b : Int) : fl_G (kh k) (kV k) (kC k) g σ a b ↔ (σ (g 3) a ∧ σ (g 4) b ∧ (g 3 = g 4 → a = b) ∧ rl_h (g 5) (wr (kh k) (a + b)) (g 6)) := by
  unfold fl_G fl_p
  rw [e1, e2]
  constructor
  · rintro ⟨p1, p2, p3, p4⟩
    exact ⟨p1, p2, p3, p4.2.2.1 hk⟩
  · rintro ⟨p1, p2, p3, p4⟩
    exact ⟨p1, p2, p3, fun e => by omega, fun e => by omega, fun _ => p4, fun e => by omega⟩
theorem pg_7 (hk : g 2 = 7 ∨ g 2 = 8) (a b : Int) : fl_G (kh k) (kV k) (kC k) g σ a b ↔ (σ (fl_1 g) a ∧ σ (fl_2 (kV k) g) b ∧ (fl_1 g = fl_2 (kV k) g → a = b) ∧ 0 ≤ a ∧ a < kC k) := by
  unfold fl_G fl_p
  constructor
  · rintro ⟨p1, p2, p3, p4⟩
    exact ⟨p1, p2, p3, p4.2.2.2 hk⟩
  · rintro ⟨p1, p2, p3, p4⟩
    exact ⟨p1, p2, p3, fun e => by omega, fun e => by omega, fun e => by omega, fun _ => p4⟩
theorem pl_7 (ok : k_ok k) (ho : ed_ok (kh k) (kP k) (kV k) g) (hk : g 2 = 7) (hσ : ∀ s v, 0 ≤ s → s ≤ kV k → (σ s v ↔ cl_m (M (40 + s)) v)) (cg : ∀ s, 0 ≤ s → s ≤ kV k → cg_ (M (40 + s))) (hn : ∃ v, cl_m (M (40 + g 4)) v ∧ 0 ≤ v ∧ v ≤ kC k - 1) {c' : cT} (hc : cl_h c' (fun v => cl_m (M (40 + g 4)) v ∧ 0 ≤ v ∧ v ≤ kC k - 1)) (s : Int) (s0 : 0 ≤ s) (s1 : s ≤ kV k) : cl_h ((ms (ms (ms M 50 c') (40 + g 4) c') (40 + g 3) (M (40 + kV k))) (40 + s)) (fl_F (kh k) (kV k) (kC k) g σ s) := by
  have hV := ok.2.1
  have et : fl_t (kV k) g = g 3 := by simp [fl_t, hk]
  have e1 : fl_1 g = g 4 := by simp [fl_1, hk]
  have e2 : fl_2 (kV k) g = kV k := by simp [fl_2, hk]
  have er : ∀ a b, fl_r (kh k) g a b = b := fun a b => by simp [fl_r, hk]
  have h1 := ho.2.2.2.2.2.2.2.1 (Or.inl hk)
  have h0 := ho.1
  have G := pg_7 (k := k) (σ := σ) (Or.inl hk)
  rw [e1, e2] at G
  obtain ⟨v0, hv0, r0⟩ := hn
  have sv := (hσ (g 4) v0 (by omega) (by omega)).mpr hv0
  have G0 : ∀ b, σ (kV k) b → fl_G (kh k) (kV k) (kC k) g σ v0 b := fun b hb => (G v0 b).mpr ⟨sv, hb, fun e => by omega, by omega⟩
  obtain ⟨b0, hb0⟩ := pl_ne hσ cg (s := kV k) (by omega) (by omega)
  by_cases es : s = g 3
  · rw [es, ms_s]
    refine cl_hx (pl_s hσ cg (s := kV k) (by omega) (by omega)) fun v => ?_
    rw [fl_d et.symm (by omega) (by omega)]
    constructor
    · intro hv
      exact ⟨v0, v, G0 v hv, (er _ _).symm⟩
    · rintro ⟨a, b, hG, ev⟩
      rw [er] at ev
      rw [ev]
      exact ((G a b).mp hG).2.1
  · rw [ms_n _ _ (by omega)]
    by_cases e4 : s = g 4
    · rw [e4, ms_s]
      refine cl_hx hc fun v => ?_
      rw [fl_a e1.symm (by omega)]
      constructor
      · rintro ⟨p1, p2⟩
        exact ⟨b0, (G v b0).mpr ⟨(hσ _ _ (by omega) (by omega)).mpr p1, hb0, fun e => by omega, by omega⟩⟩
      · rintro ⟨b, hG⟩
        have := (G v b).mp hG
        exact ⟨(hσ _ _ (by omega) (by omega)).mp this.1, by omega⟩
    · rw [ms_n _ _ (by omega), ms_n _ _ (by omega)]
      refine cl_hx (pl_s hσ cg s0 s1) fun v => ?_
      by_cases eV : s = kV k
      · rw [fl_b (by omega) (by omega), eV]
        exact ⟨fun hv => ⟨v0, G0 v hv⟩, fun ⟨a, hG⟩ => ((G a v).mp hG).2.1⟩
      · rw [fl_o (by omega) (by omega) (by omega)]
        exact ⟨fun hv => ⟨⟨v0, b0, G0 b0 hb0⟩, hv⟩, fun p => p.2⟩
theorem pl_8 (ok : k_ok k) (ho : ed_ok (kh k) (kP k) (kV k) g) (hk : g 2 = 8) (hσ : ∀ s v, 0 ≤ s → s ≤ kV k → (σ s v ↔ cl_m (M (40 + s)) v)) (cg : ∀ s, 0 ≤ s → s ≤ kV k → cg_ (M (40 + s))) (hn : ∃ v, cl_m (M (40 + g 4)) v ∧ 0 ≤ v ∧ v ≤ kC k - 1) {c' : cT} (hc : cl_h c' (fun v => cl_m (M (40 + g 4)) v ∧ 0 ≤ v ∧ v ≤ kC k - 1)) {c2 : cT} (hc2 : cl_h c2 (fun v => cl_m (M (40 + kV k)) v ∨ cl_m ((ms M (40 + g 4) c') (40 + g 3)) v)) (s : Int) (s0 : 0 ≤ s) (s1 : s ≤ kV k) : cl_h ((ms (ms (ms M 50 c') (40 + g 4) c') (40 + kV k) c2) (40 + s)) (fl_F (kh k) (kV k) (kC k) g σ s) := by
  have hV := ok.2.1
  have et : fl_t (kV k) g = kV k := by simp [fl_t, hk]
  have e1 : fl_1 g = g 4 := by simp [fl_1, hk]
  have e2 : fl_2 (kV k) g = g 3 := by simp [fl_2, hk]
  have er : ∀ a b, fl_r (kh k) g a b = b := fun a b => by simp [fl_r, hk]
  have h1 := ho.2.2.2.2.2.2.2.1 (Or.inr hk)
  have h0 := ho.1
  have G := pg_7 (k := k) (σ := σ) (Or.inr hk)
  rw [e1, e2] at G
  obtain ⟨v0, hv0, r0⟩ := hn
  have sv := (hσ (g 4) v0 (by omega) (by omega)).mpr hv0
  -- what x holds after the index is cut
  have X : ∀ v, cl_m ((ms M (40 + g 4) c') (40 + g 3)) v ↔ ∃ a, fl_G (kh k) (kV k) (kC k) g σ a v := fun v => by
    by_cases e : g 3 = g 4
    · rw [e, ms_s]
      have hN : cl_N c' (fun v => cl_m (M (40 + g 4)) v ∧ 0 ≤ v ∧ v ≤ kC k - 1) := by
        rcases hc with hc | hc
        · exact absurd ⟨hv0, r0⟩ (hc.2 v0)
        · exact hc
      rw [cl_cm hN]
      constructor
      · rintro ⟨p1, p2⟩
        have := (hσ _ _ (by omega) (by omega)).mpr p1
        exact ⟨v, (G v v).mpr ⟨this, e ▸ this, fun _ => rfl, by omega⟩⟩
      · rintro ⟨a, hG⟩
        have hg := (G a v).mp hG
        have ea := hg.2.2.1 e.symm
        rw [ea] at hg
        exact ⟨(hσ _ _ (by omega) (by omega)).mp hg.1, by omega⟩
    · rw [ms_n _ _ (by omega), ← hσ _ _ (by omega) (by omega)]
      constructor
      · intro p
        exact ⟨v0, (G v0 v).mpr ⟨sv, p, fun q => absurd q.symm e, by omega⟩⟩
      · rintro ⟨a, hG⟩
        exact ((G a v).mp hG).2.1
  have G0 : ∃ a b, fl_G (kh k) (kV k) (kC k) g σ a b := by
    by_cases e : g 3 = g 4
    · exact ⟨v0, v0, (G v0 v0).mpr ⟨sv, e ▸ sv, fun _ => rfl, by omega⟩⟩
    · obtain ⟨b0, hb0⟩ := pl_ne hσ cg (s := g 3) (by omega) (by omega)
      exact ⟨v0, b0, (G v0 b0).mpr ⟨sv, hb0, fun q => absurd q.symm e, by omega⟩⟩
  by_cases es : s = kV k
  · rw [es, ms_s]
    refine cl_hx hc2 fun v => ?_
    rw [fl_st et.symm hk, X, ← hσ _ _ (by omega) (by omega)]
    constructor
    · rintro (p | ⟨a, p⟩)
      · exact Or.inr ⟨G0, p⟩
      · exact Or.inl ⟨a, v, p, (er _ _).symm⟩
    · rintro (⟨a, b, p, q⟩ | p)
      · rw [er] at q
        rw [q]
        exact Or.inr ⟨a, p⟩
      · exact Or.inl p.2
  · rw [ms_n _ _ (by omega)]
    by_cases e4 : s = g 4
    · rw [e4, ms_s]
      refine cl_hx hc fun v => ?_
      rw [fl_a e1.symm (by omega)]
      constructor
      · rintro ⟨p1, p2⟩
        have p3 := (hσ (g 4) v (by omega) (by omega)).mpr p1
        by_cases e : g 3 = g 4
        · exact ⟨v, (G v v).mpr ⟨p3, e ▸ p3, fun _ => rfl, by omega⟩⟩
        · obtain ⟨b0, hb0⟩ := pl_ne hσ cg (s := g 3) (by omega) (by omega)
          exact ⟨b0, (G v b0).mpr ⟨p3, hb0, fun q => absurd q.symm e, by omega⟩⟩
      · rintro ⟨b, hG⟩
        have := (G v b).mp hG
        exact ⟨(hσ _ _ (by omega) (by omega)).mp this.1, by omega⟩
    · rw [ms_n _ _ (by omega), ms_n _ _ (by omega)]
      refine cl_hx (pl_s hσ cg s0 s1) fun v => ?_
      by_cases e3 : s = g 3
      · rw [fl_b (by omega) (by omega), ← X, ms_n _ _ (by omega), e3, ← hσ _ _ (by omega) (by omega)]
      · rw [fl_o (by omega) (by omega) (by omega)]
        exact ⟨fun hv => ⟨G0, hv⟩, fun p => p.2⟩
end
end
section
/-! ===== X: post (walk) ===== -/
section
variable {k : kT} {z : zT} {R : rT} {M : mT}
theorem x_pb {post : SX → Prop} (ok : k_ok k) {e : Int} (he : 0 ≤ e ∧ e < kE k) {g : Int → Int} (hg : kA k e = g) (hx : x_ok k M) (hr : ∀ s, 0 ≤ s → s ≤ kV k → M (40 + s) = M (4 * g 0 + s)) (h : ∀ M' : mT, (∀ j, j < 40 ∨ (44 ≤ j ∧ j < 48) → M' j = M j) → (∀ s, 0 ≤ s → s ≤ kV k → cl_h (M' (40 + s)) (fl_F (kh k) (kV k) (kC k) g (xM k M (g 0)) s)) → post (XC k z R M')) (n : Nat) : wX_post_11 post (iI e) (iI (4 * g 0)) (n + 1) (iI (kV k + 1)) (iI (kB k)) (iI (kP k)) (iI (kV k)) (iI (kC k)) (iI (-kh k)) (iI (kh k - 1)) (iI (kE k)) (iI (kN k)) z.1 40 44 48 49 50 51 z.2.1 z.2.2.1 z.2.2.2.1 z.2.2.2.2.1 (xA k 0) (xA k 1) (xA k 2) (xA k 3) (xA k 4) (xA k 5) (xA k 6) (xH k) (xL (M)) (xU (M)) (xS (M)) R.1 R.2.1 R.2.2.1 R.2.2.2 z.2.2.2.2.2.1 z.2.2.2.2.2.2 := by
  have hV := ok.2.1
  have hh := k_h ok
  have ho := ok.2.2.1 e he.1 he.2
  rw [hg] at ho
  have o0 := ho.1
  have o9 := ho.2.2.2.2.2.2.2.2.1
  have hin : vp_in (iI e) 20 := ii_in (by omega) (by omega) (by omega)
  have xg : ∀ f, xA k f (iI e).toNatClampNeg = iI (g f) := fun f => by rw [xa_g k f (by omega), hg]
  have hp : 0 ≤ g 0 ∧ g 0 < kP k := ⟨o0.1, o0.2.1⟩
  have hσ : ∀ s v, 0 ≤ s → s ≤ kV k → (xM k M (g 0) s v ↔ cl_m (M (40 + s)) v) := fun s v s0 s1 => by
    unfold xM
    rw [hr s s0 s1]
    exact ⟨fun q => q.2, fun q => ⟨⟨hp.1, hp.2, s0, s1⟩, q⟩⟩
  refine ib_lt (kV k) (kV k + 1) (fun _ => x_emp (c := 4 * g 0) rfl (by omega) (by have := xo_s hx ok (p := g 0) (s := 0) ⟨hp.1, hp.2, by omega, by omega⟩; rw [Int.add_zero] at this; exact this) (fun el => br_t rfl ?_) (fun el => br_f (by decide) (h M (fun _ _ => rfl) (fun s s0 s1 => ?_)))) (fun q => by omega) rfl rfl (by omega)
  · have cg : ∀ s, 0 ≤ s → s ≤ kV k → cg_ (M (40 + s)) := fun s s0 s1 => by
      rw [hr s s0 s1]
      exact xo_n hx ok hp el s s0 s1
    have n51 : ∀ (w : Int) (s : Int), 0 ≤ s → s ≤ kV k → (ms M 51 (w, w, if w = w then 0 else 0)) (40 + s) = M (40 + s) := fun w s s0 s1 => ms_n _ _ (by omega)
    have s51 : ∀ w : Int, (ms M 51 (w, w, if w = w then 0 else 0)) 51 = (w, w, 0) := fun w => by rw [ms_s, if_pos rfl]
    have g51 : ∀ w : Int, -16 ≤ w ∧ w ≤ 16 → cg_ (w, w, 0) := fun w hw => ⟨Or.inl ⟨rfl, rfl⟩, hw.1, hw.2⟩
    have x40 : ∀ f, (40 : Int32) + xA k f (iI e).toNatClampNeg = iI (40 + g f) := fun f => by
      rw [xg f]
      exact ii_add 40 (g f)
    refine And.intro hin (nm_r (x40 3) (And.intro hin (nm_r (xg 2) (ib_lt (g 2) 1 (fun q => ?_) (fun q => ib_lt 8 (g 2) (fun q8 => by omega) (fun q8 => ib_eq (g 2) 1 (fun hk => ?_) (fun k1 => ib_eq (g 2) 2 (fun hk => ?_) (fun k2 => ib_eq (g 2) 3 (fun hk => ?_) (fun k3 => ib_eq (g 2) 4 (fun hk => ?_) (fun k4 => ib_eq (g 2) 5 (fun hk => ?_) (fun k5 => ib_eq (g 2) 6 (fun hk => ?_) (fun k6 => ?_) rfl rfl (by omega)) rfl rfl (by omega)) rfl rfl (by omega)) rfl rfl (by omega)) rfl rfl (by omega)) rfl rfl (by omega)) rfl rfl (by omega)) rfl rfl (by omega)))))
    · exact h M (fun _ _ => rfl) (pl_0 ok ho (by omega) hσ cg)
    · have o1 := ho.2.1 hk
      refine And.intro hin (And.intro hin (And.intro hin (x_ari ok (op := g 4) (a := 40 + g 5) (b := 40 + g 6) (xg 4) (x40 5) (x40 6) (by omega) (by omega) (by omega) (cg _ (by omega) (by omega)) (cg _ (by omega) (by omega)) (fun M' hf hM => x_copy (c := 40 + g 3) (d := 48) rfl rfl (by omega) (by omega) (h _ (fun j hj => ?_) (pl_1 ok ho hk hσ cg hf hM))))))
      rw [ms_n _ _ (by omega), hf j (by omega) (by omega)]
    · have o2 := ho.2.2.1 hk
      refine And.intro hin (And.intro hin (x_set (c := 51) (lo := g 6) (hi := g 6) (st := 0) rfl (xg 6) (xg 6) rfl (by omega) (by omega) (And.intro hin (And.intro hin (x_ari ok (op := g 4) (a := 40 + g 5) (b := 51) (xg 4) (x40 5) rfl (by omega) (by omega) (by omega) (by rw [n51 _ _ (by omega) (by omega)]; exact cg _ (by omega) (by omega)) (by rw [s51]; exact g51 _ (by omega)) (fun M' hf hM => x_copy (c := 40 + g 3) (d := 48) rfl rfl (by omega) (by omega) (h _ (fun j hj => ?_) (pl_2 ok ho hk hσ cg (fun j j1 j2 j3 => ?_) ?_))))))))
      · rw [ms_n _ _ (by omega), hf j (by omega) (by omega), ms_n _ _ (by omega)]
      · rw [hf j j1 j2, ms_n _ _ j3]
      · rw [n51 _ _ (by omega) (by omega), s51] at hM
        exact hM
    · have o3 := ho.2.2.2.1 hk
      refine And.intro hin (And.intro hin (x_set (c := 40 + g 3) (lo := g 4) (hi := g 5) (st := 1) rfl (xg 4) (xg 5) rfl (by omega) (by omega) (h _ (fun j hj => ms_n _ _ (by omega)) (pl_3 ok ho hk hσ cg))))
    · have o4 := ho.2.2.2.2.1 hk
      have et : fl_t (kV k) g = -1 := by simp [fl_t, hk]
      have e1 : fl_1 g = g 3 := by simp [fl_1, hk]
      have e2 : fl_2 (kV k) g = g 5 := by simp [fl_2, hk]
      have c3 := cg (g 3) (by omega) (by omega)
      have c5 := cg (g 5) (by omega) (by omega)
      have G := pg_4 (k := k) (σ := xM k M (g 0)) hk e1 e2
      have s3 := fun v => hσ (g 3) v (by omega) (by omega)
      have s5 := fun v => hσ (g 5) v (by omega) (by omega)
      refine And.intro hin (And.intro hin (x_kp (a := 40 + g 3) (r := g 4) (b := 40 + g 5) rfl (xg 4) (x40 5) (by omega) (by omega) c3 c5 (by omega) (fun M' hf h48 h49 => And.intro hin ?_)))
      have H8 : cl_h (M' 48) (fun v => ∃ b, fl_G (kh k) (kV k) (kC k) g (xM k M (g 0)) v b) := cl_hx h48 fun v => by
        constructor
        · rintro ⟨p1, y, p2, p3, p4⟩
          exact ⟨y, (G v y).mpr ⟨(s3 v).mpr p1, (s5 y).mpr p2, fun q => p3 (by omega), p4⟩⟩
        · rintro ⟨y, hG⟩
          obtain ⟨p1, p2, p3, p4⟩ := (G v y).mp hG
          exact ⟨(s3 v).mp p1, y, (s5 y).mp p2, fun q => p3 (by omega), p4⟩
      have H9 : cl_h (M' 49) (fun v => ∃ a, fl_G (kh k) (kV k) (kC k) g (xM k M (g 0)) a v) := cl_hx h49 fun v => by
        constructor
        · rintro ⟨p1, y, p2, p3, p4⟩
          exact ⟨y, (G y v).mpr ⟨(s3 y).mpr p2, (s5 v).mpr p1, fun q => p3 (by omega), p4⟩⟩
        · rintro ⟨y, hG⟩
          obtain ⟨p1, p2, p3, p4⟩ := (G y v).mp hG
          exact ⟨(s5 v).mp p2, y, (s3 y).mp p1, fun q => p3 (by omega), p4⟩
      refine x_nar ok (a := 40 + g 3) (b := 40 + g 5) rfl (x40 5) (by omega) (Or.inl (by omega)) (cs_h h48 (fun v hv => by have := cg_m c3 hv.1; omega)) (fun hl => h _ (fun j hj => ?_) (pl_n et hσ cg (fun j j1 j2 j3 _ => hf j j1 j2 j3) e1 (by omega) (Or.inl ⟨by rw [e2], by omega, by omega, H9⟩) H8 hl)) (fun hl M'' q1 q2 => h _ (fun j hj => (q2 j hj).trans (hf j (by omega) (by omega) (by omega))) (pl_e (cl_h0 H8 hl).2 q1))
      rw [ms_n _ _ (by omega), ms_n _ _ (by omega), hf j (by omega) (by omega) (by omega)]
    · have o5 := ho.2.2.2.2.2.1 hk
      have et : fl_t (kV k) g = -1 := by simp [fl_t, hk]
      have e1 : fl_1 g = g 3 := by simp [fl_1, hk]
      have e2 : fl_2 (kV k) g = g 3 := by simp [fl_2, hk]
      have c3 := cg (g 3) (by omega) (by omega)
      have G := pg_5 (k := k) (σ := xM k M (g 0)) hk e1 e2
      have s3 := fun v => hσ (g 3) v (by omega) (by omega)
      refine And.intro hin (And.intro hin (x_set (c := 51) (lo := g 5) (hi := g 5) (st := 0) rfl (xg 5) (xg 5) rfl (by omega) (by omega) (And.intro hin (x_kp (a := 40 + g 3) (r := g 4) (b := 51) rfl (xg 4) rfl (by omega) (by omega) (by rw [n51 _ _ (by omega) (by omega)]; exact c3) (by rw [s51]; exact g51 _ (by omega)) (by omega) (fun M' hf h48 h49 => ?_)))))
      rw [n51 _ _ (by omega) (by omega), s51] at h48
      have hf2 : ∀ j, j ≠ 48 → j ≠ 49 → j ≠ 50 → j ≠ 51 → M' j = M j := fun j j1 j2 j3 j4 => (hf j j1 j2 j3).trans (ms_n _ _ j4)
      have H8 : cl_h (M' 48) (fun v => ∃ b, fl_G (kh k) (kV k) (kC k) g (xM k M (g 0)) v b) := cl_hx h48 fun v => by
        constructor
        · rintro ⟨p1, y, p2, p3, p4⟩
          have ey : y = g 5 := by have := p2.1; have := p2.2.1; dsimp only at *; omega
          rw [ey] at p4
          exact ⟨v, (G v v).mpr ⟨(s3 v).mpr p1, rfl, p4⟩⟩
        · rintro ⟨y, hG⟩
          obtain ⟨p1, p2, p4⟩ := (G v y).mp hG
          exact ⟨(s3 v).mp p1, g 5, cl_lo (Or.inl ⟨rfl, rfl⟩), fun q => by omega, p4⟩
      refine x_nar ok (a := 40 + g 3) (b := 51) rfl rfl (by omega) (Or.inr rfl) (cs_h h48 (fun v hv => by have := cg_m c3 hv.1; omega)) (fun hl => h _ (fun j hj => ?_) (pl_n et hσ cg hf2 e1 (by omega) (Or.inr ⟨rfl, e2⟩) H8 hl)) (fun hl M'' q1 q2 => h _ (fun j hj => (q2 j hj).trans (hf2 j (by omega) (by omega) (by omega) (by omega))) (pl_e (cl_h0 H8 hl).2 q1))
      rw [ms_n _ _ (by omega), ms_n _ _ (by omega), hf2 j (by omega) (by omega) (by omega) (by omega)]
    · have o6 := ho.2.2.2.2.2.2.1 hk
      have et : fl_t (kV k) g = -1 := by simp [fl_t, hk]
      have e1 : fl_1 g = g 3 := by simp [fl_1, hk]
      have e2 : fl_2 (kV k) g = g 4 := by simp [fl_2, hk]
      have c3 := cg (g 3) (by omega) (by omega)
      have c4 := cg (g 4) (by omega) (by omega)
      have G := pg_6 (k := k) (σ := xM k M (g 0)) hk e1 e2
      have s3 := fun v => hσ (g 3) v (by omega) (by omega)
      have s4 := fun v => hσ (g 4) v (by omega) (by omega)
      refine And.intro hin (And.intro hin (And.intro hin (x_ks ok (a := 40 + g 3) (b := 40 + g 4) (r := g 5) (w := g 6) rfl (x40 4) (xg 5) (xg 6) (by omega) (by omega) c3 c4 (by omega) (by omega) (fun M' hf h48 h49 => And.intro hin ?_))))
      have H8 : cl_h (M' 48) (fun v => ∃ b, fl_G (kh k) (kV k) (kC k) g (xM k M (g 0)) v b) := cl_hx h48 fun v => by
        constructor
        · rintro ⟨p1, y, p2, p3, p4⟩
          exact ⟨y, (G v y).mpr ⟨(s3 v).mpr p1, (s4 y).mpr p2, fun q => p3 (by omega), p4⟩⟩
        · rintro ⟨y, hG⟩
          obtain ⟨p1, p2, p3, p4⟩ := (G v y).mp hG
          exact ⟨(s3 v).mp p1, y, (s4 y).mp p2, fun q => p3 (by omega), p4⟩
      have H9 : cl_h (M' 49) (fun v => ∃ a, fl_G (kh k) (kV k) (kC k) g (xM k M (g 0)) a v) := cl_hx h49 fun v => by
        constructor
        · rintro ⟨p1, y, p2, p3, p4⟩
          exact ⟨y, (G y v).mpr ⟨(s3 y).mpr p2, (s4 v).mpr p1, fun q => p3 (by omega), p4⟩⟩
        · rintro ⟨y, hG⟩
          obtain ⟨p1, p2, p3, p4⟩ := (G y v).mp hG
          exact ⟨(s4 v).mp p2, y, (s3 y).mp p1, fun q => p3 (by omega), p4⟩
      refine x_nar ok (a := 40 + g 3) (b := 40 + g 4) rfl (x40 4) (by omega) (Or.inl (by omega)) (cs_h h48 (fun v hv => by have := cg_m c3 hv.1; omega)) (fun hl => h _ (fun j hj => ?_) (pl_n et hσ cg (fun j j1 j2 j3 _ => hf j j1 j2 j3) e1 (by omega) (Or.inl ⟨by rw [e2], by omega, by omega, H9⟩) H8 hl)) (fun hl M'' q1 q2 => h _ (fun j hj => (q2 j hj).trans (hf j (by omega) (by omega) (by omega))) (pl_e (cl_h0 H8 hl).2 q1))
      rw [ms_n _ _ (by omega), ms_n _ _ (by omega), hf j (by omega) (by omega) (by omega)]
    · have k78 : g 2 = 7 ∨ g 2 = 8 := by omega
      have o7 := ho.2.2.2.2.2.2.2.1 k78
      have c3 := cg (g 3) (by omega) (by omega)
      have c4 := cg (g 4) (by omega) (by omega)
      have cV := cg (kV k) (by omega) (by omega)
      have e1 : fl_1 g = g 4 := by rcases k78 with q | q <;> simp [fl_1, q]
      have main : wX_post_339 post (iI e) (iI (40 + g 3)) (iI (kB k)) (iI (kP k)) (iI (kV k)) (iI (kC k)) (iI (-kh k)) (iI (kh k - 1)) (iI (kE k)) (iI (kN k)) z.1 40 44 48 49 50 51 z.2.1 z.2.2.1 z.2.2.2.1 z.2.2.2.2.1 (xA k 0) (xA k 1) (xA k 2) (xA k 3) (xA k 4) (xA k 5) (xA k 6) (xH k) (xL (M)) (xU (M)) (xS (M)) R.1 R.2.1 R.2.2.1 R.2.2.2 z.2.2.2.2.2.1 z.2.2.2.2.2.2 := by
        refine And.intro hin (And.intro hin (x_pac ok (kd := g 2) (a := 40 + g 3) (b := 40 + g 4) (xg 2) rfl (x40 4) k78 (by omega) (by omega) c4 c3 cV (fun hno M' q1 q2 => h M' q2 (pl_e (fun v ⟨b, hG⟩ => ?_) q1)) (fun hn c' hc' => ⟨fun hk => h _ (fun j hj => ?_) (pl_7 ok ho hk hσ cg hn hc'), fun hk c2 hc2 => h _ (fun j hj => ?_) (pl_8 ok ho hk hσ cg hn hc' hc2)⟩)))
        · have hG2 := (pg_7 (k := k) k78 v b).mp hG
          rw [e1] at hG2
          exact hno v ⟨(hσ (g 4) v (by omega) (by omega)).mp hG2.1, by omega⟩
        · rw [ms_n _ _ (by omega), ms_n _ _ (by omega), ms_n _ _ (by omega)]
        · rw [ms_n _ _ (by omega), ms_n _ _ (by omega), ms_n _ _ (by omega)]
      exact ib_eq (g 2) 7 (fun _ => main) (fun _ => ib_eq (g 2) 8 (fun _ => main) (fun _ => trivial) rfl rfl (by omega)) rfl rfl (by omega)
  · rw [hr s s0 s1, xo_0 hx ok hp el s s0 s1]
    refine cl_he fun v => fl_no (fun a b hG => ?_) s v
    obtain ⟨⟨_, _, d3, d4⟩, d5⟩ := hG.1
    rw [xo_0 hx ok hp el _ d3 d4] at d5
    exact cl_me d5
theorem x_post11 {post : SX → Prop} (ok : k_ok k) {e : Int} (he : 0 ≤ e ∧ e < kE k) {g : Int → Int} (hg : kA k e = g) (hx : x_ok k M) (h : ∀ M' : mT, (∀ j, j < 40 ∨ (44 ≤ j ∧ j < 48) → M' j = M j) → (∀ s, 0 ≤ s → s ≤ kV k → cl_h (M' (40 + s)) (fl_F (kh k) (kV k) (kC k) g (xM k M (g 0)) s)) → post (XC k z R M')) : ∀ (n : Nat) (s : Int) (M' : mT), (∀ j, 0 ≤ j → j < s → M' (40 + j) = M (4 * g 0 + j)) → (∀ j, j < 40 ∨ (44 ≤ j ∧ j < 48) → M' j = M j) → 0 ≤ s → s ≤ kV k + 1 → (kV k + 1 - s).toNat < n → wX_post_11 post (iI e) (iI (4 * g 0)) n (iI s) (iI (kB k)) (iI (kP k)) (iI (kV k)) (iI (kC k)) (iI (-kh k)) (iI (kh k - 1)) (iI (kE k)) (iI (kN k)) z.1 40 44 48 49 50 51 z.2.1 z.2.2.1 z.2.2.2.1 z.2.2.2.2.1 (xA k 0) (xA k 1) (xA k 2) (xA k 3) (xA k 4) (xA k 5) (xA k 6) (xH k) (xL (M')) (xU (M')) (xS (M')) R.1 R.2.1 R.2.2.1 R.2.2.2 z.2.2.2.2.2.1 z.2.2.2.2.2.2
  | 0, _, _, _, _, _, _, hn => by omega
  | n + 1, s, M', h1, h2, s0, s1, hn => by
    have hV := ok.2.1
    have ho := (ok.2.2.1 e he.1 he.2).1
    rw [hg] at ho
    have exM : xM k M' = xM k M := by
      funext p q v
      unfold xM
      by_cases d : k_d k p q
      · obtain ⟨d1, d2, d3, d4⟩ := d
        rw [h2 _ (by omega)]
      · exact propext ⟨fun x => absurd x.1 d, fun x => absurd x.1 d⟩
    by_cases e2 : s = kV k + 1
    · subst e2
      refine x_pb ok he hg ⟨fun p q d => ?_, by rw [exM]; exact hx.2⟩ (fun q q0 q1 => ?_) (fun M'' f1 f2 => h M'' (fun j hj => (f1 j hj).trans (h2 j hj)) (by rw [exM] at f2; exact f2)) n
      · obtain ⟨d1, d2, d3, d4⟩ := d
        rw [h2 _ (by omega)]
        exact hx.1 p q ⟨d1, d2, d3, d4⟩
      · rw [h1 q q0 (by omega), h2 _ (by omega)]
    · refine ib_lt (kV k) s (fun q => by omega) (fun _ => x_copy (c := 40 + s) (d := 4 * g 0 + s) (ii_add 40 s) (ii_add _ s) (by omega) (by omega) (nm_r (ii_add s 1) (x_post11 ok he hg hx h n (s + 1) _ (fun j j0 j1 => ?_) (fun j hj => ?_) (by omega) (by omega) (by omega)))) rfl rfl (by omega)
      · by_cases ej : j = s
        · rw [ej, ms_s, h2 _ (by omega)]
        · rw [ms_n _ _ (by omega)]
          exact h1 j j0 (by omega)
      · rw [ms_n _ _ (by omega)]
        exact h2 j hj
theorem x_post {post : SX → Prop} (ok : k_ok k) {e : Int} {x : Int32} (h0 : x = iI e) (he : 0 ≤ e ∧ e < kE k) (hx : x_ok k M) (h : ∀ M' : mT, (∀ j, j < 40 ∨ (44 ≤ j ∧ j < 48) → M' j = M j) → (∀ s, 0 ≤ s → s ≤ kV k → cl_h (M' (40 + s)) (fl_F (kh k) (kV k) (kC k) (kA k e) (xM k M (kA k e 0)) s)) → post (XC k z R M')) : wpX_post post (XC k z R M) x := by
  subst h0
  have hV := ok.2.1
  have hin : vp_in (iI e) 20 := ii_in (by omega) (by omega) (by omega)
  exact And.intro hin (nm_r (e' := iI (4 * kA k e 0)) (by rw [xa_g k 0 (by omega)]; exact ii_mul 4 _) (Exists.intro 10 (x_post11 ok he rfl hx h 10 0 M (fun j j0 j1 => by omega) (fun j _ => rfl) (by omega) (by omega) (by omega))))
end
end
section
/-! ===== X: computeIn, isHead, widenRow, replaceRow ===== -/
def k_ii (k : kT) (A : aT) (p i s v : Int) : Prop := (p = 0 ∧ v = 0) ∨ ∃ e, 0 ≤ e ∧ e < i ∧ kA k e 1 = p ∧ fl_F (kh k) (kV k) (kC k) (kA k e) (A (kA k e 0)) s v
theorem k_ii_in {k : kT} {A : aT} {p i s v : Int} (hi : i ≤ kE k) (h : k_ii k A p i s v) : k_in k A p s v := by
  rcases h with h | ⟨e, e1, e2, e3⟩
  · exact Or.inl h
  · exact Or.inr ⟨e, e1, by omega, e3⟩
theorem xM_e {k : kT} {M M' : mT} (ok : k_ok k) (h : ∀ j, j < 40 → M' j = M j) : xM k M' = xM k M := by
  have hV := ok.2.1
  funext p q v
  unfold xM
  by_cases d : k_d k p q
  · obtain ⟨d1, d2, d3, d4⟩ := d
    rw [h _ (by omega)]
  · exact propext ⟨fun x => absurd x.1 d, fun x => absurd x.1 d⟩
theorem xo_f {k : kT} {M M' : mT} (ok : k_ok k) (h : ∀ j, j < 40 → M' j = M j) (hx : x_ok k M) : x_ok k M' := by
  have hV := ok.2.1
  refine ⟨fun p q d => ?_, by rw [xM_e ok h]; exact hx.2⟩
  obtain ⟨d1, d2, d3, d4⟩ := d
  rw [h _ (by omega)]
  exact hx.1 p q ⟨d1, d2, d3, d4⟩
section
variable {k : kT} {z : zT} {R : rT} {M : mT}
theorem x_cin64 {post : SX → Prop} (ok : k_ok k) {p i : Int} {J : mT → Prop} {W : Int32 → Int32 → Int32 → Int32 → Int32 → Int32 → Int32 → Int32 → Int32 → Int32 → Int32 → Int32 → Int32 → Int32 → Int32 → Int32 → Int32 → Int32 → Int32 → Int32 → (Nat → Int32) → (Nat → Int32) → (Nat → Int32) → (Nat → Int32) → (Nat → Int32) → (Nat → Int32) → (Nat → Int32) → (Nat → Int32) → (Nat → Int32) → (Nat → Int32) → (Nat → Int32) → (Nat → Int32) → (Nat → Int32) → (Nat → Int32) → (Nat → Int32) → (Nat → Int32) → (Nat → Int32) → Prop} (hJ : ∀ M' : mT, J M' → W (iI (i + 1)) (iI (kB k)) (iI (kP k)) (iI (kV k)) (iI (kC k)) (iI (-kh k)) (iI (kh k - 1)) (iI (kE k)) (iI (kN k)) z.1 40 44 48 49 50 51 z.2.1 z.2.2.1 z.2.2.2.1 z.2.2.2.2.1 (xA k 0) (xA k 1) (xA k 2) (xA k 3) (xA k 4) (xA k 5) (xA k 6) (xH k) (xL (M')) (xU (M')) (xS (M')) R.1 R.2.1 R.2.2.1 R.2.2.2 z.2.2.2.2.2.1 z.2.2.2.2.2.2) {S T : Int → Int → Prop} (rS : ∀ s v, S s v → -16 ≤ v ∧ v ≤ 16) (rT : ∀ s v, T s v → -16 ≤ v ∧ v ≤ 16) (h : ∀ M' : mT, (∀ j, j < 40 → M' j = M j) → (∀ s, 0 ≤ s → s ≤ kV k → cl_h (M' (44 + s)) (fun v => S s v ∨ T s v)) → J M') : ∀ (n : Nat) (s : Int) (M' : mT), (∀ j, j < 40 → M' j = M j) → (∀ q, 0 ≤ q → q ≤ kV k → cl_h (M' (40 + q)) (T q)) → (∀ q, 0 ≤ q → q < s → q ≤ kV k → cl_h (M' (44 + q)) (fun v => S q v ∨ T q v)) → (∀ q, s ≤ q → q ≤ kV k → cl_h (M' (44 + q)) (S q)) → 0 ≤ s → s ≤ kV k + 1 → (kV k + 1 - s).toNat < n → wX_computeIn_64 post W (iI p) (iI i) n (iI s) (iI (kB k)) (iI (kP k)) (iI (kV k)) (iI (kC k)) (iI (-kh k)) (iI (kh k - 1)) (iI (kE k)) (iI (kN k)) z.1 40 44 48 49 50 51 z.2.1 z.2.2.1 z.2.2.2.1 z.2.2.2.2.1 (xA k 0) (xA k 1) (xA k 2) (xA k 3) (xA k 4) (xA k 5) (xA k 6) (xH k) (xL (M')) (xU (M')) (xS (M')) R.1 R.2.1 R.2.2.1 R.2.2.2 z.2.2.2.2.2.1 z.2.2.2.2.2.2
  | 0, _, _, _, _, _, _, _, _, hn => by omega
  | n + 1, s, M', h1, h2, h3, h4, s0, s1, hn => by
    have hV := ok.2.1
    refine ib_lt (kV k) s (fun q => nm_r (ii_add i 1) (hJ M' (h M' h1 (fun u u0 u1 => h3 u u0 (by omega) u1)))) (fun q => nm_r (ii_add 40 s) ?_) rfl rfl (by omega)
    have hin : vp_in (iI (40 + s)) 52 := ii_in (by omega) (by omega) (by omega)
    have hT := h2 s s0 (by omega)
    have cb := cs_h hT (fun v hv => by have := rT s v hv; omega)
    unfold cs_ at cb
    refine And.intro hin (And.intro hin (And.intro hin (x_join (c := 44 + s) (lo := (M' (40 + s)).1) (hi := (M' (40 + s)).2.1) (st := (M' (40 + s)).2.2) (S := S s) (T := T s) (ii_add 44 s) (xl_g M' (by omega)) (xu_g M' (by omega)) (xs_g M' (by omega)) (by omega) (h4 s (by omega) (by omega)) (rS s) (by omega) (jo_0 hT (rT s)) (fun c' hc' => nm_r (ii_add s 1) (x_cin64 ok hJ rS rT h n (s + 1) _ (fun j hj => ?_) (fun u u0 u1 => ?_) (fun u u0 u1 u2 => ?_) (fun u u0 u1 => ?_) (by omega) (by omega) (by omega))))))
    · rw [ms_n _ _ (by omega)]
      exact h1 j hj
    · rw [ms_n _ _ (by omega)]
      exact h2 u u0 u1
    · by_cases eu : u = s
      · rw [eu, ms_s]
        exact hc'
      · rw [ms_n _ _ (by omega)]
        exact h3 u u0 (by omega) u2
    · rw [ms_n _ _ (by omega)]
      exact h4 u (by omega) u1
theorem x_cin39 {post : SX → Prop} (ok : k_ok k) {p : Int} (hp : 0 ≤ p ∧ p < kP k) (hx : x_ok k M) (h : ∀ M' : mT, (∀ j, j < 40 → M' j = M j) → (∀ s, 0 ≤ s → s ≤ kV k → cl_h (M' (44 + s)) (k_in k (xM k M) p s)) → post (XC k z R M')) : ∀ (n : Nat) (i : Int) (M' : mT), (∀ j, j < 40 → M' j = M j) → (∀ s, 0 ≤ s → s ≤ kV k → cl_h (M' (44 + s)) (k_ii k (xM k M) p i s)) → 0 ≤ i → i ≤ kE k → (kE k - i).toNat < n → wX_computeIn_39 post (iI p) n (iI i) (iI (kB k)) (iI (kP k)) (iI (kV k)) (iI (kC k)) (iI (-kh k)) (iI (kh k - 1)) (iI (kE k)) (iI (kN k)) z.1 40 44 48 49 50 51 z.2.1 z.2.2.1 z.2.2.2.1 z.2.2.2.2.1 (xA k 0) (xA k 1) (xA k 2) (xA k 3) (xA k 4) (xA k 5) (xA k 6) (xH k) (xL (M')) (xU (M')) (xS (M')) R.1 R.2.1 R.2.2.1 R.2.2.2 z.2.2.2.2.2.1 z.2.2.2.2.2.2
  | 0, _, _, _, _, _, _, hn => by omega
  | n + 1, i, M', h1, h2, i0, i1, hn => by
    have hV := ok.2.1
    refine ib_le (kE k) i (fun q => h M' h1 ?_) (fun q => ?_) rfl rfl (by omega)
    · have e : i = kE k := by omega
      subst e
      exact h2
    · have hin : vp_in (iI i) 20 := ii_in (by omega) (by omega) (by omega)
      have ho := (ok.2.2.1 i i0 q).1
      refine And.intro hin (ib_eq (kA k i 1) p (fun et => ?_) (fun et => nm_r (ii_add i 1) (x_cin39 ok hp hx h n (i + 1) M' h1 (fun s s0 s1 => cl_hx (h2 s s0 s1) fun v => ?_) (by omega) (by omega) (by omega))) (xa_g k 1 (by omega)) rfl (by omega))
      · have eM := xM_e ok h1
        refine x_post ok rfl ⟨i0, q⟩ (xo_f ok h1 hx) (fun M'' f1 f2 => Exists.intro 10 ?_)
        rw [eM] at f2
        refine x_cin64 (M := M) ok (J := fun M3 => (∀ j, j < 40 → M3 j = M j) ∧ ∀ s, 0 ≤ s → s ≤ kV k → cl_h (M3 (44 + s)) (k_ii k (xM k M) p (i + 1) s)) (fun M3 h3 => x_cin39 ok hp hx h n (i + 1) M3 h3.1 h3.2 (by omega) (by omega) (by omega)) (S := fun s => k_ii k (xM k M) p i s) (T := fun s v => fl_F (kh k) (kV k) (kC k) (kA k i) (xM k M (kA k i 0)) s v) (fun s v hv => ?_) (fun s v hv => ?_) (fun M3 g1 g2 => ⟨g1, fun s s0 s1 => cl_hx (g2 s s0 s1) fun v => ?_⟩) 10 0 M'' (fun j hj => (f1 j (by omega)).trans (h1 j hj)) f2 (fun u u0 u1 => by omega) (fun u u0 u1 => by rw [f1 _ (by omega)]; exact h2 u u0 u1) (by omega) (by omega) (by omega)
        · have := k_inr ok hx.2 (k_ii_in i1 hv)
          have := k_h ok
          omega
        · have := k_inr ok hx.2 (p := p) (s := s) (v := v) (Or.inr ⟨i, i0, q, et, hv⟩)
          have := k_h ok
          omega
        · constructor
          · rintro ((hv | ⟨e, e1, e2, e3⟩) | hv)
            · exact Or.inl hv
            · exact Or.inr ⟨e, e1, by omega, e3⟩
            · exact Or.inr ⟨i, i0, by omega, et, hv⟩
          · rintro (hv | ⟨e, e1, e2, e3, e4⟩)
            · exact Or.inl (Or.inl hv)
            · by_cases ee : e = i
              · subst ee
                exact Or.inr e4
              · exact Or.inl (Or.inr ⟨e, e1, by omega, e3, e4⟩)
      · constructor
        · rintro (hv | ⟨e, e1, e2, e3⟩)
          · exact Or.inl hv
          · exact Or.inr ⟨e, e1, by omega, e3⟩
        · rintro (hv | ⟨e, e1, e2, e3, e4⟩)
          · exact Or.inl hv
          · by_cases ee : e = i
            · subst ee
              exact absurd e3 et
            · exact Or.inr ⟨e, e1, by omega, e3, e4⟩
theorem x_cin12 {post : SX → Prop} (ok : k_ok k) (hx : x_ok k M) (h : ∀ M' : mT, (∀ j, j < 40 → M' j = M j) → (∀ s, 0 ≤ s → s ≤ kV k → cl_h (M' (44 + s)) (k_in k (xM k M) 0 s)) → post (XC k z R M')) : ∀ (n : Nat) (s : Int) (M' : mT), (∀ j, j < 40 → M' j = M j) → (∀ q, 0 ≤ q → q < s → q ≤ kV k → M' (44 + q) = (0, 0, 0)) → 0 ≤ s → s ≤ kV k + 1 → (kV k + 1 - s).toNat < n → wX_computeIn_12 post (iI 0) n (iI s) (iI (kB k)) (iI (kP k)) (iI (kV k)) (iI (kC k)) (iI (-kh k)) (iI (kh k - 1)) (iI (kE k)) (iI (kN k)) z.1 40 44 48 49 50 51 z.2.1 z.2.2.1 z.2.2.2.1 z.2.2.2.2.1 (xA k 0) (xA k 1) (xA k 2) (xA k 3) (xA k 4) (xA k 5) (xA k 6) (xH k) (xL (M')) (xU (M')) (xS (M')) R.1 R.2.1 R.2.2.1 R.2.2.2 z.2.2.2.2.2.1 z.2.2.2.2.2.2
  | 0, _, _, _, _, _, _, hn => by omega
  | n + 1, s, M', h1, h2, s0, s1, hn => by
    have hV := ok.2.1
    refine ib_lt (kV k) s (fun q => Exists.intro 30 (x_cin39 ok (by omega) hx h 30 0 M' h1 (fun u u0 u1 => ?_) (by omega) (by omega) (by omega))) (fun q => x_set (c := 44 + s) (lo := 0) (hi := 0) (st := 0) (ii_add 44 s) rfl rfl rfl (by omega) (by omega) (nm_r (ii_add s 1) (x_cin12 ok hx h n (s + 1) _ (fun j hj => ?_) (fun u u0 u1 u2 => ?_) (by omega) (by omega) (by omega)))) rfl rfl (by omega)
    · rw [h2 u u0 (by omega) u1]
      refine cl_Nh (cl_Nx (cl_1 0) fun v => ⟨fun hv => Or.inl ⟨rfl, hv⟩, ?_⟩)
      rintro (hv | ⟨e, e1, e2, _⟩)
      · exact hv.2
      · omega
    · rw [ms_n _ _ (by omega)]
      exact h1 j hj
    · by_cases eu : u = s
      · rw [eu, ms_s, if_pos rfl]
      · rw [ms_n _ _ (by omega)]
        exact h2 u u0 (by omega) u2
theorem x_cin {post : SX → Prop} (ok : k_ok k) {p : Int} {x : Int32} (h0 : x = iI p) (hp : 0 ≤ p ∧ p < kP k) (hx : x_ok k M) (h : ∀ M' : mT, (∀ j, j < 40 → M' j = M j) → (∀ s, 0 ≤ s → s ≤ kV k → cl_h (M' (44 + s)) (k_in k (xM k M) p s)) → post (XC k z R M')) : wpX_computeIn post (XC k z R M) x := by
  subst h0
  have hV := ok.2.1
  unfold wpX_computeIn
  dsimp only [XC, XD]
  refine x_clr ok (r := 44) rfl (by omega) (fun M' q1 q2 => ?_)
  have f1 : ∀ j, j < 40 → M' j = M j := fun j hj => q2 j (by omega)
  refine ib_eq p 0 (fun e => ?_) (fun e => Exists.intro 30 (x_cin39 ok hp hx h 30 0 M' f1 (fun s s0 s1 => ?_) (by omega) (by omega) (by omega))) rfl rfl (by omega)
  · subst e
    exact Exists.intro 10 (x_cin12 ok hx h 10 0 M' f1 (fun q q0 q3 => by omega) (by omega) (by omega) (by omega))
  · rw [q1 _ (by omega) (by omega)]
    refine cl_he fun v => ?_
    rintro (hv | ⟨e, e1, e2, _⟩)
    · exact e hv.1
    · omega
theorem x_hd2 {post : Int32 → Prop} (ok : k_ok k) {p : Int} (hp : 0 ≤ p ∧ p < kP k) (ht : k_hd k p → post 1) (hf : ¬ k_hd k p → post 0) : ∀ (n : Nat) (i : Int), (∀ e, 0 ≤ e → e < i → ¬ (kA k e 1 = p ∧ p ≤ kA k e 0)) → 0 ≤ i → i ≤ kE k → (kE k - i).toNat < n → wX_isHead_2 post (iI p) (iI (kB k)) (iI (kP k)) (iI (kV k)) (iI (kC k)) (iI (-kh k)) (iI (kh k - 1)) (iI (kE k)) (iI (kN k)) z.1 40 44 48 49 50 51 z.2.1 z.2.2.1 z.2.2.2.1 z.2.2.2.2.1 (xA k 0) (xA k 1) (xA k 2) (xA k 3) (xA k 4) (xA k 5) (xA k 6) (xH k) (xL (M)) (xU (M)) (xS (M)) R.1 R.2.1 R.2.2.1 R.2.2.2 z.2.2.2.2.2.1 z.2.2.2.2.2.2 n (iI i)
  | 0, _, _, _, _, hn => by omega
  | n + 1, i, h1, i0, i1, hn => by
    have hV := ok.2.1
    refine ib_le (kE k) i (fun q => hf (fun ⟨e, e1, e2, e3⟩ => h1 e e1 (by omega) e3)) (fun q => ?_) rfl rfl (by omega)
    have hin : vp_in (iI i) 20 := ii_in (by omega) (by omega) (by omega)
    have ho := (ok.2.2.1 i i0 q).1
    refine And.intro hin (ib_eq (kA k i 1) p (fun et => And.intro hin (ib_lt (kA k i 0) p (fun es => nm_r (ii_add i 1) (x_hd2 ok hp ht hf n (i + 1) (fun e e0 e1 => ?_) (by omega) (by omega) (by omega))) (fun es => ht ⟨i, i0, q, et, es⟩) (xa_g k 0 (by omega)) rfl (by omega))) (fun et => nm_r (ii_add i 1) (x_hd2 ok hp ht hf n (i + 1) (fun e e0 e1 => ?_) (by omega) (by omega) (by omega))) (xa_g k 1 (by omega)) rfl (by omega))
    · by_cases ee : e = i
      · subst ee
        exact fun q2 => by omega
      · exact h1 e e0 (by omega)
    · by_cases ee : e = i
      · subst ee
        exact fun q2 => et q2.1
      · exact h1 e e0 (by omega)
theorem x_hd {post : Int32 → Prop} (ok : k_ok k) {p : Int} {x : Int32} (h0 : x = iI p) (hp : 0 ≤ p ∧ p < kP k) (ht : k_hd k p → post 1) (hf : ¬ k_hd k p → post 0) : wpX_isHead post (XC k z R M) x := by
  subst h0
  have hV := ok.2.1
  exact Exists.intro 30 (x_hd2 ok hp ht hf 30 0 (fun e e0 e1 => by omega) (by omega) (by omega) (by omega))
end
end
section
/-! ===== X: widenRow, replaceRow ===== -/
abbrev JT : Type := Int32 → (Nat → Int32) → (Nat → Int32) → (Nat → Int32) → (Nat → Int32) → (Nat → Int32) → (Nat → Int32) → (Nat → Int32) → (Nat → Int32) → (Nat → Int32) → (Nat → Int32) → (Nat → Int32) → (Nat → Int32) → (Nat → Int32) → (Nat → Int32) → (Nat → Int32) → (Nat → Int32) → (Nat → Int32) → Prop
def w_be (k : kT) (lo i be : Int) : Prop := k_t k be ∧ be ≤ lo ∧ ∀ j, 0 ≤ j → j < i → kH k j ≤ lo → kH k j ≤ be
def w_ab (k : kT) (hi i ab : Int) : Prop := k_t k ab ∧ hi ≤ ab ∧ ∀ j, 0 ≤ j → j < i → hi ≤ kH k j → ab ≤ kH k j
section
variable {k : kT} {z : zT} {R : rT} {M : mT}
theorem x_w42 {post : SX → Prop} (ok : k_ok k) {r s c : Int} {J : JT} (hc : 0 ≤ c ∧ c < 52) (hl : -kh k ≤ (M c).1 ∧ (M c).1 < (M c).2.1 ∧ (M c).2.1 ≤ kh k - 1) (hs : 0 < (M c).2.2 ∧ (M c).2.2 ≤ 100) (hJ : ∀ be ab, w_be k (M c).1 (kN k) be → w_ab k (M c).2.1 (kN k) ab → J (iI (s + 1)) (xA k 0) (xA k 1) (xA k 2) (xA k 3) (xA k 4) (xA k 5) (xA k 6) (xH k) (xL (ms M c ((M c).1 - ((M c).1 - be) / (M c).2.2 * (M c).2.2, (M c).2.1 + (ab - (M c).2.1) / (M c).2.2 * (M c).2.2, (M c).2.2))) (xU (ms M c ((M c).1 - ((M c).1 - be) / (M c).2.2 * (M c).2.2, (M c).2.1 + (ab - (M c).2.1) / (M c).2.2 * (M c).2.2, (M c).2.2))) (xS (ms M c ((M c).1 - ((M c).1 - be) / (M c).2.2 * (M c).2.2, (M c).2.1 + (ab - (M c).2.1) / (M c).2.2 * (M c).2.2, (M c).2.2))) R.1 R.2.1 R.2.2.1 R.2.2.2 z.2.2.2.2.2.1 z.2.2.2.2.2.2) : ∀ (n : Nat) (i be ab : Int), w_be k (M c).1 i be → w_ab k (M c).2.1 i ab → -16 ≤ be → ab ≤ 16 → 0 ≤ i → i ≤ kN k → (kN k - i).toNat < n → wX_widenRow_42 post J (iI r) (iI s) (iI c) (iI (M c).2.2) (iI (kB k)) (iI (kP k)) (iI (kV k)) (iI (kC k)) (iI (-kh k)) (iI (kh k - 1)) (iI (kE k)) (iI (kN k)) z.1 40 44 48 49 50 51 z.2.1 z.2.2.1 z.2.2.2.1 z.2.2.2.2.1 (xA k 0) (xA k 1) (xA k 2) (xA k 3) (xA k 4) (xA k 5) (xA k 6) (xH k) (xL (M)) (xU (M)) (xS (M)) R.1 R.2.1 R.2.2.1 R.2.2.2 z.2.2.2.2.2.1 z.2.2.2.2.2.2 n (iI be) (iI ab) (iI i)
  | 0, _, _, _, _, _, _, _, _, _, hn => by omega
  | n + 1, i, be, ab, h1, h2, b1, b2, i0, i1, hn => by
    have hV := ok.2.1
    have hh := k_h ok
    have hin : vp_in (iI c) 52 := ii_in (by omega) (by omega) (by omega)
    have l1 := h1.2.1
    have l2 := h2.2.1
    refine ib_le (kN k) i (fun q => ?_) (fun q => ?_) rfl rfl (by omega)
    · obtain rfl : i = kN k := by omega
      have hfin := hJ be ab h1 h2
      generalize hv : (((M c).1 - ((M c).1 - be) / (M c).2.2 * (M c).2.2, (M c).2.1 + (ab - (M c).2.1) / (M c).2.2 * (M c).2.2, (M c).2.2) : cT) = v at hfin
      have v1 : v.1 = (M c).1 - ((M c).1 - be) / (M c).2.2 * (M c).2.2 := by rw [← hv]
      have v2 : v.2.1 = (M c).2.1 + (ab - (M c).2.1) / (M c).2.2 * (M c).2.2 := by rw [← hv]
      have v3 : v.2.2 = (M c).2.2 := by rw [← hv]
      have hne : ¬ iI (M c).2.2 = 0 := ib_ne _ (by omega) rfl (by omega)
      refine And.intro hin (And.intro hin (And.intro hne (And.intro hin (nm_r (xl_u M v (by omega) ?_) (And.intro hin (And.intro hin (And.intro hne (And.intro hin (nm_r (xu_u M v (by omega) ?_) (nm_r (ii_add s 1) ?_))))))))))
      · rw [xl_g M (by omega), ii_sub, ii_div (by omega) (by omega), ii_mul, ii_sub, Int.tdiv_eq_ediv_of_nonneg (by omega), v1]
      · rw [xu_g M (by omega), ii_sub, ii_div (by omega) (by omega), ii_mul, ii_add, Int.tdiv_eq_ediv_of_nonneg (by omega), v2]
      · have e := xs_k M (c := c) v v3
        show J (iI (s + 1)) (xA k 0) (xA k 1) (xA k 2) (xA k 3) (xA k 4) (xA k 5) (xA k 6) (xH k) (xL (ms M c v)) (xU (ms M c v)) (xS M) R.1 R.2.1 R.2.2.1 R.2.2.2 z.2.2.2.2.2.1 z.2.2.2.2.2.2
        rw [e]
        exact hfin
    · have hit : vp_in (iI i) 6 := ii_in (by omega) (by omega) (by omega)
      have ht := ok.2.2.2 i i0 q
      have kt : k_t k (kH k i) := Or.inr (Or.inr ⟨i, i0, q, rfl⟩)
      have next : ∀ be', w_be k (M c).1 (i + 1) be' → -16 ≤ be' → be' ≤ 16 → wX_widenRow_82 post J (wX_widenRow_42 post J (iI r) (iI s) (iI c) (iI (M c).2.2) (iI (kB k)) (iI (kP k)) (iI (kV k)) (iI (kC k)) (iI (-kh k)) (iI (kh k - 1)) (iI (kE k)) (iI (kN k)) z.1 40 44 48 49 50 51 z.2.1 z.2.2.1 z.2.2.2.1 z.2.2.2.2.1 (xA k 0) (xA k 1) (xA k 2) (xA k 3) (xA k 4) (xA k 5) (xA k 6) (xH k) (xL (M)) (xU (M)) (xS (M)) R.1 R.2.1 R.2.2.1 R.2.2.2 z.2.2.2.2.2.1 z.2.2.2.2.2.2 n) (iI r) (iI s) (iI c) (iI (M c).2.2) (iI be') (iI ab) (iI i) (iI (kH k i)) (iI (kB k)) (iI (kP k)) (iI (kV k)) (iI (kC k)) (iI (-kh k)) (iI (kh k - 1)) (iI (kE k)) (iI (kN k)) z.1 40 44 48 49 50 51 z.2.1 z.2.2.1 z.2.2.2.1 z.2.2.2.2.1 (xA k 0) (xA k 1) (xA k 2) (xA k 3) (xA k 4) (xA k 5) (xA k 6) (xH k) (xL (M)) (xU (M)) (xS (M)) R.1 R.2.1 R.2.2.1 R.2.2.2 z.2.2.2.2.2.1 z.2.2.2.2.2.2 := fun be' hb' b3 b4 => by
        refine And.intro hin (ib_lt (kH k i) (M c).2.1 (fun q2 => nm_r (ii_add i 1) (x_w42 ok hc hl hs hJ n (i + 1) be' ab hb' ⟨h2.1, h2.2.1, fun j j0 j1 j2 => ?_⟩ b3 b2 (by omega) (by omega) (by omega))) (fun q2 => ib_le ab (kH k i) (fun q3 => nm_r (ii_add i 1) (x_w42 ok hc hl hs hJ n (i + 1) be' ab hb' ⟨h2.1, h2.2.1, fun j j0 j1 j2 => ?_⟩ b3 b2 (by omega) (by omega) (by omega))) (fun q3 => nm_r (ii_add i 1) (x_w42 ok hc hl hs hJ n (i + 1) be' (kH k i) hb' ⟨kt, q2, fun j j0 j1 j2 => ?_⟩ b3 (by omega) (by omega) (by omega) (by omega))) rfl rfl (by omega)) rfl (xu_g M (by omega)) (by omega))
        · by_cases ej : j = i
          · subst ej
            omega
          · exact h2.2.2 j j0 (by omega) j2
        · by_cases ej : j = i
          · subst ej
            exact q3
          · exact h2.2.2 j j0 (by omega) j2
        · by_cases ej : j = i
          · subst ej
            exact Int.le_refl _
          · have := h2.2.2 j j0 (by omega) j2
            omega
      refine And.intro hit (nm_r (xh_g k (by omega)) (And.intro hin (ib_lt (M c).1 (kH k i) (fun q2 => next be ⟨h1.1, h1.2.1, fun j j0 j1 j2 => ?_⟩ b1 (by omega)) (fun q2 => ib_le (kH k i) be (fun q3 => next be ⟨h1.1, h1.2.1, fun j j0 j1 j2 => ?_⟩ b1 (by omega)) (fun q3 => next (kH k i) ⟨kt, q2, fun j j0 j1 j2 => ?_⟩ (by omega) (by omega)) rfl rfl (by omega)) (xl_g M (by omega)) rfl (by omega))))
      · by_cases ej : j = i
        · subst ej
          omega
        · exact h1.2.2 j j0 (by omega) j2
      · by_cases ej : j = i
        · subst ej
          exact q3
        · exact h1.2.2 j j0 (by omega) j2
      · by_cases ej : j = i
        · subst ej
          exact Int.le_refl _
        · have := h1.2.2 j j0 (by omega) j2
          omega
theorem w_beT {lo be : Int} (hl : lo < kh k - 1) (h : w_be k lo (kN k) be) (hb : -kh k ≤ be) (t : Int) (ht : k_t k t) (htl : t ≤ lo) : t ≤ be := by
  rcases ht with rfl | rfl | ⟨i, i0, i1, rfl⟩
  · exact hb
  · omega
  · exact h.2.2 i i0 i1 htl
theorem w_abT {hi ab : Int} (hl : -kh k < hi) (h : w_ab k hi (kN k) ab) (hb : ab ≤ kh k - 1) (t : Int) (ht : k_t k t) (htl : hi ≤ t) : ab ≤ t := by
  rcases ht with rfl | rfl | ⟨i, i0, i1, rfl⟩
  · omega
  · exact hb
  · exact h.2.2 i i0 i1 htl
theorem k_tr (ok : k_ok k) {t : Int} (ht : k_t k t) : -kh k ≤ t ∧ t ≤ kh k - 1 := by
  have hh := k_h ok
  rcases ht with rfl | rfl | ⟨i, i0, i1, rfl⟩
  · omega
  · omega
  · have := ok.2.2.2 i i0 i1
    omega
theorem x_wr2 {post : SX → Prop} (ok : k_ok k) {S : Int → Int → Prop} (hS : ∀ s, 0 ≤ s → s ≤ kV k → cl_h (M (44 + s)) (S s)) (rS : ∀ s v, S s v → -kh k ≤ v ∧ v ≤ kh k - 1) (h : ∀ M' : mT, (∀ j, j < 40 → M' j = M j) → (∀ s, 0 ≤ s → s ≤ kV k → cl_n (M' (44 + s)) ∧ ∀ v, cl_m (M' (44 + s)) v ↔ co_c (k_t k) True (S s) v) → post (XC k z R M')) : ∀ (n : Nat) (s : Int) (M' : mT), (∀ j, j < 40 → M' j = M j) → (∀ q, 0 ≤ q → q < s → q ≤ kV k → cl_n (M' (44 + q)) ∧ ∀ v, cl_m (M' (44 + q)) v ↔ co_c (k_t k) True (S q) v) → (∀ q, s ≤ q → q ≤ kV k → M' (44 + q) = M (44 + q)) → 0 ≤ s → s ≤ kV k + 1 → (kV k + 1 - s).toNat < n → wX_widenRow_2 post (iI 44) (iI (kB k)) (iI (kP k)) (iI (kV k)) (iI (kC k)) (iI (-kh k)) (iI (kh k - 1)) (iI (kE k)) (iI (kN k)) z.1 40 44 48 49 50 51 z.2.1 z.2.2.1 z.2.2.2.1 z.2.2.2.2.1 n (iI s) (xA k 0) (xA k 1) (xA k 2) (xA k 3) (xA k 4) (xA k 5) (xA k 6) (xH k) (xL (M')) (xU (M')) (xS (M')) R.1 R.2.1 R.2.2.1 R.2.2.2 z.2.2.2.2.2.1 z.2.2.2.2.2.2
  | 0, _, _, _, _, _, _, _, hn => by omega
  | n + 1, s, M', h1, h2, h3, s0, s1, hn => by
    have hV := ok.2.1
    have hh := k_h ok
    refine ib_lt (kV k) s (fun q => h M' h1 (fun u u0 u1 => h2 u u0 (by omega) u1)) (fun q => nm_r (ii_add 44 s) ?_) rfl rfl (by omega)
    have hin : vp_in (iI (44 + s)) 52 := ii_in (by omega) (by omega) (by omega)
    have eM : M' (44 + s) = M (44 + s) := h3 s (by omega) (by omega)
    have hSs := hS s s0 (by omega)
    have cb := cs_h hSs (fun v hv => by have := rS s v hv; omega)
    unfold cs_ at cb
    refine And.intro hin (nm_r (e' := iI (M' (44 + s)).2.2) (xs_g M' (by omega)) (ib_le (M' (44 + s)).2.2 0 (fun e => nm_r (ii_add s 1) (x_wr2 ok hS rS h n (s + 1) M' h1 (fun u u0 u1 u2 => ?_) (fun u u0 u1 => h3 u (by omega) u1) (by omega) (by omega) (by omega))) (fun e => Exists.intro 10 ?_) rfl rfl (by rw [eM]; omega)))
    · by_cases eu : u = s
      · rw [eu, eM]
        rw [eM] at e
        refine ⟨cl_hn hSs, fun v => (co_1 hSs ?_ v).symm⟩
        rcases cl_hn hSs with e2 | e2
        · rw [e2]
          dsimp only
          omega
        · rcases e2 with e2 | e2
          · omega
          · omega
      · exact h2 u u0 (by omega) u2
    · have hp : (M' (44 + s)).1 < (M' (44 + s)).2.1 ∧ cl_N (M' (44 + s)) (S s) := by
        rw [eM] at e ⊢
        rcases hSs with ⟨e2, _⟩ | hN
        · rw [e2] at e
          dsimp only at e
          omega
        · refine ⟨?_, hN⟩
          rcases cl_Np hN with e2 | e2
          · omega
          · exact e2.1
      obtain ⟨hlt, hN⟩ := hp
      have r1 := rS s _ hN.1
      have r2 := rS s _ hN.2.1
      have st1 : (M' (44 + s)).2.2 ≤ 100 := by
        rcases cl_Np hN with e2 | ⟨e2, e3, e4⟩
        · omega
        · have := Int.le_of_dvd (by omega) e4
          omega
      refine x_w42 ok (by omega) (by omega) (by omega) (fun be ab hb ha => ?_) 10 0 (-kh k) (kh k - 1) ⟨Or.inl rfl, by omega, fun j j0 j1 => by omega⟩ ⟨Or.inr (Or.inl rfl), by omega, fun j j0 j1 => by omega⟩ (by omega) (by omega) (by omega) (by omega) (by omega)
      have tb := k_tr ok hb.1
      have ta := k_tr ok ha.1
      have W := co_W (w := True) hN trivial hlt hb.1 hb.2.1 (fun t => w_beT (by omega) hb tb.1 t) ha.1 ha.2.1 (fun t => w_abT (by omega) ha ta.2 t)
      refine x_wr2 ok hS rS h n (s + 1) _ (fun j hj => ?_) (fun u u0 u1 u2 => ?_) (fun u u0 u1 => ?_) (by omega) (by omega) (by omega)
      · rw [ms_n _ _ (by omega)]
        exact h1 j hj
      · by_cases eu : u = s
        · rw [eu, ms_s]
          exact ⟨Or.inr W.1, fun v => (W.2 v).symm⟩
        · rw [ms_n _ _ (by omega)]
          exact h2 u u0 (by omega) u2
      · rw [ms_n _ _ (by omega)]
        exact h3 u (by omega) u1
theorem x_wr {post : SX → Prop} (ok : k_ok k) {S : Int → Int → Prop} (hS : ∀ s, 0 ≤ s → s ≤ kV k → cl_h (M (44 + s)) (S s)) (rS : ∀ s v, S s v → -kh k ≤ v ∧ v ≤ kh k - 1) (h : ∀ M' : mT, (∀ j, j < 40 → M' j = M j) → (∀ s, 0 ≤ s → s ≤ kV k → cl_n (M' (44 + s)) ∧ ∀ v, cl_m (M' (44 + s)) v ↔ co_c (k_t k) True (S s) v) → post (XC k z R M')) : wpX_widenRow post (XC k z R M) 44 := by
  have hV := ok.2.1
  exact Exists.intro 10 (x_wr2 ok hS rS h 10 0 M (fun _ _ => rfl) (fun q q0 q1 => by omega) (fun _ _ _ => rfl) (by omega) (by omega) (by omega))
theorem x_rr5 {post : Int32 → SX → Prop} (ok : k_ok k) {p : Int} (hp : 0 ≤ p ∧ p < kP k) (c1 : ∀ s, 0 ≤ s → s ≤ kV k → cs_ (M (4 * p + s))) (c2 : ∀ s, 0 ≤ s → s ≤ kV k → cs_ (M (44 + s))) (h : ∀ (M' : mT) (b : Bool), (∀ s, 0 ≤ s → s ≤ kV k → M' (4 * p + s) = M (44 + s)) → (∀ j, (j < 4 * p ∨ 4 * p + kV k < j) → M' j = M j) → (b = true ↔ ∃ s, 0 ≤ s ∧ s ≤ kV k ∧ M (4 * p + s) ≠ M (44 + s)) → post (bI b) (XC k z R M')) : ∀ (n : Nat) (s : Int) (b : Bool) (M' : mT), (∀ q, 0 ≤ q → q < s → q ≤ kV k → M' (4 * p + q) = M (44 + q)) → (∀ j, (j < 4 * p + s ∨ 4 * p + kV k < j) → (j < 4 * p ∨ 4 * p + kV k < j) → M' j = M j) → (∀ q, s ≤ q → q ≤ kV k → M' (4 * p + q) = M (4 * p + q)) → (b = true ↔ ∃ q, (0 ≤ q ∧ q < s ∧ q ≤ kV k) ∧ M (4 * p + q) ≠ M (44 + q)) → 0 ≤ s → s ≤ kV k + 1 → (kV k + 1 - s).toNat < n → wX_replaceRow_5 post (iI (4 * p)) (iI 44) n (bI b) (iI s) (iI (kB k)) (iI (kP k)) (iI (kV k)) (iI (kC k)) (iI (-kh k)) (iI (kh k - 1)) (iI (kE k)) (iI (kN k)) z.1 40 44 48 49 50 51 z.2.1 z.2.2.1 z.2.2.2.1 z.2.2.2.2.1 (xA k 0) (xA k 1) (xA k 2) (xA k 3) (xA k 4) (xA k 5) (xA k 6) (xH k) (xL (M')) (xU (M')) (xS (M')) R.1 R.2.1 R.2.2.1 R.2.2.2 z.2.2.2.2.2.1 z.2.2.2.2.2.2
  | 0, _, _, _, _, _, _, _, _, _, hn => by omega
  | n + 1, s, b, M', h1, h2, h3, hb, s0, s1, hn => by
    have hV := ok.2.1
    have hb2 : ∀ x : Int, s = x → (b = true ↔ ∃ q, (0 ≤ q ∧ q < x ∧ q ≤ kV k) ∧ M (4 * p + q) ≠ M (44 + q)) := fun x e => by rw [← e]; exact hb
    clear hb
    refine ib_lt (kV k) s (fun q => And.intro (ib_nar b) (h M' b (fun u u0 u1 => h1 u u0 (by omega) u1) (fun j hj => h2 j (by omega) hj) ?_)) (fun q => nm_r (ii_add (4 * p) s) (nm_r (ii_add 44 s) ?_)) rfl rfl (by omega)
    · rw [hb2 (kV k + 1) (by omega)]
      constructor
      · rintro ⟨u, hu, e⟩
        exact ⟨u, hu.1, hu.2.2, e⟩
      · rintro ⟨u, u0, u1, e⟩
        exact ⟨u, ⟨u0, by omega, u1⟩, e⟩
    · have hia : vp_in (iI (4 * p + s)) 52 := ii_in (by omega) (by omega) (by omega)
      have hib : vp_in (iI (44 + s)) 52 := ii_in (by omega) (by omega) (by omega)
      have e1 : M' (4 * p + s) = M (4 * p + s) := h3 s (by omega) (by omega)
      have e2 : M' (44 + s) = M (44 + s) := h2 _ (by omega) (by omega)
      have b1 := c1 s s0 (by omega)
      have b2 := c2 s s0 (by omega)
      unfold cs_ at b1 b2
      have cop : M (4 * p + s) ≠ M (44 + s) → wX_replaceRow_77 post (wX_replaceRow_5 post (iI (4 * p)) (iI 44) n) (iI (4 * p)) (iI 44) (iI s) (iI (4 * p + s)) (iI (44 + s)) (iI (kB k)) (iI (kP k)) (iI (kV k)) (iI (kC k)) (iI (-kh k)) (iI (kh k - 1)) (iI (kE k)) (iI (kN k)) z.1 40 44 48 49 50 51 z.2.1 z.2.2.1 z.2.2.2.1 z.2.2.2.2.1 (xA k 0) (xA k 1) (xA k 2) (xA k 3) (xA k 4) (xA k 5) (xA k 6) (xH k) (xL (M')) (xU (M')) (xS (M')) R.1 R.2.1 R.2.2.1 R.2.2.2 z.2.2.2.2.2.1 z.2.2.2.2.2.2 := fun hne => by
        refine x_copy rfl rfl (by omega) (by omega) (nm_r (ii_add s 1) (x_rr5 ok hp c1 c2 h n (s + 1) true _ (fun u u0 u1 u2 => ?_) (fun j j1 j2 => ?_) (fun u u0 u1 => ?_) ⟨fun _ => ⟨s, ⟨s0, by omega, by omega⟩, hne⟩, fun _ => rfl⟩ (by omega) (by omega) (by omega)))
        · by_cases eu : u = s
          · rw [eu, ms_s, e2]
          · rw [ms_n _ _ (by omega)]
            exact h1 u u0 (by omega) u2
        · rw [ms_n _ _ (by omega)]
          exact h2 j (by omega) j2
        · rw [ms_n _ _ (by omega)]
          exact h3 u (by omega) u1
      refine And.intro hia (And.intro hib (ib_eq (M (4 * p + s)).1 (M (44 + s)).1 (fun q1 => And.intro hia (And.intro hib (ib_eq (M (4 * p + s)).2.1 (M (44 + s)).2.1 (fun q2 => And.intro hia (And.intro hib (ib_eq (M (4 * p + s)).2.2 (M (44 + s)).2.2 (fun q3 => nm_r (ii_add s 1) (x_rr5 ok hp c1 c2 h n (s + 1) b M' (fun u u0 u1 u2 => ?_) (fun j j1 j2 => h2 j (by omega) j2) (fun u u0 u1 => h3 u (by omega) u1) ?_ (by omega) (by omega) (by omega))) (fun q3 => cop (fun x => q3 (by rw [x]))) (by rw [xs_g M' (by omega), e1]) (by rw [xs_g M' (by omega), e2]) (by omega)))) (fun q2 => cop (fun x => q2 (by rw [x]))) (by rw [xu_g M' (by omega), e1]) (by rw [xu_g M' (by omega), e2]) (by omega)))) (fun q1 => cop (fun x => q1 (by rw [x]))) (by rw [xl_g M' (by omega), e1]) (by rw [xl_g M' (by omega), e2]) (by omega)))
      · by_cases eu : u = s
        · rw [eu, e1]
          exact Prod.ext q1 (Prod.ext q2 q3)
        · exact h1 u u0 (by omega) u2
      · have heq : M (4 * p + s) = M (44 + s) := Prod.ext q1 (Prod.ext q2 q3)
        rw [hb2 s rfl]
        constructor
        · rintro ⟨u, hu, e⟩
          exact ⟨u, ⟨hu.1, by omega, hu.2.2⟩, e⟩
        · rintro ⟨u, hu, e⟩
          by_cases eu : u = s
          · rw [eu] at e
            exact absurd heq e
          · exact ⟨u, ⟨hu.1, by omega, hu.2.2⟩, e⟩
theorem x_rr {post : Int32 → SX → Prop} (ok : k_ok k) {p : Int} {x : Int32} (h0 : x = iI (4 * p)) (hp : 0 ≤ p ∧ p < kP k) (c1 : ∀ s, 0 ≤ s → s ≤ kV k → cs_ (M (4 * p + s))) (c2 : ∀ s, 0 ≤ s → s ≤ kV k → cs_ (M (44 + s))) (h : ∀ (M' : mT) (b : Bool), (∀ s, 0 ≤ s → s ≤ kV k → M' (4 * p + s) = M (44 + s)) → (∀ j, (j < 4 * p ∨ 4 * p + kV k < j) → M' j = M j) → (b = true ↔ ∃ s, 0 ≤ s ∧ s ≤ kV k ∧ M (4 * p + s) ≠ M (44 + s)) → post (bI b) (XC k z R M')) : wpX_replaceRow post (XC k z R M) x 44 := by
  subst h0
  have hV := ok.2.1
  exact Exists.intro 10 (x_rr5 ok hp c1 c2 h 10 0 false M (fun q q0 q1 => by omega) (fun _ _ _ => rfl) (fun _ _ _ => rfl) ⟨fun e => absurd e (by decide), fun ⟨q, hq, _⟩ => by omega⟩ (by omega) (by omega) (by omega))
end
end
section
/-! ===== sets of points as bits ===== -/
def hp (x : Int32) (p : Int) : Bool := bt x p.toNat
def rd (f : Nat → Int32) (p : Int) : Int32 := f p.toNat
theorem ii_n {p : Int} (h : 0 ≤ p) : iI p = nI p.toNat := by
  rw [ii_nI, Int.toNat_of_nonneg h]
theorem rd_g (f : Nat → Int32) {p : Int} (h : 0 ≤ p ∧ p ≤ 1000) : f (iI p).toNatClampNeg = rd f p := by
  unfold rd
  rw [ii_clamp (by omega)]
theorem rd_s (f : Nat → Int32) {p : Int} (x : Int32) (h : 0 ≤ p ∧ p ≤ 1000) : rd (upd f (iI p).toNatClampNeg x) p = x := by
  unfold rd upd
  rw [ii_clamp (by omega), if_pos rfl]
theorem rd_n (f : Nat → Int32) {p q : Int} (x : Int32) (h : 0 ≤ p ∧ p ≤ 1000) (hq : 0 ≤ q) (hne : q ≠ p) : rd (upd f (iI p).toNatClampNeg x) q = rd f q := by
  unfold rd upd
  rw [ii_clamp (by omega), if_neg (by omega)]
theorem hp_or (x y : Int32) (p : Int) : hp (x ||| y) p = (hp x p || hp y p) := b_or x y _
theorem hp_and (x y : Int32) (p : Int) : hp (x &&& y) p = (hp x p && hp y p) := b_and x y _
theorem hp_not (x : Int32) {p : Int} (h : p < 32) : hp (x ^^^ (-1)) p = !hp x p := by
  unfold hp
  rw [b_xor, b_m1 _ (by omega)]
  cases bt x p.toNat <;> rfl
theorem hp_0 (p : Int) : hp 0 p = false := b_0 _
theorem b_1 : ∀ i, i < 32 → bt 1 i = decide (i = 0) := by decide +kernel
theorem hp_1 {p q : Int} (hp1 : 0 ≤ p ∧ p < 32) (hq : 0 ≤ q ∧ q < 32) : hp ((1 : Int32) <<< (iI q &&& 31)) p = decide (p = q) := by
  unfold hp
  rw [ii_n hq.1, b_shl _ (by omega) _ (by omega), b_1 _ (by omega)]
  by_cases e : p = q
  · subst e
    rw [decide_eq_true (Nat.le_refl _), decide_eq_true (by omega), decide_eq_true rfl]
    rfl
  · rw [decide_eq_false e]
    by_cases e2 : q.toNat ≤ p.toNat
    · rw [decide_eq_false (p := p.toNat - q.toNat = 0) (by omega), Bool.and_false]
    · rw [decide_eq_false e2, Bool.false_and]
theorem bt_all : ∀ n, n < 11 → ∀ i, i < 32 → bt (((1 : Int32) <<< (nI n &&& 31)) - 1) i = decide (i < n) := by decide +kernel
theorem hp_all {n p : Int} (hn : 0 ≤ n ∧ n ≤ 10) (h : 0 ≤ p ∧ p < 32) : hp (((1 : Int32) <<< (iI n &&& 31)) - 1) p = decide (p < n) := by
  unfold hp
  rw [ii_n hn.1, bt_all _ (by omega) _ (by omega)]
  by_cases e : p < n
  · rw [decide_eq_true e, decide_eq_true (by omega)]
  · rw [decide_eq_false e, decide_eq_false (by omega)]
theorem hp_z {x : Int32} (h : ∀ p, 0 ≤ p → p < 32 → hp x p = false) : x = 0 := by
  apply b_ext
  intro i hi
  rw [b_0]
  have := h (i : Int) (by omega) (by omega)
  unfold hp at this
  rw [Int.toNat_natCast] at this
  exact this
theorem hp_e {x : Int32} (h : ¬ x = 0) : ∃ p, 0 ≤ p ∧ p < 32 ∧ hp x p = true := by
  by_cases hc : ∃ p, 0 ≤ p ∧ p < 32 ∧ hp x p = true
  · exact hc
  · exfalso
    refine h (hp_z fun p p0 p1 => ?_)
    cases hh : hp x p
    · rfl
    · exact absurd ⟨p, p0, p1, hh⟩ hc
theorem hp_t {x : Int32} {p : Int} (h : 0 ≤ p ∧ p < 32) : ((x >>> (iI p &&& 31)) &&& 1) = 0 ↔ hp x p = false := by
  have e0 : bt (x >>> (iI p &&& 31)) 0 = hp x p := by
    rw [ii_n h.1, b_sshr _ (by omega) _ (by omega), if_pos (by omega)]
    rfl
  constructor
  · intro hz
    have h1 : bt ((x >>> (iI p &&& 31)) &&& 1) 0 = false := by rw [hz, b_0]
    rw [b_and, b_1 0 (by omega), e0] at h1
    rw [decide_eq_true rfl, Bool.and_true] at h1
    exact h1
  · intro hz
    apply b_ext
    intro i hi
    rw [b_and, b_1 i hi, b_0]
    by_cases ei : i = 0
    · rw [ei, e0, hz, Bool.false_and]
    · rw [decide_eq_false ei, Bool.and_false]
section
variable {k : kT} {z : zT} {R : rT} {M : mT}
theorem x_hp {post : Int32 → Prop} {x y : Int32} {p : Int} (hy : y = iI p) (h : 0 ≤ p ∧ p < 32) (hq : post (bI (hp x p))) : wpX_hasPoint post (XC k z R M) x y := by
  subst hy
  refine And.intro (fun e => ?_) (fun e => ?_)
  · rw [hp_t h] at e
    rw [e] at hq
    exact hq
  · rw [hp_t h] at e
    have e2 : hp x p = true := by
      cases hh : hp x p
      · exact absurd hh e
      · rfl
    rw [e2] at hq
    exact hq
end
end
section
/-! ===== X: closeReach, entryOf, componentOf ===== -/
/-- a reaches b -/
def t_R (re : Nat → Int32) (a b : Int) : Prop := hp (rd re a) b = true
def tr_n (P : Int) (re : Nat → Int32) (v : Int) : Prop := ∀ a b c, 0 ≤ a → a < P → 0 ≤ b → b < P → 0 ≤ c → c < v → t_R re a c → t_R re c b → t_R re a b
def tr_s (P : Int) (re : Nat → Int32) (x : Int32) : Prop := ∀ a b, 0 ≤ a → a < P → 0 ≤ b → b < P → t_R re a b → hp x a = true ∧ hp x b = true
/-- during the turn v: rows below p are done -/
def tr_m (P : Int) (re re' : Nat → Int32) (v p : Int) : Prop := ∀ a b, 0 ≤ a → a < P → 0 ≤ b → b < P → (t_R re' a b ↔ (t_R re a b ∨ (a < p ∧ t_R re a v ∧ t_R re v b)))
theorem tr_step {P : Int} {re re' : Nat → Int32} {v : Int} (hv : 0 ≤ v ∧ v < P) (h : tr_n P re v) (hm : tr_m P re re' v P) : tr_n P re' (v + 1) := by
  intro a b c a0 a1 b0 b1 c0 c1 h1 h2
  rw [hm a c a0 a1 c0 (by omega)] at h1
  rw [hm c b c0 (by omega) b0 b1] at h2
  rw [hm a b a0 a1 b0 b1]
  by_cases e : c = v
  · subst e
    have h3 : t_R re a c := by
      rcases h1 with h1 | h1
      · exact h1
      · exact h1.2.1
    have h4 : t_R re c b := by
      rcases h2 with h2 | h2
      · exact h2
      · exact h2.2.2
    exact Or.inr ⟨a1, h3, h4⟩
  · rcases h1 with h1 | ⟨_, h1, h1'⟩ <;> rcases h2 with h2 | ⟨_, h2, h2'⟩
    · exact Or.inl (h a b c a0 a1 b0 b1 c0 (by omega) h1 h2)
    · exact Or.inr ⟨a1, h a v c a0 a1 (by omega) (by omega) c0 (by omega) h1 h2, h2'⟩
    · exact Or.inr ⟨a1, h1, h v b c (by omega) (by omega) b0 b1 c0 (by omega) h1' h2⟩
    · exact Or.inr ⟨a1, h1, h2'⟩
theorem tr_sm {P : Int} {re re' : Nat → Int32} {v p : Int} {x : Int32} (hv : 0 ≤ v ∧ v < P) (h : tr_s P re x) (hm : tr_m P re re' v p) : tr_s P re' x := by
  intro a b a0 a1 b0 b1 h1
  rcases (hm a b a0 a1 b0 b1).mp h1 with h2 | ⟨_, h2, h3⟩
  · exact h a b a0 a1 b0 b1 h2
  · exact ⟨(h a v a0 a1 (by omega) (by omega) h2).1, (h v b (by omega) (by omega) b0 b1 h3).2⟩
/-- some point of the set reaches all that reach it -/
def en_t (P : Int) (re : Nat → Int32) (x : Int32) (p : Int) : Prop := 0 ≤ p ∧ p < P ∧ hp x p = true ∧ ∀ q, 0 ≤ q → q < P → q ≠ p → t_R re q p → t_R re p q
theorem en_x {P : Int} {re : Nat → Int32} {x : Int32} (ht : tr_n P re P) (hs : tr_s P re x) : ∀ (n : Nat) (p : Int), 0 ≤ p → p < P → hp x p = true → P.toNat - ct_n (fun i => (i : Int) = p ∨ t_R re p i) P.toNat < n → ∃ p, en_t P re x p
  | 0, _, _, _, _, hn => by omega
  | n + 1, p, p0, p1, hx, hn => by
    by_cases hc : ∃ q, 0 ≤ q ∧ q < P ∧ q ≠ p ∧ t_R re q p ∧ ¬ t_R re p q
    · obtain ⟨q, q0, q1, q2, q3, q4⟩ := hc
      have hlt : ct_n (fun i => (i : Int) = p ∨ t_R re p i) P.toNat < ct_n (fun i => (i : Int) = q ∨ t_R re q i) P.toNat := by
        refine ct_lt (j := q.toNat) ?_ ?_ _ (by omega) (fun i hi => ?_)
        · rw [Int.toNat_of_nonneg q0]
          rintro (e | e)
          · exact q2 e
          · exact q4 e
        · rw [Int.toNat_of_nonneg q0]
          exact Or.inl rfl
        · rintro (e | e)
          · rw [e]
            exact Or.inr q3
          · exact Or.inr (ht q i p q0 q1 (by omega) (by omega) p0 p1 q3 e)
      have hmx := ct_mx (fun i => (i : Int) = q ∨ t_R re q i) P.toNat
      exact en_x ht hs n q q0 q1 (hs q p q0 q1 p0 p1 q3).1 (by omega)
    · refine ⟨p, p0, p1, hx, fun q q0 q1 q2 q3 => ?_⟩
      by_cases h4 : t_R re p q
      · exact h4
      · exact absurd ⟨q, q0, q1, q2, q3, h4⟩ hc
section
variable {k : kT} {z : zT} {R : rT} {M : mT}
theorem x_cr55 {post : SX → Prop} (ok : k_ok k) {v : Int} (hv : 0 ≤ v ∧ v < kP k) {oo ss re pe : Nat → Int32} {J : JT} (hJ : ∀ re', tr_m (kP k) re re' v (kP k) → J (iI (v + 1)) (xA k 0) (xA k 1) (xA k 2) (xA k 3) (xA k 4) (xA k 5) (xA k 6) (xH k) (xL (M)) (xU (M)) (xS (M)) ((oo, ss, re', pe)).1 ((oo, ss, re', pe)).2.1 ((oo, ss, re', pe)).2.2.1 ((oo, ss, re', pe)).2.2.2 z.2.2.2.2.2.1 z.2.2.2.2.2.2) : ∀ (n : Nat) (p : Int) (re' : Nat → Int32), tr_m (kP k) re re' v p → (∀ q, p ≤ q → q < kP k → rd re' q = rd re q) → 0 ≤ p → p ≤ kP k → (kP k - p).toNat < n → wX_closeReach_55 post J (iI v) (iI (kB k)) (iI (kP k)) (iI (kV k)) (iI (kC k)) (iI (-kh k)) (iI (kh k - 1)) (iI (kE k)) (iI (kN k)) z.1 40 44 48 49 50 51 z.2.1 z.2.2.1 z.2.2.2.1 z.2.2.2.2.1 n (iI p) (xA k 0) (xA k 1) (xA k 2) (xA k 3) (xA k 4) (xA k 5) (xA k 6) (xH k) (xL (M)) (xU (M)) (xS (M)) ((oo, ss, re', pe)).1 ((oo, ss, re', pe)).2.1 ((oo, ss, re', pe)).2.2.1 ((oo, ss, re', pe)).2.2.2 z.2.2.2.2.2.1 z.2.2.2.2.2.2
  | 0, _, _, _, _, _, _, hn => by omega
  | n + 1, p, re', h1, h2, p0, p1, hn => by
    have hV := ok.2.1
    refine ib_le (kP k) p (fun q => nm_r (ii_add v 1) (hJ re' ?_)) (fun q => ?_) rfl rfl (by omega)
    · obtain rfl : p = kP k := by omega
      exact h1
    · have hin : vp_in (iI p) 10 := ii_in (by omega) (by omega) (by omega)
      have hiv : vp_in (iI v) 10 := ii_in (by omega) (by omega) (by omega)
      have ep : rd re' p = rd re p := h2 p (by omega) q
      have ev : ∀ b, 0 ≤ b → b < kP k → (t_R re' v b ↔ t_R re v b) := fun b b0 b1 => by
        rw [h1 v b hv.1 hv.2 b0 b1]
        exact ⟨fun x => x.elim id (fun y => y.2.2), Or.inl⟩
      refine And.intro hin (x_hp rfl (by omega) (ib_b (hp (re' (iI p).toNatClampNeg) v) (fun eb => nm_r (ii_add p 1) (x_cr55 ok hv hJ n (p + 1) re' (fun a b a0 a1 b0 b1 => ?_) (fun u u0 u1 => h2 u (by omega) u1) (by omega) (by omega) (by omega))) (fun eb => And.intro hin (And.intro hiv (And.intro hin (nm_e (nm_r (ii_add p 1) (x_cr55 ok hv hJ n (p + 1) (upd re' (iI p).toNatClampNeg ((re' (iI p).toNatClampNeg) ||| (re' (iI v).toNatClampNeg))) (fun a b a0 a1 b0 b1 => ?_) (fun u u0 u1 => ?_) (by omega) (by omega) (by omega)))))))))
      · rw [rd_g re' (by omega), ep] at eb
        rw [h1 a b a0 a1 b0 b1]
        constructor
        · rintro (x | ⟨x1, x2⟩)
          · exact Or.inl x
          · exact Or.inr ⟨by omega, x2⟩
        · rintro (x | ⟨x1, x2, x3⟩)
          · exact Or.inl x
          · by_cases ea : a = p
            · subst ea
              unfold t_R at x2
              rw [eb] at x2
              exact absurd x2 (by decide)
            · exact Or.inr ⟨by omega, x2, x3⟩
      · rw [rd_g re' (by omega), ep] at eb
        by_cases ea : a = p
        · subst ea
          unfold t_R
          rw [rd_s _ _ (by omega), rd_g re' (by omega), rd_g re' (by omega), hp_or, ep]
          have evb := ev b b0 b1
          unfold t_R at evb
          rw [Bool.or_eq_true, evb]
          exact ⟨fun x => x.elim Or.inl (fun y => Or.inr ⟨by omega, eb, y⟩), fun x => x.elim Or.inl (fun y => Or.inr y.2.2)⟩
        · have e3 : t_R (upd re' (iI p).toNatClampNeg ((re' (iI p).toNatClampNeg) ||| (re' (iI v).toNatClampNeg))) a b ↔ t_R re' a b := by
            unfold t_R
            rw [rd_n _ _ (by omega) a0 ea]
          have h4 := h1 a b a0 a1 b0 b1
          constructor
          · intro x
            rcases h4.mp (e3.mp x) with y | y
            · exact Or.inl y
            · exact Or.inr ⟨by omega, y.2⟩
          · rintro (x | ⟨x1, x2⟩)
            · exact e3.mpr (h4.mpr (Or.inl x))
            · exact e3.mpr (h4.mpr (Or.inr ⟨by omega, x2⟩))
      · rw [rd_n _ _ (by omega) (by omega) (by omega)]
        exact h2 u (by omega) u1
theorem x_cr45 {post : SX → Prop} (ok : k_ok k) {oo ss pe : Nat → Int32} {x : Int32} (h : ∀ re', tr_n (kP k) re' (kP k) → tr_s (kP k) re' x → post (XC k z (oo, ss, re', pe) M)) : ∀ (n : Nat) (v : Int) (re : Nat → Int32), tr_n (kP k) re v → tr_s (kP k) re x → 0 ≤ v → v ≤ kP k → (kP k - v).toNat < n → wX_closeReach_45 post (iI (kB k)) (iI (kP k)) (iI (kV k)) (iI (kC k)) (iI (-kh k)) (iI (kh k - 1)) (iI (kE k)) (iI (kN k)) z.1 40 44 48 49 50 51 z.2.1 z.2.2.1 z.2.2.2.1 z.2.2.2.2.1 n (iI v) (xA k 0) (xA k 1) (xA k 2) (xA k 3) (xA k 4) (xA k 5) (xA k 6) (xH k) (xL (M)) (xU (M)) (xS (M)) ((oo, ss, re, pe)).1 ((oo, ss, re, pe)).2.1 ((oo, ss, re, pe)).2.2.1 ((oo, ss, re, pe)).2.2.2 z.2.2.2.2.2.1 z.2.2.2.2.2.2
  | 0, _, _, _, _, _, _, hn => by omega
  | n + 1, v, re, h1, h2, v0, v1, hn => by
    have hV := ok.2.1
    refine ib_le (kP k) v (fun q => h re ?_ h2) (fun q => Exists.intro 20 (x_cr55 ok ⟨v0, q⟩ (oo := oo) (ss := ss) (pe := pe) (re := re) (fun re' hm => x_cr45 ok h n (v + 1) re' (tr_step ⟨v0, q⟩ h1 hm) (tr_sm ⟨v0, q⟩ h2 hm) (by omega) (by omega) (by omega)) 20 0 re (fun a b a0 a1 b0 b1 => ?_) (fun _ _ _ => rfl) (by omega) (by omega) (by omega))) rfl rfl (by omega)
    · obtain rfl : v = kP k := by omega
      exact h1
    · exact ⟨Or.inl, fun y => y.elim id (fun w => by omega)⟩
theorem x_cr2 {post : SX → Prop} (ok : k_ok k) {oo ss pe : Nat → Int32} {x : Int32} (h : ∀ re', tr_n (kP k) re' (kP k) → tr_s (kP k) re' x → post (XC k z (oo, ss, re', pe) M)) : ∀ (n : Nat) (p : Int) (re : Nat → Int32), (∀ a b, 0 ≤ a → a < p → 0 ≤ b → b < kP k → t_R re a b → hp x a = true ∧ hp x b = true) → 0 ≤ p → p ≤ kP k → (kP k - p).toNat < n → wX_closeReach_2 post x (iI (kB k)) (iI (kP k)) (iI (kV k)) (iI (kC k)) (iI (-kh k)) (iI (kh k - 1)) (iI (kE k)) (iI (kN k)) z.1 40 44 48 49 50 51 z.2.1 z.2.2.1 z.2.2.2.1 z.2.2.2.2.1 n (iI p) (xA k 0) (xA k 1) (xA k 2) (xA k 3) (xA k 4) (xA k 5) (xA k 6) (xH k) (xL (M)) (xU (M)) (xS (M)) ((oo, ss, re, pe)).1 ((oo, ss, re, pe)).2.1 ((oo, ss, re, pe)).2.2.1 ((oo, ss, re, pe)).2.2.2 z.2.2.2.2.2.1 z.2.2.2.2.2.2
  | 0, _, _, _, _, _, hn => by omega
  | n + 1, p, re, h1, p0, p1, hn => by
    have hV := ok.2.1
    refine ib_le (kP k) p (fun q => Exists.intro 20 (x_cr45 ok h 20 0 re (fun a b c a0 a1 b0 b1 c0 c1 => by omega) (fun a b a0 a1 b0 b1 => h1 a b a0 (by omega) b0 b1) (by omega) (by omega) (by omega))) (fun q => ?_) rfl rfl (by omega)
    have hin : vp_in (iI p) 10 := ii_in (by omega) (by omega) (by omega)
    refine x_hp rfl (by omega) (ib_b (hp x p) (fun eb => And.intro hin (nm_e (nm_r (ii_add p 1) (x_cr2 ok h n (p + 1) (upd re (iI p).toNatClampNeg 0) (fun a b a0 a1 b0 b1 ht => ?_) (by omega) (by omega) (by omega))))) (fun eb => And.intro hin (And.intro hin (nm_e (nm_r (ii_add p 1) (x_cr2 ok h n (p + 1) (upd re (iI p).toNatClampNeg ((ss (iI p).toNatClampNeg) &&& x)) (fun a b a0 a1 b0 b1 ht => ?_) (by omega) (by omega) (by omega)))))))
    · by_cases ea : a = p
      · subst ea
        unfold t_R at ht
        rw [rd_s _ _ (by omega), hp_0] at ht
        exact absurd ht (by decide)
      · unfold t_R at ht
        rw [rd_n _ _ (by omega) a0 ea] at ht
        exact h1 a b a0 (by omega) b0 b1 ht
    · by_cases ea : a = p
      · subst ea
        unfold t_R at ht
        rw [rd_s _ _ (by omega), hp_and, Bool.and_eq_true] at ht
        exact ⟨eb, ht.2⟩
      · unfold t_R at ht
        rw [rd_n _ _ (by omega) a0 ea] at ht
        exact h1 a b a0 (by omega) b0 b1 ht
theorem x_cr {post : SX → Prop} (ok : k_ok k) {oo ss re pe : Nat → Int32} {x : Int32} (h : ∀ re', tr_n (kP k) re' (kP k) → tr_s (kP k) re' x → post (XC k z (oo, ss, re', pe) M)) : wpX_closeReach post (XC k z (oo, ss, re, pe) M) x := by
  have hV := ok.2.1
  exact Exists.intro 20 (x_cr2 ok h 20 0 re (fun a b a0 a1 => by omega) (by omega) (by omega) (by omega))
theorem x_eo20 {post : Int32 → Prop} (ok : k_ok k) {oo ss re pe : Nat → Int32} {x : Int32} {p : Int} {J : Int32 → Prop} (hp1 : 0 ≤ p ∧ p < kP k) (h : ∀ b : Bool, (b = true ↔ en_t (kP k) re x p) → (b = false → J (iI (p + 1))) ∧ (b = true → post (iI p))) : ∀ (n : Nat) (q : Int) (b : Bool), (b = true ↔ (hp x p = true ∧ ∀ u, 0 ≤ u → u < q → u ≠ p → t_R re u p → t_R re p u)) → 0 ≤ q → q ≤ kP k → (kP k - q).toNat < n → wX_entryOf_20 post J x (iI p) (iI (kB k)) (iI (kP k)) (iI (kV k)) (iI (kC k)) (iI (-kh k)) (iI (kh k - 1)) (iI (kE k)) (iI (kN k)) z.1 40 44 48 49 50 51 z.2.1 z.2.2.1 z.2.2.2.1 z.2.2.2.2.1 (xA k 0) (xA k 1) (xA k 2) (xA k 3) (xA k 4) (xA k 5) (xA k 6) (xH k) (xL (M)) (xU (M)) (xS (M)) ((oo, ss, re, pe)).1 ((oo, ss, re, pe)).2.1 ((oo, ss, re, pe)).2.2.1 ((oo, ss, re, pe)).2.2.2 z.2.2.2.2.2.1 z.2.2.2.2.2.2 n (bI b) (iI q)
  | 0, _, _, _, _, _, hn => by omega
  | n + 1, q, b, h1, q0, q1, hn => by
    have hV := ok.2.1
    refine ib_le (kP k) q (fun e => ?_) (fun e => ib_eq q p (fun e1 => nm_r (ii_add q 1) (x_eo20 ok hp1 h n (q + 1) b (h1.trans ?_) (by omega) (by omega) (by omega))) (fun e1 => ?_) rfl rfl (by omega)) rfl rfl (by omega)
    · have hb := h b (h1.trans ⟨fun y => ⟨hp1.1, hp1.2, y.1, fun u u0 u1 => y.2 u u0 (by omega)⟩, fun y => ⟨y.2.2.1, fun u u0 u1 => y.2.2.2 u u0 (by omega)⟩⟩)
      exact ib_b b (fun eb => nm_r (ii_add p 1) (hb.1 eb)) (fun eb => hb.2 eb)
    · constructor
      · rintro ⟨y1, y2⟩
        exact ⟨y1, fun u u0 u1 u2 => y2 u u0 (by omega) u2⟩
      · rintro ⟨y1, y2⟩
        exact ⟨y1, fun u u0 u1 u2 => y2 u u0 (by omega) u2⟩
    · have hiq : vp_in (iI q) 10 := ii_in (by omega) (by omega) (by omega)
      have hip : vp_in (iI p) 10 := ii_in (by omega) (by omega) (by omega)
      refine And.intro hiq (x_hp rfl (by omega) (ib_b (hp (re (iI q).toNatClampNeg) p) (fun eb => nm_r (ii_add q 1) (x_eo20 ok hp1 h n (q + 1) b (h1.trans ?_) (by omega) (by omega) (by omega))) (fun eb => And.intro hip (x_hp rfl (by omega) (ib_b (hp (re (iI p).toNatClampNeg) q) (fun eb2 => nm_r (ii_add q 1) (x_eo20 ok hp1 h n (q + 1) false ⟨fun y => absurd y (by decide), fun y => ?_⟩ (by omega) (by omega) (by omega))) (fun eb2 => nm_r (ii_add q 1) (x_eo20 ok hp1 h n (q + 1) b (h1.trans ?_) (by omega) (by omega) (by omega))))))))
      · rw [rd_g re (by omega)] at eb
        constructor
        · rintro ⟨y1, y2⟩
          refine ⟨y1, fun u u0 u1 u2 u3 => ?_⟩
          by_cases eu : u = q
          · subst eu
            unfold t_R at u3
            rw [eb] at u3
            exact absurd u3 (by decide)
          · exact y2 u u0 (by omega) u2 u3
        · rintro ⟨y1, y2⟩
          exact ⟨y1, fun u u0 u1 u2 => y2 u u0 (by omega) u2⟩
      · rw [rd_g re (by omega)] at eb eb2
        have := y.2 q q0 (by omega) e1 eb
        unfold t_R at this
        rw [eb2] at this
        exact absurd this (by decide)
      · rw [rd_g re (by omega)] at eb eb2
        constructor
        · rintro ⟨y1, y2⟩
          refine ⟨y1, fun u u0 u1 u2 u3 => ?_⟩
          by_cases eu : u = q
          · subst eu
            exact eb2
          · exact y2 u u0 (by omega) u2 u3
        · rintro ⟨y1, y2⟩
          exact ⟨y1, fun u u0 u1 u2 => y2 u u0 (by omega) u2⟩
theorem x_eo2 {post : Int32 → Prop} (ok : k_ok k) {oo ss re pe : Nat → Int32} {x : Int32} (hx : ∃ p, en_t (kP k) re x p) (h : ∀ p, 0 ≤ p → p < kP k → hp x p = true → post (iI p)) : ∀ (n : Nat) (p : Int), (∀ u, 0 ≤ u → u < p → ¬ en_t (kP k) re x u) → 0 ≤ p → p ≤ kP k → (kP k - p).toNat < n → wX_entryOf_2 post x (iI (kB k)) (iI (kP k)) (iI (kV k)) (iI (kC k)) (iI (-kh k)) (iI (kh k - 1)) (iI (kE k)) (iI (kN k)) z.1 40 44 48 49 50 51 z.2.1 z.2.2.1 z.2.2.2.1 z.2.2.2.2.1 (xA k 0) (xA k 1) (xA k 2) (xA k 3) (xA k 4) (xA k 5) (xA k 6) (xH k) (xL (M)) (xU (M)) (xS (M)) ((oo, ss, re, pe)).1 ((oo, ss, re, pe)).2.1 ((oo, ss, re, pe)).2.2.1 ((oo, ss, re, pe)).2.2.2 z.2.2.2.2.2.1 z.2.2.2.2.2.2 n (iI p)
  | 0, _, _, _, _, hn => by omega
  | n + 1, p, h1, p0, p1, hn => by
    have hV := ok.2.1
    refine ib_le (kP k) p (fun e => ?_) (fun e => x_hp rfl (by omega) (Exists.intro 20 (x_eo20 ok ⟨p0, e⟩ (fun b hb => ⟨fun eb => x_eo2 ok hx h n (p + 1) (fun u u0 u1 hu => ?_) (by omega) (by omega) (by omega), fun eb => h p p0 e (hb.mp eb).2.2.1⟩) 20 0 (hp x p) ⟨fun y => ⟨y, fun u u0 u1 => by omega⟩, fun y => y.1⟩ (by omega) (by omega) (by omega)))) rfl rfl (by omega)
    · obtain ⟨u, hu⟩ := hx
      exact absurd hu (h1 u hu.1 (by have := hu.2.1; omega))
    · by_cases eu : u = p
      · subst eu
        rw [hb.mpr hu] at eb
        exact absurd eb (by decide)
      · exact h1 u u0 (by omega) hu
theorem x_eo {post : Int32 → Prop} (ok : k_ok k) {oo ss re pe : Nat → Int32} {x : Int32} (hx : ∃ p, en_t (kP k) re x p) (h : ∀ p, 0 ≤ p → p < kP k → hp x p = true → post (iI p)) : wpX_entryOf post (XC k z (oo, ss, re, pe) M) x := by
  have hV := ok.2.1
  exact Exists.intro 20 (x_eo2 ok hx h 20 0 (fun u u0 u1 => by omega) (by omega) (by omega) (by omega))
theorem x_co7 {post : Int32 → Prop} (ok : k_ok k) {oo ss re pe : Nat → Int32} {x : Int32} {p : Int} (hp1 : 0 ≤ p ∧ p < kP k) (h : ∀ c : Int32, hp c p = true → (∀ q, 0 ≤ q → q < 32 → hp c q = true → hp x q = true) → post c) : ∀ (n : Nat) (q : Int) (c : Int32), hp c p = true → (∀ q, 0 ≤ q → q < 32 → hp c q = true → hp x q = true) → 0 ≤ q → q ≤ kP k → (kP k - q).toNat < n → wX_componentOf_7 post (iI p) x (iI (kB k)) (iI (kP k)) (iI (kV k)) (iI (kC k)) (iI (-kh k)) (iI (kh k - 1)) (iI (kE k)) (iI (kN k)) z.1 40 44 48 49 50 51 z.2.1 z.2.2.1 z.2.2.2.1 z.2.2.2.2.1 (xA k 0) (xA k 1) (xA k 2) (xA k 3) (xA k 4) (xA k 5) (xA k 6) (xH k) (xL (M)) (xU (M)) (xS (M)) ((oo, ss, re, pe)).1 ((oo, ss, re, pe)).2.1 ((oo, ss, re, pe)).2.2.1 ((oo, ss, re, pe)).2.2.2 z.2.2.2.2.2.1 z.2.2.2.2.2.2 n c (iI q)
  | 0, _, _, _, _, _, _, hn => by omega
  | n + 1, q, c, h1, h2, q0, q1, hn => by
    have hV := ok.2.1
    have hip : vp_in (iI p) 10 := ii_in (by omega) (by omega) (by omega)
    refine ib_le (kP k) q (fun e => h c h1 h2) (fun e => ?_) rfl rfl (by omega)
    have hiq : vp_in (iI q) 10 := ii_in (by omega) (by omega) (by omega)
    refine x_hp rfl (by omega) (ib_b (hp x q) (fun _ => nm_r (ii_add q 1) (x_co7 ok hp1 h n (q + 1) c h1 h2 (by omega) (by omega) (by omega))) (fun eb => And.intro hip (x_hp rfl (by omega) (ib_b _ (fun _ => nm_r (ii_add q 1) (x_co7 ok hp1 h n (q + 1) c h1 h2 (by omega) (by omega) (by omega))) (fun _ => And.intro hiq (x_hp rfl (by omega) (ib_b _ (fun _ => nm_r (ii_add q 1) (x_co7 ok hp1 h n (q + 1) c h1 h2 (by omega) (by omega) (by omega))) (fun _ => nm_e (nm_r (ii_add q 1) (x_co7 ok hp1 h n (q + 1) _ ?_ (fun u u0 u1 hu => ?_) (by omega) (by omega) (by omega)))))))))))
    · rw [hp_or, h1, Bool.true_or]
    · rw [hp_or, Bool.or_eq_true] at hu
      rcases hu with hu | hu
      · exact h2 u u0 u1 hu
      · rw [hp_1 ⟨u0, u1⟩ (by omega)] at hu
        rw [of_decide_eq_true hu]
        exact eb
theorem x_co {post : Int32 → Prop} (ok : k_ok k) {oo ss re pe : Nat → Int32} {x y : Int32} {p : Int} (hy : y = iI p) (hp1 : 0 ≤ p ∧ p < kP k) (hx : hp x p = true) (h : ∀ c : Int32, hp c p = true → (∀ q, 0 ≤ q → q < 32 → hp c q = true → hp x q = true) → post c) : wpX_componentOf post (XC k z (oo, ss, re, pe) M) y x := by
  subst hy
  have hV := ok.2.1
  refine nm_e (Exists.intro 20 (x_co7 ok hp1 h 20 0 _ ?_ (fun q q0 q1 hq => ?_) (by omega) (by omega) (by omega)))
  · rw [hp_1 (by omega) (by omega), decide_eq_true rfl]
  · rw [hp_1 ⟨q0, q1⟩ (by omega)] at hq
    rw [of_decide_eq_true hq]
    exact hx
end
end
section
/-! ===== X: arrange ===== -/
def su_ok (k : kT) (ss : Nat → Int32) : Prop := ∀ p, 0 ≤ p → p < kP k → ∀ q, 0 ≤ q → q < 32 → (hp (rd ss p) q = true ↔ ∃ e, 0 ≤ e ∧ e < kE k ∧ kA k e 0 = p ∧ kA k e 1 = q)
def or_v (k : kT) (oo : Nat → Int32) : Prop := ∀ i, 0 ≤ i → i < kP k → ∃ p, 0 ≤ p ∧ p < kP k ∧ rd oo i = iI p
def or_ok (k : kT) (oo : Nat → Int32) : Prop := (∀ p, 0 ≤ p → p < kP k → ∃ i, 0 ≤ i ∧ i < kP k ∧ rd oo i = iI p) ∧ or_v k oo
/-- the first d sets of the stack: not empty, disjoint; together S -/
def sk_ (P : Int) (pe : Nat → Int32) (d : Int) (S : Int → Prop) : Prop :=
  (∀ j, 0 ≤ j → j < d → (∀ p, 0 ≤ p → p < 32 → hp (rd pe j) p = true → p < P) ∧ ∃ p, 0 ≤ p ∧ p < P ∧ hp (rd pe j) p = true) ∧
  (∀ i j p, 0 ≤ i → i < d → 0 ≤ j → j < d → 0 ≤ p → p < P → hp (rd pe i) p = true → hp (rd pe j) p = true → i = j) ∧
  (∀ p, 0 ≤ p → p < P → (S p ↔ ∃ j, 0 ≤ j ∧ j < d ∧ hp (rd pe j) p = true))
theorem sk_x {P : Int} {pe : Nat → Int32} {d : Int} {S T : Int → Prop} (h : sk_ P pe d S) (e : ∀ p, 0 ≤ p → p < P → (S p ↔ T p)) : sk_ P pe d T := ⟨h.1, h.2.1, fun p p0 p1 => (e p p0 p1).symm.trans (h.2.2 p p0 p1)⟩
theorem sk_pop {P : Int} {pe : Nat → Int32} {d : Int} {S : Int → Prop} (h : sk_ P pe d S) (hd : 0 < d) : sk_ P pe (d - 1) (fun p => S p ∧ ¬ hp (rd pe (d - 1)) p = true) := by
  refine ⟨fun j j0 j1 => h.1 j j0 (by omega), fun i j p i0 i1 j0 j1 => h.2.1 i j p i0 (by omega) j0 (by omega), fun p p0 p1 => ?_⟩
  dsimp only
  rw [h.2.2 p p0 p1]
  constructor
  · rintro ⟨⟨j, j0, j1, hj⟩, hn⟩
    refine ⟨j, j0, ?_, hj⟩
    by_cases e : j = d - 1
    · subst e
      exact absurd hj hn
    · omega
  · rintro ⟨j, j0, j1, hj⟩
    refine ⟨⟨j, j0, by omega, hj⟩, fun hn => ?_⟩
    have := h.2.1 j (d - 1) p j0 (by omega) (by omega) (by omega) p0 p1 hj hn
    omega
theorem sk_push {P : Int} {pe : Nat → Int32} {d : Int} {S : Int → Prop} {x : Int32} (h : sk_ P pe d S) (hd : 0 ≤ d ∧ d ≤ 100) (h1 : ∀ p, 0 ≤ p → p < 32 → hp x p = true → p < P) (h2 : ∃ p, 0 ≤ p ∧ p < P ∧ hp x p = true) (h3 : ∀ p, 0 ≤ p → p < P → hp x p = true → ¬ S p) : sk_ P (upd pe (iI d).toNatClampNeg x) (d + 1) (fun p => S p ∨ hp x p = true) := by
  have ed : rd (upd pe (iI d).toNatClampNeg x) d = x := rd_s _ _ (by omega)
  have en : ∀ j, 0 ≤ j → j < d → rd (upd pe (iI d).toNatClampNeg x) j = rd pe j := fun j j0 j1 => rd_n _ _ (by omega) j0 (by omega)
  refine ⟨fun j j0 j1 => ?_, fun i j p i0 i1 j0 j1 p0 p1 a b => ?_, fun p p0 p1 => ?_⟩
  · by_cases e : j = d
    · rw [e, ed]
      exact ⟨h1, h2⟩
    · rw [en j j0 (by omega)]
      exact h.1 j j0 (by omega)
  · by_cases ei : i = d
    · by_cases ej : j = d
      · omega
      · exfalso
        rw [ei, ed] at a
        rw [en j j0 (by omega)] at b
        exact h3 p p0 p1 a ((h.2.2 p p0 p1).mpr ⟨j, j0, by omega, b⟩)
    · by_cases ej : j = d
      · exfalso
        rw [ej, ed] at b
        rw [en i i0 (by omega)] at a
        exact h3 p p0 p1 b ((h.2.2 p p0 p1).mpr ⟨i, i0, by omega, a⟩)
      · rw [en i i0 (by omega)] at a
        rw [en j j0 (by omega)] at b
        exact h.2.1 i j p i0 (by omega) j0 (by omega) p0 p1 a b
  · dsimp only
    rw [h.2.2 p p0 p1]
    constructor
    · rintro (⟨j, j0, j1, hj⟩ | hx)
      · exact ⟨j, j0, by omega, by rw [en j j0 j1]; exact hj⟩
      · exact ⟨d, hd.1, by omega, by rw [ed]; exact hx⟩
    · rintro ⟨j, j0, j1, hj⟩
      by_cases e : j = d
      · rw [e, ed] at hj
        exact Or.inr hj
      · rw [en j j0 (by omega)] at hj
        exact Or.inl ⟨j, j0, by omega, hj⟩
abbrev KT : Type := Int32 → Int32 → Int32 → Int32 → Int32 → Int32 → Int32 → Int32 → Int32 → Int32 → Int32 → Int32 → Int32 → Int32 → Int32 → Int32 → Int32 → Int32 → Int32 → Int32 → Int32 → (Nat → Int32) → (Nat → Int32) → (Nat → Int32) → (Nat → Int32) → (Nat → Int32) → (Nat → Int32) → (Nat → Int32) → (Nat → Int32) → (Nat → Int32) → (Nat → Int32) → (Nat → Int32) → (Nat → Int32) → (Nat → Int32) → (Nat → Int32) → (Nat → Int32) → (Nat → Int32) → (Nat → Int32) → Prop
section
variable {k : kT} {z : zT} {M : mT}
theorem x_ar161 {post : SX → Prop} (ok : k_ok k) {oo ss re pe : Nat → Int32} {J : KT} {d n p : Int} {c : Int32} {S : Int → Prop} (hd : 0 ≤ d ∧ d ≤ 11) (hp1 : 0 ≤ p ∧ p < kP k) (hs : sk_ (kP k) pe d S) (hc : ∀ q, 0 ≤ q → q < 32 → hp c q = true → q < kP k) (hcS : ∀ q, 0 ≤ q → q < kP k → hp c q = true → ¬ S q) (hJ : ∀ (pe' : Nat → Int32) (d' : Int), 0 ≤ d' → d' ≤ d + 1 → sk_ (kP k) pe' d' (fun q => S q ∨ (hp c q = true ∧ q ≠ p)) → J (iI d') (iI (n + 1)) (iI (kB k)) (iI (kP k)) (iI (kV k)) (iI (kC k)) (iI (-kh k)) (iI (kh k - 1)) (iI (kE k)) (iI (kN k)) z.1 40 44 48 49 50 51 z.2.1 z.2.2.1 z.2.2.2.1 z.2.2.2.2.1 (xA k 0) (xA k 1) (xA k 2) (xA k 3) (xA k 4) (xA k 5) (xA k 6) (xH k) (xL (M)) (xU (M)) (xS (M)) ((oo, ss, re, pe')).1 ((oo, ss, re, pe')).2.1 ((oo, ss, re, pe')).2.2.1 ((oo, ss, re, pe')).2.2.2 z.2.2.2.2.2.1 z.2.2.2.2.2.2) : wX_arrange_161 post J (iI d) (iI n) (iI p) c (iI (kB k)) (iI (kP k)) (iI (kV k)) (iI (kC k)) (iI (-kh k)) (iI (kh k - 1)) (iI (kE k)) (iI (kN k)) z.1 40 44 48 49 50 51 z.2.1 z.2.2.1 z.2.2.2.1 z.2.2.2.2.1 (xA k 0) (xA k 1) (xA k 2) (xA k 3) (xA k 4) (xA k 5) (xA k 6) (xH k) (xL (M)) (xU (M)) (xS (M)) ((oo, ss, re, pe)).1 ((oo, ss, re, pe)).2.1 ((oo, ss, re, pe)).2.2.1 ((oo, ss, re, pe)).2.2.2 z.2.2.2.2.2.1 z.2.2.2.2.2.2 := by
  have hV := ok.2.1
  have hb : ∀ q, 0 ≤ q → q < 32 → (hp (c &&& (((1 : Int32) <<< (iI p &&& 31)) ^^^ (-1))) q = true ↔ (hp c q = true ∧ q ≠ p)) := fun q q0 q1 => by
    rw [hp_and, hp_not _ q1, hp_1 ⟨q0, q1⟩ (by omega), Bool.and_eq_true, Bool.not_eq_true', decide_eq_false_iff_not]
  refine nm_e ?_
  refine And.intro (fun e => nm_r (ii_add n 1) (hJ pe d hd.1 (by omega) (sk_x hs fun q q0 q1 => ⟨Or.inl, fun y => y.elim id (fun w => ?_)⟩))) (fun e => And.intro (ii_in (by omega) (by omega) (by omega)) (nm_e (nm_r (ii_add d 1) (nm_r (ii_add n 1) (hJ (upd pe (iI d).toNatClampNeg (c &&& (((1 : Int32) <<< (iI p &&& 31)) ^^^ (-1)))) (d + 1) (by omega) (by omega) (sk_x (sk_push hs (by omega) ?_ ?_ ?_) fun q q0 q1 => ?_))))))
  · have h1 := (hb q q0 (by omega)).mpr w
    rw [e, hp_0] at h1
    exact absurd h1 (by decide)
  · intro q q0 q1 hq
    exact hc q q0 q1 ((hb q q0 q1).mp hq).1
  · obtain ⟨q, q0, q1, hq⟩ := hp_e e
    exact ⟨q, q0, hc q q0 q1 ((hb q q0 q1).mp hq).1, hq⟩
  · intro q q0 q1 hq
    exact hcS q q0 q1 ((hb q q0 (by omega)).mp hq).1
  · rw [hb q q0 (by omega)]
theorem x_ar86 {post : SX → Prop} (ok : k_ok k) {ss : Nat → Int32} (h : ∀ oo re pe, or_ok k oo → post (XC k z (oo, ss, re, pe) M)) : ∀ (f : Nat) (d n : Int) (oo re pe : Nat → Int32) (S : Int → Prop), or_v k oo → sk_ (kP k) pe d S → (∀ p, 0 ≤ p → p < kP k → (∃ i, 0 ≤ i ∧ i < n ∧ rd oo i = iI p) ∨ S p) → (ct_n (fun i => S (i : Int)) (kP k).toNat : Int) ≤ kP k - n → 0 ≤ d → d ≤ n + 1 → 0 ≤ n → n ≤ kP k → (kP k - n).toNat < f → wX_arrange_86 post f (iI d) (iI n) (iI (kB k)) (iI (kP k)) (iI (kV k)) (iI (kC k)) (iI (-kh k)) (iI (kh k - 1)) (iI (kE k)) (iI (kN k)) z.1 40 44 48 49 50 51 z.2.1 z.2.2.1 z.2.2.2.1 z.2.2.2.2.1 (xA k 0) (xA k 1) (xA k 2) (xA k 3) (xA k 4) (xA k 5) (xA k 6) (xH k) (xL (M)) (xU (M)) (xS (M)) ((oo, ss, re, pe)).1 ((oo, ss, re, pe)).2.1 ((oo, ss, re, pe)).2.2.1 ((oo, ss, re, pe)).2.2.2 z.2.2.2.2.2.1 z.2.2.2.2.2.2
  | 0, _, _, _, _, _, _, _, _, _, _, _, _, _, _, hf => by omega
  | f + 1, d, n, oo, re, pe, S, hv, hs, hcov, hct, d0, d1, n0, n1, hf => by
    have hV := ok.2.1
    refine ib_le (kP k) n (fun e => h oo re pe ⟨fun p p0 p1 => ?_, hv⟩) (fun e => ib_le d 0 (fun e2 => h oo re pe ⟨fun p p0 p1 => ?_, hv⟩) (fun e2 => ?_) rfl rfl (by omega)) rfl rfl (by omega)
    · rcases hcov p p0 p1 with ⟨i, i0, i1, hi⟩ | hS
      · exact ⟨i, i0, by omega, hi⟩
      · exfalso
        have hlt := ct_lt (P := fun _ => False) (Q := fun i : Nat => S (i : Int)) (j := p.toNat) id (by rw [Int.toNat_of_nonneg p0]; exact hS) (kP k).toNat (by omega) (fun i _ x => x.elim)
        omega
    · rcases hcov p p0 p1 with ⟨i, i0, i1, hi⟩ | hS
      · exact ⟨i, i0, by omega, hi⟩
      · obtain ⟨j, j0, j1, _⟩ := (hs.2.2 p p0 p1).mp hS
        omega
    · refine nm_r (e' := iI (d - 1)) (by rw [ii_m1, ii_add]; rfl) (And.intro (ii_in (by omega) (by omega) (by omega)) (nm_r (e' := rd pe (d - 1)) (rd_g pe (by omega)) ?_))
      have hx1 := (hs.1 (d - 1) (by omega) (by omega)).1
      obtain ⟨p0, pp0, pp1, hp0⟩ := (hs.1 (d - 1) (by omega) (by omega)).2
      have hpop := sk_pop hs e2
      have hxS : ∀ q, 0 ≤ q → q < kP k → hp (rd pe (d - 1)) q = true → S q := fun q q0 q1 hq => (hs.2.2 q q0 q1).mpr ⟨d - 1, by omega, by omega, hq⟩
      generalize rd pe (d - 1) = x at *
      refine x_cr ok (fun re' ht hts => x_eo ok (en_x ht hts _ p0 pp0 pp1 hp0 (Nat.lt_succ_self _)) (fun p q0 q1 hxp => x_co ok rfl ⟨q0, q1⟩ hxp (fun c hcp hcx => And.intro (ii_in (by omega) (by omega) (by omega)) (nm_e (nm_e ?_)))))
      have hb : ∀ q, 0 ≤ q → q < 32 → (hp (x &&& (c ^^^ (-1))) q = true ↔ (hp x q = true ∧ ¬ hp c q = true)) := fun q q0 q1 => by
        rw [hp_and, hp_not _ q1, Bool.and_eq_true, Bool.not_eq_true', Bool.not_eq_true]
      -- the rest, once pushed
      have last : ∀ (pe' : Nat → Int32) (d' : Int), 0 ≤ d' → d' ≤ d → sk_ (kP k) pe' d' (fun q => (S q ∧ ¬ hp x q = true) ∨ (hp x q = true ∧ ¬ hp c q = true)) → wX_arrange_161 post (wX_arrange_86 post f) (iI d') (iI n) (iI p) c (iI (kB k)) (iI (kP k)) (iI (kV k)) (iI (kC k)) (iI (-kh k)) (iI (kh k - 1)) (iI (kE k)) (iI (kN k)) z.1 40 44 48 49 50 51 z.2.1 z.2.2.1 z.2.2.2.1 z.2.2.2.2.1 (xA k 0) (xA k 1) (xA k 2) (xA k 3) (xA k 4) (xA k 5) (xA k 6) (xH k) (xL (M)) (xU (M)) (xS (M)) ((upd oo (iI n).toNatClampNeg (iI p), ss, re', pe')).1 ((upd oo (iI n).toNatClampNeg (iI p), ss, re', pe')).2.1 ((upd oo (iI n).toNatClampNeg (iI p), ss, re', pe')).2.2.1 ((upd oo (iI n).toNatClampNeg (iI p), ss, re', pe')).2.2.2 z.2.2.2.2.2.1 z.2.2.2.2.2.2 := fun pe' d' d'0 d'1 hs' => by
        refine x_ar161 ok (by omega) ⟨q0, q1⟩ hs' (fun q r0 r1 hq => hx1 q r0 r1 (hcx q r0 r1 hq)) (fun q r0 r1 hq hn => ?_) (fun pe3 d3 e3 e4 hs3 => ?_)
        · have hxq := hcx q r0 (by omega) hq
          rcases hn with hn | hn
          · exact hn.2 hxq
          · exact hn.2 hq
        · refine x_ar86 ok h f d3 (n + 1) _ re' pe3 (fun q => S q ∧ q ≠ p) (fun i i0 i1 => ?_) (sk_x hs3 fun q r0 r1 => ?_) (fun q r0 r1 => ?_) ?_ e3 (by omega) (by omega) (by omega) (by omega)
          · by_cases ei : i = n
            · rw [ei, rd_s _ _ (by omega)]
              exact ⟨p, q0, q1, rfl⟩
            · rw [rd_n _ _ (by omega) i0 ei]
              exact hv i i0 i1
          · constructor
            · rintro ((⟨a1, a2⟩ | ⟨a1, a2⟩) | ⟨a1, a2⟩)
              · exact ⟨a1, fun eq => a2 (eq ▸ hxp)⟩
              · exact ⟨hxS q r0 r1 a1, fun eq => a2 (eq ▸ hcp)⟩
              · exact ⟨hxS q r0 r1 (hcx q r0 (by omega) a1), a2⟩
            · rintro ⟨a1, a2⟩
              by_cases b1 : hp x q = true
              · by_cases b2 : hp c q = true
                · exact Or.inr ⟨b2, a2⟩
                · exact Or.inl (Or.inr ⟨b1, b2⟩)
              · exact Or.inl (Or.inl ⟨a1, b1⟩)
          · by_cases eq : q = p
            · exact Or.inl ⟨n, n0, by omega, by rw [rd_s _ _ (by omega), eq]⟩
            · rcases hcov q r0 r1 with ⟨i, i0, i1, hi⟩ | hS
              · exact Or.inl ⟨i, i0, by omega, by rw [rd_n _ _ (by omega) i0 (by omega)]; exact hi⟩
              · exact Or.inr ⟨hS, eq⟩
          · have hlt := ct_lt (P := fun i : Nat => S (i : Int) ∧ (i : Int) ≠ p) (Q := fun i : Nat => S (i : Int)) (j := p.toNat) (by rw [Int.toNat_of_nonneg q0]; exact fun y => y.2 rfl) (by rw [Int.toNat_of_nonneg q0]; exact hxS p q0 q1 hxp) (kP k).toNat (by omega) (fun i _ y => y.1)
            omega
      refine And.intro (fun ez => last pe (d - 1) (by omega) (by omega) (sk_x hpop fun q r0 r1 => ⟨Or.inl, fun y => y.elim id (fun w => ?_)⟩)) (fun ez => And.intro (ii_in (by omega) (by omega) (by omega)) (nm_e (nm_r (e' := iI d) (by rw [ii_1, ii_add]; exact congrArg iI (by omega)) (last (upd pe (iI (d - 1)).toNatClampNeg (x &&& (c ^^^ (-1)))) d d0 (Int.le_refl _) ?_))))
      · have h1 := (hb q r0 (by omega)).mpr w
        rw [ez, hp_0] at h1
        exact absurd h1 (by decide)
      · have hq := sk_push hpop (x := x &&& (c ^^^ (-1))) (by omega) (fun q r0 r1 hq => hx1 q r0 r1 ((hb q r0 r1).mp hq).1) (by
          obtain ⟨q, r0, r1, hq⟩ := hp_e ez
          exact ⟨q, r0, hx1 q r0 r1 ((hb q r0 r1).mp hq).1, hq⟩) (fun q r0 r1 hq hn => hn.2 ((hb q r0 (by omega)).mp hq).1)
        rw [show d - 1 + 1 = d by omega] at hq
        exact sk_x hq fun q r0 r1 => by rw [hb q r0 (by omega)]
theorem x_ar32 {post : SX → Prop} (ok : k_ok k) {oo re pe : Nat → Int32} (hv : or_v k oo) (h : ∀ oo ss re pe, or_ok k oo → su_ok k ss → post (XC k z (oo, ss, re, pe) M)) : ∀ (f : Nat) (i : Int) (ss : Nat → Int32), (∀ p, 0 ≤ p → p < kP k → ∀ q, 0 ≤ q → q < 32 → (hp (rd ss p) q = true ↔ ∃ e, 0 ≤ e ∧ e < i ∧ kA k e 0 = p ∧ kA k e 1 = q)) → 0 ≤ i → i ≤ kE k → (kE k - i).toNat < f → wX_arrange_32 post (iI (kB k)) (iI (kP k)) (iI (kV k)) (iI (kC k)) (iI (-kh k)) (iI (kh k - 1)) (iI (kE k)) (iI (kN k)) z.1 40 44 48 49 50 51 z.2.1 z.2.2.1 z.2.2.2.1 z.2.2.2.2.1 f (iI i) (xA k 0) (xA k 1) (xA k 2) (xA k 3) (xA k 4) (xA k 5) (xA k 6) (xH k) (xL (M)) (xU (M)) (xS (M)) ((oo, ss, re, pe)).1 ((oo, ss, re, pe)).2.1 ((oo, ss, re, pe)).2.2.1 ((oo, ss, re, pe)).2.2.2 z.2.2.2.2.2.1 z.2.2.2.2.2.2
  | 0, _, _, _, _, _, hf => by omega
  | f + 1, i, ss, h1, i0, i1, hf => by
    have hV := ok.2.1
    refine ib_le (kE k) i (fun e => nm_e (Exists.intro 20 ?_)) (fun e => ?_) rfl rfl (by omega)
    · obtain rfl : i = kE k := by omega
      have ea : ∀ p, 0 ≤ p → p < 32 → (hp (((1 : Int32) <<< (iI (kP k) &&& 31)) - 1) p = true ↔ p < kP k) := fun p p0 p1 => by
        rw [hp_all (by omega) ⟨p0, p1⟩, decide_eq_true_iff]
      have e0 : rd (upd pe 0 (((1 : Int32) <<< (iI (kP k) &&& 31)) - 1)) 0 = ((1 : Int32) <<< (iI (kP k) &&& 31)) - 1 := rfl
      refine x_ar86 ok (fun oo re pe ho => h oo ss re pe ho h1) 20 1 0 oo re (upd pe 0 (((1 : Int32) <<< (iI (kP k) &&& 31)) - 1)) (fun _ => True) hv ⟨fun j j0 j1 => ?_, fun i j p i0 i1 j0 j1 _ _ _ _ => by omega, fun p p0 p1 => ⟨fun _ => ⟨0, by omega, by omega, ?_⟩, fun _ => trivial⟩⟩ (fun p _ _ => Or.inr trivial) ?_ (by omega) (by omega) (by omega) (by omega) (by omega)
      · obtain rfl : j = 0 := by omega
        rw [e0]
        exact ⟨fun p p0 p1 hp => (ea p p0 p1).mp hp, 0, by omega, by omega, (ea 0 (by omega) (by omega)).mpr (by omega)⟩
      · rw [e0]
        exact (ea p p0 (by omega)).mpr p1
      · have := ct_mx (fun _ : Nat => True) (kP k).toNat
        omega
    · have ho := (ok.2.2.1 i i0 e).1
      have hin : vp_in (iI i) 20 := ii_in (by omega) (by omega) (by omega)
      have eS : xA k 0 (iI i).toNatClampNeg = iI (kA k i 0) := xa_g k 0 (by omega)
      have eT : xA k 1 (iI i).toNatClampNeg = iI (kA k i 1) := xa_g k 1 (by omega)
      have his : vp_in (xA k 0 (iI i).toNatClampNeg) 10 := by
        rw [eS]
        exact ii_in (by omega) (by omega) (by omega)
      refine And.intro hin (And.intro his (And.intro hin (And.intro his (nm_e (nm_r (ii_add i 1) (x_ar32 ok hv h f (i + 1) (upd ss (xA k 0 (iI i).toNatClampNeg).toNatClampNeg ((ss (xA k 0 (iI i).toNatClampNeg).toNatClampNeg) ||| ((1 : Int32) <<< ((xA k 1 (iI i).toNatClampNeg) &&& 31)))) (fun p p0 p1 q q0 q1 => ?_) (by omega) (by omega) (by omega)))))))
      rw [eS, eT]
      by_cases ep : p = kA k i 0
      · rw [ep, rd_s _ _ (by omega), hp_or, rd_g ss (by omega), hp_1 ⟨q0, q1⟩ (by omega), Bool.or_eq_true, decide_eq_true_iff, h1 _ (by omega) (by omega) q q0 q1]
        constructor
        · rintro (⟨e', a1, a2, a3, a4⟩ | a)
          · exact ⟨e', a1, by omega, a3, a4⟩
          · exact ⟨i, i0, by omega, rfl, a.symm⟩
        · rintro ⟨e', a1, a2, a3, a4⟩
          by_cases ee : e' = i
          · subst ee
            exact Or.inr a4.symm
          · exact Or.inl ⟨e', a1, by omega, a3, a4⟩
      · rw [rd_n _ _ (by omega) p0 ep, h1 p p0 p1 q q0 q1]
        constructor
        · rintro ⟨e', a1, a2, a3, a4⟩
          exact ⟨e', a1, by omega, a3, a4⟩
        · rintro ⟨e', a1, a2, a3, a4⟩
          by_cases ee : e' = i
          · subst ee
            exact absurd a3.symm ep
          · exact ⟨e', a1, by omega, a3, a4⟩
theorem x_ar2 {post : SX → Prop} (ok : k_ok k) {re pe : Nat → Int32} (h : ∀ oo ss re pe, or_ok k oo → su_ok k ss → post (XC k z (oo, ss, re, pe) M)) : ∀ (f : Nat) (i : Int) (oo ss : Nat → Int32), (∀ p, 0 ≤ p → p < i → rd oo p = iI p ∧ rd ss p = 0) → 0 ≤ i → i ≤ kP k → (kP k - i).toNat < f → wX_arrange_2 post (iI (kB k)) (iI (kP k)) (iI (kV k)) (iI (kC k)) (iI (-kh k)) (iI (kh k - 1)) (iI (kE k)) (iI (kN k)) z.1 40 44 48 49 50 51 z.2.1 z.2.2.1 z.2.2.2.1 z.2.2.2.2.1 f (iI i) (xA k 0) (xA k 1) (xA k 2) (xA k 3) (xA k 4) (xA k 5) (xA k 6) (xH k) (xL (M)) (xU (M)) (xS (M)) ((oo, ss, re, pe)).1 ((oo, ss, re, pe)).2.1 ((oo, ss, re, pe)).2.2.1 ((oo, ss, re, pe)).2.2.2 z.2.2.2.2.2.1 z.2.2.2.2.2.2
  | 0, _, _, _, _, _, _, hf => by omega
  | f + 1, i, oo, ss, h1, i0, i1, hf => by
    have hV := ok.2.1
    refine ib_le (kP k) i (fun e => Exists.intro 30 (x_ar32 ok (fun p p0 p1 => ⟨p, p0, p1, (h1 p p0 (by omega)).1⟩) h 30 0 ss (fun p p0 p1 q q0 q1 => ?_) (by omega) (by omega) (by omega))) (fun e => ?_) rfl rfl (by omega)
    · rw [(h1 p p0 (by omega)).2, hp_0]
      exact ⟨fun x => absurd x (by decide), fun ⟨e', a1, a2, _⟩ => by omega⟩
    · have hin : vp_in (iI i) 10 := ii_in (by omega) (by omega) (by omega)
      refine And.intro hin (nm_e (And.intro hin (nm_e (nm_r (ii_add i 1) (x_ar2 ok h f (i + 1) (upd oo (iI i).toNatClampNeg (iI i)) (upd ss (iI i).toNatClampNeg 0) (fun p p0 p1 => ?_) (by omega) (by omega) (by omega))))))
      by_cases ep : p = i
      · rw [ep, rd_s _ _ (by omega), rd_s _ _ (by omega)]
        exact ⟨rfl, rfl⟩
      · rw [rd_n _ _ (by omega) p0 ep, rd_n _ _ (by omega) p0 ep]
        exact h1 p p0 (by omega)
theorem x_arr {post : SX → Prop} (ok : k_ok k) {oo ss re pe : Nat → Int32} (h : ∀ oo ss re pe, or_ok k oo → su_ok k ss → post (XC k z (oo, ss, re, pe) M)) : wpX_arrange post (XC k z (oo, ss, re, pe) M) := by
  have hV := ok.2.1
  exact Exists.intro 20 (x_ar2 ok h 20 0 oo ss (fun p p0 p1 => by omega) (by omega) (by omega) (by omega))
end
end
section
/-! ===== X: stabilise ===== -/
theorem k_upg {k : kT} {w : Prop} {p : Int} {A A' : aT} (ok : k_ok k) (hg : k_g k A) (hu : k_up k w p A A') : k_g k A' := by
  have hF := k_Fg (w := w) ok hg
  refine ⟨fun q s v h => ?_, fun q s v h s' h1 h2 => ?_⟩
  · rcases (hu q s v).mp h with ⟨_, h⟩ | ⟨_, h⟩
    · exact hF.1 q s v h
    · exact hg.1 q s v h
  · rcases (hu q s v).mp h with ⟨e, h⟩ | ⟨e, h⟩
    · obtain ⟨v', hv⟩ := hF.2 q s v h s' h1 h2
      exact ⟨v', (hu q s' v').mpr (Or.inl ⟨e, hv⟩)⟩
    · obtain ⟨v', hv⟩ := hg.2 q s v h s' h1 h2
      exact ⟨v', (hu q s' v').mpr (Or.inr ⟨e, hv⟩)⟩
/-- a row's step looks at the sources of its edges alone -/
theorem k_Fl {k : kT} {w : Prop} {A A' : aT} {p q : Int} (h : ∀ u s v, u ≠ p → (A' u s v ↔ A u s v)) (he : ∀ e, 0 ≤ e → e < kE k → kA k e 1 = q → kA k e 0 ≠ p) (s v : Int) : k_F k w A' q s v ↔ k_F k w A q s v := by
  have e1 : k_in k A' q s = k_in k A q s := by
    funext v
    unfold k_in
    apply propext
    constructor
    · rintro (x | ⟨e, a1, a2, a3, a4⟩)
      · exact Or.inl x
      · refine Or.inr ⟨e, a1, a2, a3, ?_⟩
        exact fl_F_mono (fun s v => (h _ s v (he e a1 a2 a3)).mp) a4
    · rintro (x | ⟨e, a1, a2, a3, a4⟩)
      · exact Or.inl x
      · refine Or.inr ⟨e, a1, a2, a3, ?_⟩
        exact fl_F_mono (fun s v => (h _ s v (he e a1 a2 a3)).mpr) a4
  unfold k_F
  rw [e1]
noncomputable def pc_ (x : Int32) : Nat := ct_n (fun i => hp x (i : Int) = true) 10
theorem pc_m (x : Int32) : pc_ x ≤ 10 := ct_mx _ _
section
variable {k : kT} {z : zT} {M : mT}
theorem x_fo2 {post : Int32 → Prop} (ok : k_ok k) {oo ss re pe : Nat → Int32} {x : Int32} (ho : or_ok k oo) (hx : ∃ p, 0 ≤ p ∧ p < kP k ∧ hp x p = true) (h : ∀ p, 0 ≤ p → p < kP k → hp x p = true → post (iI p)) : ∀ (f : Nat) (i : Int), (∀ j p, 0 ≤ j → j < i → 0 ≤ p → p < kP k → rd oo j = iI p → hp x p = false) → 0 ≤ i → i ≤ kP k → (kP k - i).toNat < f → wX_firstOpen_2 post x (iI (kB k)) (iI (kP k)) (iI (kV k)) (iI (kC k)) (iI (-kh k)) (iI (kh k - 1)) (iI (kE k)) (iI (kN k)) z.1 40 44 48 49 50 51 z.2.1 z.2.2.1 z.2.2.2.1 z.2.2.2.2.1 (xA k 0) (xA k 1) (xA k 2) (xA k 3) (xA k 4) (xA k 5) (xA k 6) (xH k) (xL (M)) (xU (M)) (xS (M)) ((oo, ss, re, pe)).1 ((oo, ss, re, pe)).2.1 ((oo, ss, re, pe)).2.2.1 ((oo, ss, re, pe)).2.2.2 z.2.2.2.2.2.1 z.2.2.2.2.2.2 f (iI i)
  | 0, _, _, _, _, hf => by omega
  | f + 1, i, h1, i0, i1, hf => by
    have hV := ok.2.1
    refine ib_le (kP k) i (fun e => ?_) (fun e => ?_) rfl rfl (by omega)
    · obtain ⟨p, p0, p1, hp1⟩ := hx
      obtain ⟨j, j0, j1, hj⟩ := ho.1 p p0 p1
      rw [h1 j p j0 (by omega) p0 p1 hj] at hp1
      exact absurd hp1 (by decide)
    · have hin : vp_in (iI i) 10 := ii_in (by omega) (by omega) (by omega)
      obtain ⟨p, p0, p1, hp1⟩ := ho.2 i i0 e
      have ep : oo (iI i).toNatClampNeg = iI p := (rd_g oo (by omega)).trans hp1
      refine And.intro hin (x_hp ep (by omega) (ib_b (hp x p) (fun eb => nm_r (ii_add i 1) (x_fo2 ok ho hx h f (i + 1) (fun j q j0 j1 q0 q1 hj => ?_) (by omega) (by omega) (by omega))) (fun eb => And.intro hin ?_)))
      · by_cases ej : j = i
        · rw [ej, hp1] at hj
          have := (ii_eq (by omega)).mp hj
          rw [← this]
          exact eb
        · exact h1 j q j0 (by omega) q0 q1 hj
      · show post (oo (iI i).toNatClampNeg)
        rw [ep]
        exact h p p0 p1 eb
theorem x_fo {post : Int32 → Prop} (ok : k_ok k) {oo ss re pe : Nat → Int32} {x : Int32} (ho : or_ok k oo) (hx : ∃ p, 0 ≤ p ∧ p < kP k ∧ hp x p = true) (h : ∀ p, 0 ≤ p → p < kP k → hp x p = true → post (iI p)) : wpX_firstOpen post (XC k z (oo, ss, re, pe) M) x := by
  have hV := ok.2.1
  exact Exists.intro 20 (x_fo2 ok ho hx h 20 0 (fun j p j0 j1 => by omega) (by omega) (by omega) (by omega))
/-- the classes in the row 'in' stand for the new state of p -/
def in_ok (k : kT) (w : Prop) (A : aT) (p : Int) (M : mT) : Prop := ∀ s, 0 ≤ s → s ≤ kV k → cl_n (M (44 + s)) ∧ ∀ v, cl_m (M (44 + s)) v ↔ k_F k w A p s v
theorem x_s63 {post : SX → Prop} (ok : k_ok k) {oo ss re pe : Nat → Int32} {J : KT} {w : Prop} {p t : Int} {x1 op : Int32} (hp1 : 0 ≤ p ∧ p < kP k) {M1 : mT} (hx : x_ok k M) (hf : ∀ j, j < 40 → M1 j = M j) (hin : in_ok k w (xM k M) p M1) (h : ∀ (M' : mT) (b : Bool), x_ok k M' → k_up k w p (xM k M) (xM k M') → (b = false → xM k M' = xM k M) → (b = true → ∃ s v, ¬ (xM k M p s v ↔ xM k M' p s v)) → J (if b then op ||| rd ss p else op) (iI (t + 1)) (iI (kB k)) (iI (kP k)) (iI (kV k)) (iI (kC k)) (iI (-kh k)) (iI (kh k - 1)) (iI (kE k)) (iI (kN k)) z.1 40 44 48 49 50 51 z.2.1 z.2.2.1 z.2.2.2.1 z.2.2.2.2.1 (xA k 0) (xA k 1) (xA k 2) (xA k 3) (xA k 4) (xA k 5) (xA k 6) (xH k) (xL (M')) (xU (M')) (xS (M')) ((oo, ss, re, pe)).1 ((oo, ss, re, pe)).2.1 ((oo, ss, re, pe)).2.2.1 ((oo, ss, re, pe)).2.2.2 z.2.2.2.2.2.1 z.2.2.2.2.2.2) : wX_stabilise_63 post J x1 op (iI t) (iI p) (iI (kB k)) (iI (kP k)) (iI (kV k)) (iI (kC k)) (iI (-kh k)) (iI (kh k - 1)) (iI (kE k)) (iI (kN k)) z.1 40 44 48 49 50 51 z.2.1 z.2.2.1 z.2.2.2.1 z.2.2.2.2.1 (xA k 0) (xA k 1) (xA k 2) (xA k 3) (xA k 4) (xA k 5) (xA k 6) (xH k) (xL (M1)) (xU (M1)) (xS (M1)) ((oo, ss, re, pe)).1 ((oo, ss, re, pe)).2.1 ((oo, ss, re, pe)).2.2.1 ((oo, ss, re, pe)).2.2.2 z.2.2.2.2.2.1 z.2.2.2.2.2.2 := by
  have hV := ok.2.1
  have hh := k_h ok
  have hg := k_Fg (w := w) ok hx.2
  have kd : ∀ s, 0 ≤ s → s ≤ kV k → k_d k p s := fun s s0 s1 => ⟨hp1.1, hp1.2, s0, s1⟩
  have cs2 : ∀ s, 0 ≤ s → s ≤ kV k → cs_ (M1 (44 + s)) := fun s s0 s1 => cs_n (hin s s0 s1).1 (fun n hn => by
    have := (hg.1 p s n (((hin s s0 s1).2 n).mp hn)).2
    omega)
  have cs1 : ∀ s, 0 ≤ s → s ≤ kV k → cs_ (M1 (4 * p + s)) := fun s s0 s1 => by
    rw [hf _ (by omega)]
    exact xo_s hx ok (kd s s0 s1)
  refine x_rr ok (p := p) (ii_mul 4 p) hp1 cs1 cs2 (fun M' b r1 r2 hb => ?_)
  have up : k_up k w p (xM k M) (xM k M') := fun q s v => by
    constructor
    · rintro ⟨d, hm⟩
      by_cases e : q = p
      · subst e
        rw [r1 s d.2.2.1 d.2.2.2] at hm
        exact Or.inl ⟨rfl, ((hin s d.2.2.1 d.2.2.2).2 v).mp hm⟩
      · have hd := d
        obtain ⟨d1, d2, d3, d4⟩ := d
        rw [r2 _ (by omega), hf _ (by omega)] at hm
        exact Or.inr ⟨e, hd, hm⟩
    · rintro (⟨e, hF⟩ | ⟨e, d, hm⟩)
      · subst e
        have d := hF.1
        refine ⟨d, ?_⟩
        rw [r1 s d.2.2.1 d.2.2.2]
        exact ((hin s d.2.2.1 d.2.2.2).2 v).mpr hF
      · refine ⟨d, ?_⟩
        obtain ⟨d1, d2, d3, d4⟩ := d
        rw [r2 _ (by omega), hf _ (by omega)]
        exact hm
  have xok : x_ok k M' := ⟨fun q s d => by
    obtain ⟨d1, d2, d3, d4⟩ := d
    by_cases e : q = p
    · subst e
      rw [r1 s d3 d4]
      exact (hin s d3 d4).1
    · rw [r2 _ (by omega), hf _ (by omega)]
      exact hx.1 q s ⟨d1, d2, d3, d4⟩, k_upg ok hx.2 up⟩
  have hJ := h M' b xok up (fun eb => by
    have hno : ∀ s, 0 ≤ s → s ≤ kV k → M1 (4 * p + s) = M1 (44 + s) := fun s s0 s1 => by
      by_cases e : M1 (4 * p + s) = M1 (44 + s)
      · exact e
      · rw [hb.mpr ⟨s, s0, s1, e⟩] at eb
        exact absurd eb (by decide)
    refine xM_e ok (fun j hj => ?_)
    by_cases e : 4 * p ≤ j ∧ j ≤ 4 * p + kV k
    · have e2 : j = 4 * p + (j - 4 * p) := by omega
      rw [e2, r1 _ (by omega) (by omega), ← hno _ (by omega) (by omega), hf _ (by omega)]
    · rw [r2 _ (by omega), hf _ hj]) (fun eb => by
    obtain ⟨s, s0, s1, hne⟩ := hb.mp eb
    -- two canonical classes that differ differ in a member
    have n1 : cl_n (M1 (4 * p + s)) := by
      rw [hf _ (by omega)]
      exact hx.1 p s (kd s s0 s1)
    have n2 := (hin s s0 s1).1
    by_cases hall : ∀ v, (cl_m (M1 (4 * p + s)) v ↔ cl_m (M1 (44 + s)) v)
    · exact absurd (cl_hu (cl_nm n1) (cl_hx (cl_nm n2) fun v => (hall v).symm)) hne
    · have : ∃ v, ¬ (cl_m (M1 (4 * p + s)) v ↔ cl_m (M1 (44 + s)) v) := Classical.not_forall.mp hall
      obtain ⟨v, hv⟩ := this
      refine ⟨s, v, fun hiff => hv ?_⟩
      have i1 : xM k M p s v ↔ cl_m (M1 (4 * p + s)) v := by
        unfold xM
        rw [hf _ (by omega)]
        exact ⟨fun q => q.2, fun q => ⟨kd s s0 s1, q⟩⟩
      have i2 : xM k M' p s v ↔ cl_m (M1 (44 + s)) v := by
        unfold xM
        rw [r1 s s0 s1]
        exact ⟨fun q => q.2, fun q => ⟨kd s s0 s1, q⟩⟩
      exact i1.symm.trans (hiff.trans i2))
  refine ib_b b (fun eb => nm_r (ii_add t 1) ?_) (fun eb => And.intro (ii_in (by omega) (by omega) (by omega)) (nm_r (e' := op ||| rd ss p) (by rw [← rd_g ss (p := p) (by omega)]) (nm_r (ii_add t 1) ?_)))
  · rw [eb] at hJ
    exact hJ
  · rw [eb] at hJ
    exact hJ
theorem x_st11 {post : SX → Prop} (ok : k_ok k) {oo ss re pe : Nat → Int32} (ho : or_ok k oo) (hs : su_ok k ss) (wb : Bool) (I : aT → Prop) (pot : aT → Nat) (hI : ∀ (A A' : aT) (p : Int), I A → k_g k A → k_up k (wb = true) p A A' → I A' ∧ (∀ s v, ¬ (A p s v ↔ A' p s v) → pot A' < pot A)) (h : ∀ M' : mT, x_ok k M' → I (xM k M') → (∀ p s v, k_F k (wb = true) (xM k M') p s v ↔ xM k M' p s v) → post (XC k z (oo, ss, re, pe) M')) : ∀ (f : Nat) (op : Int32) (t : Int) (M : mT), x_ok k M → I (xM k M) → (∀ q, 0 ≤ q → q < 32 → hp op q = true → q < kP k) → (∀ q, 0 ≤ q → q < kP k → hp op q = false → ∀ s v, k_F k (wb = true) (xM k M) q s v ↔ xM k M q s v) → 0 ≤ t → t + (10 * pot (xM k M) + pc_ op : Nat) ≤ 12900 → 12901 - t < f → wX_stabilise_11 post (bI wb) f op (iI t) (iI (kB k)) (iI (kP k)) (iI (kV k)) (iI (kC k)) (iI (-kh k)) (iI (kh k - 1)) (iI (kE k)) (iI (kN k)) z.1 40 44 48 49 50 51 z.2.1 z.2.2.1 z.2.2.2.1 z.2.2.2.2.1 (xA k 0) (xA k 1) (xA k 2) (xA k 3) (xA k 4) (xA k 5) (xA k 6) (xH k) (xL (M)) (xU (M)) (xS (M)) ((oo, ss, re, pe)).1 ((oo, ss, re, pe)).2.1 ((oo, ss, re, pe)).2.2.1 ((oo, ss, re, pe)).2.2.2 z.2.2.2.2.2.1 z.2.2.2.2.2.2
  | 0, _, _, _, _, _, _, _, _, _, hf => by omega
  | f + 1, op, t, M, hx, hi, ho1, ho2, t0, t1, hf => by
    have hV := ok.2.1
    refine ib_le 13000 t (fun e => by omega) (fun _ => And.intro (fun e => ?_) (fun e => ?_)) rfl rfl (by omega)
    · refine h M hx hi (fun p s v => ?_)
      by_cases d : k_d k p s
      · exact ho2 p d.1 d.2.1 (by rw [e, hp_0]) s v
      · exact ⟨fun q => absurd q.1 d, fun q => absurd q.1 d⟩
    · obtain ⟨q, q0, q1, hq⟩ := hp_e e
      refine x_fo ok ho ⟨q, q0, ho1 q q0 q1 hq, hq⟩ (fun p p0 p1 hp1 => nm_e (x_cin ok rfl ⟨p0, p1⟩ hx (fun M1 f1 f2 => ?_)))
      have rS : ∀ s v, k_in k (xM k M) p s v → -kh k ≤ v ∧ v ≤ kh k - 1 := fun s v hv => k_inr ok hx.2 hv
      have hb1 : ∀ u, 0 ≤ u → u < 32 → (hp (op &&& (((1 : Int32) <<< (iI p &&& 31)) ^^^ (-1))) u = true ↔ (hp op u = true ∧ u ≠ p)) := fun u u0 u1 => by
        rw [hp_and, hp_not _ u1, hp_1 ⟨u0, u1⟩ (by omega), Bool.and_eq_true, Bool.not_eq_true', decide_eq_false_iff_not]
      generalize op &&& (((1 : Int32) <<< (iI p &&& 31)) ^^^ (-1)) = op1 at *
      have fin : ∀ M2 : mT, (∀ j, j < 40 → M2 j = M j) → in_ok k (wb = true) (xM k M) p M2 → wX_stabilise_63 post (wX_stabilise_11 post (bI wb) f) (bI wb) op1 (iI t) (iI p) (iI (kB k)) (iI (kP k)) (iI (kV k)) (iI (kC k)) (iI (-kh k)) (iI (kh k - 1)) (iI (kE k)) (iI (kN k)) z.1 40 44 48 49 50 51 z.2.1 z.2.2.1 z.2.2.2.1 z.2.2.2.2.1 (xA k 0) (xA k 1) (xA k 2) (xA k 3) (xA k 4) (xA k 5) (xA k 6) (xH k) (xL (M2)) (xU (M2)) (xS (M2)) ((oo, ss, re, pe)).1 ((oo, ss, re, pe)).2.1 ((oo, ss, re, pe)).2.2.1 ((oo, ss, re, pe)).2.2.2 z.2.2.2.2.2.1 z.2.2.2.2.2.2 := fun M2 g1 g2 => by
        refine x_s63 ok ⟨p0, p1⟩ hx g1 g2 (fun M' b xok up eqf nef => ?_)
        obtain ⟨hI1, hI2⟩ := hI _ _ p hi hx.2 up
        have same : ∀ u s v, u ≠ p → (xM k M' u s v ↔ xM k M u s v) := fun u s v hu => by
          rw [up u s v]
          exact ⟨fun y => y.elim (fun w => absurd w.1 hu) (fun w => w.2), fun y => Or.inr ⟨hu, y⟩⟩
        have newp : ∀ s v, xM k M' p s v ↔ k_F k (wb = true) (xM k M) p s v := fun s v => by
          rw [up p s v]
          exact ⟨fun y => y.elim (fun w => w.2) (fun w => absurd rfl w.1), fun y => Or.inl ⟨rfl, y⟩⟩
        have pc1 : pc_ op1 + 1 ≤ pc_ op := by
          refine ct_lt (j := p.toNat) ?_ ?_ 10 (by omega) (fun i hi2 hi3 => ((hb1 _ (by omega) (by omega)).mp hi3).1)
          · rw [Int.toNat_of_nonneg p0, hb1 p p0 (by omega)]
            exact fun y => y.2 rfl
          · rw [Int.toNat_of_nonneg p0]
            exact hp1
        cases b with
        | false =>
          have eM := eqf rfl
          refine x_st11 ok ho hs wb I pot hI h f op1 (t + 1) M' xok hI1 (fun u u0 u1 hu => ho1 u u0 u1 ((hb1 u u0 u1).mp hu).1) (fun u u0 u1 hu s v => ?_) (by omega) ?_ (by omega)
          · rw [eM]
            by_cases eu : u = p
            · rw [eu, ← newp, eM]
            · refine ho2 u u0 u1 ?_ s v
              cases hh : hp op u
              · rfl
              · rw [(hb1 u u0 (by omega)).mpr ⟨hh, eu⟩] at hu
                exact absurd hu (by decide)
          · rw [eM]
            omega
        | true =>
          obtain ⟨s1, v1, hne⟩ := nef rfl
          have hpot := hI2 s1 v1 hne
          have pc2 := pc_m (op1 ||| rd ss p)
          refine x_st11 ok ho hs wb I pot hI h f (op1 ||| rd ss p) (t + 1) M' xok hI1 (fun u u0 u1 hu => ?_) (fun u u0 u1 hu s v => ?_) (by omega) (by omega) (by omega)
          · rw [hp_or, Bool.or_eq_true] at hu
            rcases hu with hu | hu
            · exact ho1 u u0 u1 ((hb1 u u0 u1).mp hu).1
            · obtain ⟨e', a1, a2, a3, a4⟩ := (hs p p0 p1 u u0 u1).mp hu
              have := (ok.2.2.1 e' a1 a2).1
              omega
          · rw [hp_or, Bool.or_eq_false_iff] at hu
            have hno : ∀ e', 0 ≤ e' → e' < kE k → kA k e' 1 = u → kA k e' 0 ≠ p := fun e' a1 a2 a3 a4 => by
              have := (hs p p0 p1 u u0 (by omega)).mpr ⟨e', a1, a2, a4, a3⟩
              rw [hu.2] at this
              exact absurd this (by decide)
            rw [k_Fl same hno]
            by_cases eu : u = p
            · rw [eu, newp]
            · rw [same u s v eu]
              refine ho2 u u0 u1 ?_ s v
              cases hh : hp op u
              · rfl
              · have := (hb1 u u0 (by omega)).mpr ⟨hh, eu⟩
                rw [hu.1] at this
                exact absurd this (by decide)
      have nowid : ¬ (wb = true ∧ k_hd k p) → in_ok k (wb = true) (xM k M) p M1 := fun hn s s0 s1 => ⟨cl_hn (f2 s s0 s1), fun v => by
        rw [← co_N (thr := k_t k) (f2 s s0 s1) hn v]
        exact ⟨fun y => ⟨⟨p0, p1, s0, s1⟩, y⟩, fun y => y.2⟩⟩
      refine ib_b wb (fun ew => fin M1 f1 (nowid fun y => by rw [ew] at y; exact absurd y.1 (by decide))) (fun ew => x_hd ok rfl ⟨p0, p1⟩ (fun hh => br_f (by decide) (x_wr ok (S := fun s v => k_in k (xM k M) p s v) f2 rS (fun M2 g1 g2 => fin M2 (fun j hj => (g1 j hj).trans (f1 j hj)) (fun s s0 s1 => ⟨(g2 s s0 s1).1, fun v => ?_⟩)))) (fun hh => br_t rfl (fin M1 f1 (nowid fun y => hh y.2))))
      rw [(g2 s s0 s1).2 v]
      have ew2 : (wb = true ∧ k_hd k p) = True := eq_true ⟨ew, hh⟩
      unfold k_F
      rw [ew2]
      exact ⟨fun y => ⟨⟨p0, p1, s0, s1⟩, y⟩, fun y => y.2⟩
theorem x_st {post : SX → Prop} (ok : k_ok k) {oo ss re pe : Nat → Int32} (ho : or_ok k oo) (hs : su_ok k ss) (wb : Bool) (I : aT → Prop) (pot : aT → Nat) {x : Int32} (hx0 : x = bI wb) (hI : ∀ (A A' : aT) (p : Int), I A → k_g k A → k_up k (wb = true) p A A' → I A' ∧ (∀ s v, ¬ (A p s v ↔ A' p s v) → pot A' < pot A)) (h : ∀ M' : mT, x_ok k M' → I (xM k M') → (∀ p s v, k_F k (wb = true) (xM k M') p s v ↔ xM k M' p s v) → post (XC k z (oo, ss, re, pe) M')) (hx : x_ok k M) (hi : I (xM k M)) (hpot : pot (xM k M) ≤ 1280) : wpX_stabilise post (XC k z (oo, ss, re, pe) M) x := by
  subst hx0
  have hV := ok.2.1
  have ea : ∀ p, 0 ≤ p → p < 32 → (hp (((1 : Int32) <<< (iI (kP k) &&& 31)) - 1) p = true ↔ p < kP k) := fun p p0 p1 => by
    rw [hp_all (by omega) ⟨p0, p1⟩, decide_eq_true_iff]
  have pcm := pc_m (((1 : Int32) <<< (iI (kP k) &&& 31)) - 1)
  refine nm_e (Exists.intro 20000 (x_st11 ok ho hs wb I pot hI h 20000 _ 0 M hx hi (fun q q0 q1 hq => (ea q q0 q1).mp hq) (fun q q0 q1 hq => ?_) (by omega) (by omega) (by omega)))
  rw [(ea q q0 (by omega)).mpr q1] at hq
  exact absurd hq (by decide)
end
end
section
/-! ===== X: verdict ===== -/
def ob_ (g : Int → Int) : Prop := g 2 = 7 ∨ g 2 = 8 ∨ ((g 2 = 4 ∨ g 2 = 5) ∧ g 6 = 1)
def vd_w (h V C : Int) (g : Int → Int) (σ : Int → Int → Prop) : Prop := ∃ a b, σ (fl_1 g) a ∧ σ (fl_2 V g) b ∧ (fl_1 g = fl_2 V g → a = b) ∧ ¬ fl_p h C g a b
def vd_ (h V C : Int) (g : Int → Int) (σ : Int → Int → Prop) (r : Int) : Prop :=
  (r = 0 ∧ ¬ (∃ a b, fl_G h V C g σ a b) ∧ ¬ vd_w h V C g σ) ∨ (r = 1 ∧ (∃ a b, fl_G h V C g σ a b) ∧ ¬ vd_w h V C g σ) ∨ (r = 2 ∧ ¬ (∃ a b, fl_G h V C g σ a b) ∧ vd_w h V C g σ) ∨ (r = 3 ∧ (∃ a b, fl_G h V C g σ a b) ∧ vd_w h V C g σ)
/-- the answer of verdict -/
def vq_ (k : kT) (A : aT) (an : Prop) (e r : Int) : Prop := ((an ∧ (0 ≤ e ∧ e < kE k) ∧ ob_ (kA k e)) ∧ vd_ (kh k) (kV k) (kC k) (kA k e) (A (kA k e 0)) r) ∨ (¬ (an ∧ (0 ≤ e ∧ e < kE k) ∧ ob_ (kA k e)) ∧ r = -1000)
theorem vd_u {h V C : Int} {g : Int → Int} {σ : Int → Int → Prop} {r r' : Int} (h1 : vd_ h V C g σ r) (h2 : vd_ h V C g σ r') : r = r' := by
  rcases h1 with ⟨a, b, c⟩ | ⟨a, b, c⟩ | ⟨a, b, c⟩ | ⟨a, b, c⟩ <;> rcases h2 with ⟨a', b', c'⟩ | ⟨a', b', c'⟩ | ⟨a', b', c'⟩ | ⟨a', b', c'⟩ <;> first | (exact absurd b b') | (exact absurd b' b) | (exact absurd c c') | (exact absurd c' c) | (rw [a, a'])
theorem vq_u {k : kT} {A : aT} {an : Prop} {e r r' : Int} (h1 : vq_ k A an e r) (h2 : vq_ k A an e r') : r = r' := by
  rcases h1 with ⟨a, b⟩ | ⟨a, b⟩ <;> rcases h2 with ⟨a', b'⟩ | ⟨a', b'⟩
  · exact vd_u b b'
  · exact absurd a a'
  · exact absurd a' a
  · rw [b, b']
section
variable {k : kT} {z : zT} {R : rT} {M : mT}
theorem x_ji {post : Int32 → SX → Prop} (ok : k_ok k) {c : Int} {x : Int32} (hx : x = iI c) (hc : 0 ≤ c ∧ c < 48) (cc : cg_ (M c)) (h : ∀ (r : Int) (M' : mT), (r = 1 ∧ ∀ v, cl_m (M c) v → 0 ≤ v ∧ v < kC k) ∨ (r = 2 ∧ (∀ v, cl_m (M c) v → ¬ (0 ≤ v ∧ v < kC k))) ∨ (r = 3 ∧ (∃ v, cl_m (M c) v ∧ 0 ≤ v ∧ v < kC k) ∧ ∃ v, cl_m (M c) v ∧ ¬ (0 ≤ v ∧ v < kC k)) → (∀ j, j < 48 → M' j = M j) → post (iI r) (XC k z R M')) : wpX_judgeIndex post (XC k z R M) x := by
  subst hx
  have hV := ok.2.1
  have hC := cg_b cc
  have hin : vp_in (iI c) 52 := ii_in (by omega) (by omega) (by omega)
  have lo := cl_lo cc.1
  have hi := cl_hi cc.1
  have main : ((M c).1 < 0 ∨ kC k ≤ (M c).2.1) → wX_judgeIndex_24 post (iI c) (iI (kB k)) (iI (kP k)) (iI (kV k)) (iI (kC k)) (iI (-kh k)) (iI (kh k - 1)) (iI (kE k)) (iI (kN k)) z.1 40 44 48 49 50 51 z.2.1 z.2.2.1 z.2.2.2.1 z.2.2.2.2.1 (xA k 0) (xA k 1) (xA k 2) (xA k 3) (xA k 4) (xA k 5) (xA k 6) (xH k) (xL (M)) (xU (M)) (xS (M)) R.1 R.2.1 R.2.2.1 R.2.2.2 z.2.2.2.2.2.1 z.2.2.2.2.2.2 := fun hout => by
    have hw : ∃ v, cl_m (M c) v ∧ ¬ (0 ≤ v ∧ v < kC k) := by
      rcases hout with q | q
      · exact ⟨_, lo, by omega⟩
      · exact ⟨_, hi, by omega⟩
    refine And.intro hin (And.intro hin (And.intro hin (x_clip (lo := (M c).1) (hi := (M c).2.1) (st := (M c).2.2) (fr := 0) (to := kC k - 1) (xl_g M (by omega)) (xu_g M (by omega)) (xs_g M (by omega)) rfl (ii_sub _ 1) cc.1 (by omega) (fun c' hc' => ?_))))
    have cs := cs_h hc' (fun n hn => by have := cg_m cc hn.1; omega)
    refine x_emp (c := 50) rfl (by omega) (by rw [ms_s]; exact cs) (fun e => br_t rfl (h 3 _ (Or.inr (Or.inr ⟨rfl, ?_, hw⟩)) (fun j hj => ms_n _ _ (by omega)))) (fun e => br_f (by decide) (h 2 _ (Or.inr (Or.inl ⟨rfl, fun v hv hr => ?_⟩)) (fun j hj => ms_n _ _ (by omega))))
    · rw [ms_s] at e
      have hN := cl_hl hc' e
      have r1 := hN.1.2
      exact ⟨_, hN.1.1, r1.1, by omega⟩
    · rw [ms_s] at e
      exact (cl_h0 hc' e).2 v ⟨hv, by omega⟩
  refine And.intro hin (ib_lt (M c).1 0 (fun e => main (Or.inl e)) (fun e => And.intro hin (ib_le (kC k) (M c).2.1 (fun e2 => main (Or.inr e2)) (fun e2 => h 1 M (Or.inl ⟨rfl, fun v hv => ?_⟩) (fun _ _ => rfl)) rfl (xu_g M (by omega)) (by omega))) (xl_g M (by omega)) rfl (by omega))
  have h1 := hv.1
  have h2 := hv.2.1
  omega
theorem x_ah {post : Int32 → Prop} {a r n : Int} {x0 x1 x2 : Int32} (h0 : x0 = iI a) (h1 : x1 = iI r) (h2 : x2 = iI n) (ha : 0 ≤ a ∧ a < 52) (ca : cg_ (M a)) (hr : 0 ≤ r ∧ r ≤ 6) (hn : -100 ≤ n ∧ n ≤ 100) (ht : (∀ m, cl_m (M a) m → rl_h r m n) → post 1) (hf : (∃ m, cl_m (M a) m ∧ ¬ rl_h r m n) → post 0) : wpX_allHold post (XC k z R M) x0 x1 x2 := by
  subst h0 h1 h2
  have hA := cg_b ca
  have hin : vp_in (iI a) 52 := ii_in (by omega) (by omega) (by omega)
  have lo := cl_lo ca.1
  have hi := cl_hi ca.1
  have gl : xL M (iI a).toNatClampNeg = iI (M a).1 := xl_g M (by omega)
  have gu : xU M (iI a).toNatClampNeg = iI (M a).2.1 := xu_g M (by omega)
  have gs : xS M (iI a).toNatClampNeg = iI (M a).2.2 := xs_g M (by omega)
  refine ib_lt r 0 (fun e => by omega) (fun _ => ib_lt 5 r (fun e => ?_) (fun _ => ib_eq r 0 (fun e => ?_) (fun _ => ib_eq r 1 (fun e => ?_) (fun _ => ib_eq r 2 (fun e => ?_) (fun _ => ib_eq r 3 (fun e => ?_) (fun _ => ib_eq r 4 (fun e => ?_) (fun _ => ib_eq r 5 (fun e => ?_) (fun _ => trivial))))))))
  · obtain rfl : r = 6 := by omega
    refine ib_eq n 0 (fun e2 => ?_) (fun e2 => And.intro hin (And.intro (ib_ne n e2) (ib_dv (M a).1 n (fun d1 => And.intro hin (And.intro (ib_ne n e2) (ib_dv (M a).2.2 n (fun d2 => ht fun m hm => rl_6.mpr ?_) (fun d2 => hf ?_) gs rfl (by omega)))) (fun d1 => hf ⟨_, lo, fun q => d1 (rl_6.mp q)⟩) gl rfl (by omega))))
    · subst e2
      refine And.intro hin (ib_eq (M a).1 0 (fun q1 => And.intro hin (ib_eq (M a).2.1 0 (fun q2 => ht fun m hm => rl_6.mpr ?_) (fun q2 => hf ⟨_, hi, fun q => q2 ?_⟩) gu rfl (by omega))) (fun q1 => hf ⟨_, lo, fun q => q1 ?_⟩) gl rfl (by omega))
      · rw [Int.zero_dvd]
        have h1 := hm.1
        have h2 := hm.2.1
        omega
      · rw [rl_6, Int.zero_dvd] at q
        exact q
      · rw [rl_6, Int.zero_dvd] at q
        exact q
    · have h3 := Int.dvd_add (Int.dvd_trans d2 hm.2.2) d1
      rwa [show m - (M a).1 + (M a).1 = m by omega] at h3
    · have hN := cl_hm ca.1
      by_cases hall : ∀ m, cl_m (M a) m → n ∣ m - (M a).1
      · exact absurd ((hN.2.2.2.2 n).mpr hall) d2
      · obtain ⟨m, hm⟩ := Classical.not_forall.mp hall
        obtain ⟨hm1, hm2⟩ := Classical.not_imp.mp hm
        exact ⟨m, hm1, fun q => hm2 (Int.dvd_sub (rl_6.mp q) d1)⟩
  · subst e
    refine And.intro hin (ib_eq (M a).1 n (fun q1 => And.intro hin (ib_eq (M a).2.1 n (fun q2 => ht fun m hm => rl_0.mpr ?_) (fun q2 => hf ⟨_, hi, fun q => q2 (rl_0.mp q)⟩) gu rfl (by omega))) (fun q1 => hf ⟨_, lo, fun q => q1 (rl_0.mp q)⟩) gl rfl (by omega))
    have h1 := hm.1
    have h2 := hm.2.1
    omega
  · subst e
    refine And.intro hin (And.intro hin (And.intro hin (x_mem (lo := (M a).1) (hi := (M a).2.1) (st := (M a).2.2) gl gu gs rfl (Or.inr ca.1) (cs_p ca.1 (by dsimp only; omega) (by dsimp only; omega)) (by omega) (fun hm => br_f (by decide) (hf ⟨n, hm, fun q => rl_1.mp q rfl⟩)) (fun hm => br_t rfl (ht fun m hm2 => rl_1.mpr fun q => hm (q ▸ hm2))))))
  · subst e
    refine And.intro hin (ib_le n (M a).2.1 (fun q => hf ⟨_, hi, fun q2 => ?_⟩) (fun q => ht fun m hm => rl_2.mpr ?_) rfl gu (by omega))
    · have := rl_2.mp q2
      omega
    · have h2 := hm.2.1
      omega
  · subst e
    refine And.intro hin (ib_lt n (M a).2.1 (fun q => hf ⟨_, hi, fun q2 => ?_⟩) (fun q => ht fun m hm => rl_3.mpr ?_) rfl gu (by omega))
    · have := rl_3.mp q2
      omega
    · have h2 := hm.2.1
      omega
  · subst e
    refine And.intro hin (ib_le (M a).1 n (fun q => hf ⟨_, lo, fun q2 => ?_⟩) (fun q => ht fun m hm => rl_4.mpr ?_) gl rfl (by omega))
    · have := rl_4.mp q2
      omega
    · have h2 := hm.1
      omega
  · subst e
    refine And.intro hin (ib_lt (M a).1 n (fun q => hf ⟨_, lo, fun q2 => ?_⟩) (fun q => ht fun m hm => rl_5.mpr ?_) gl rfl (by omega))
    · have := rl_5.mp q2
      omega
    · have h2 := hm.1
      omega
/-- what judgeTest may answer -/
def jt_ (A B : cT) (sm : Prop) (r : Int) (w : Int) : Prop := (w = 1 ∧ ∀ x y, cl_m A x → cl_m B y → (sm → x = y) → rl_h r x y) ∨ (w = 2 ∧ ∀ x y, cl_m A x → cl_m B y → (sm → x = y) → ¬ rl_h r x y) ∨ (w = 3 ∧ (∃ x y, cl_m A x ∧ cl_m B y ∧ (sm → x = y) ∧ rl_h r x y) ∧ ∃ x y, cl_m A x ∧ cl_m B y ∧ (sm → x = y) ∧ ¬ rl_h r x y)
theorem x_jt {post : Int32 → SX → Prop} {a r b : Int} {x0 x1 x2 : Int32} (h0 : x0 = iI a) (h1 : x1 = iI r) (h2 : x2 = iI b) (ha : 0 ≤ a ∧ a < 52 ∧ a ≠ 48 ∧ a ≠ 49 ∧ a ≠ 50) (hb : 0 ≤ b ∧ b < 52 ∧ b ≠ 48 ∧ b ≠ 49 ∧ b ≠ 50) (ca : cg_ (M a)) (cb : cg_ (M b)) (hr : 0 ≤ r ∧ r ≤ 6) (h : ∀ (w : Int) (M' : mT), jt_ (M a) (M b) (a = b) r w → (∀ j, j < 48 → M' j = M j) → post (iI w) (XC k z R M')) : wpX_judgeTest post (XC k z R M) x0 x1 x2 := by
  subst h0 h1 h2
  have hA := cg_b ca
  have hB := cg_b cb
  have hsd := cg_s cb
  have hib : vp_in (iI b) 52 := ii_in (by omega) (by omega) (by omega)
  refine ib_eq a b (fun e => ?_) (fun e => And.intro hib ?_) rfl rfl (by omega)
  · subst e
    exact x_refl rfl hr (fun hR => br_f (by decide) (h 1 M (Or.inl ⟨rfl, fun x y _ _ e => e rfl ▸ hR x⟩) (fun _ _ => rfl))) (fun hR => br_t rfl (h 2 M (Or.inr (Or.inl ⟨rfl, fun x y _ _ e => e rfl ▸ hR x⟩)) (fun _ _ => rfl)))
  · have main : ∀ z0 : Int32, z0 = iI (sd_ (M b)) → wX_judgeTest_41 post (iI a) (iI r) (iI b) 1 z0 (iI (kB k)) (iI (kP k)) (iI (kV k)) (iI (kC k)) (iI (-kh k)) (iI (kh k - 1)) (iI (kE k)) (iI (kN k)) z.1 40 44 48 49 50 51 z.2.1 z.2.2.1 z.2.2.2.1 z.2.2.2.2.1 (xA k 0) (xA k 1) (xA k 2) (xA k 3) (xA k 4) (xA k 5) (xA k 6) (xH k) (xL (M)) (xU (M)) (xS (M)) R.1 R.2.1 R.2.2.1 R.2.2.2 z.2.2.2.2.2.1 z.2.2.2.2.2.2 := fun z0 hz => by
      subst hz
      refine And.intro hib (nm_r (xu_g M (by omega)) (And.intro hib (nm_r (xl_g M (by omega)) (Exists.intro 1000 ?_))))
      refine lp_en (σ := Bool) cb.1 (fun n x c => wX_judgeTest_59 post (iI a) (iI r) (iI b) (iI (sd_ (M b))) (iI (M b).2.1) (iI (kB k)) (iI (kP k)) (iI (kV k)) (iI (kC k)) (iI (-kh k)) (iI (kh k - 1)) (iI (kE k)) (iI (kN k)) z.1 40 44 48 49 50 51 z.2.1 z.2.2.1 z.2.2.2.1 z.2.2.2.2.1 (xA k 0) (xA k 1) (xA k 2) (xA k 3) (xA k 4) (xA k 5) (xA k 6) (xH k) (xL (M)) (xU (M)) (xS (M)) R.1 R.2.1 R.2.2.1 R.2.2.2 z.2.2.2.2.2.1 z.2.2.2.2.2.2 n (bI c) (iI x)) (fun x c => (c = true → ∀ y, cl_m (M b) y → y < x → ∀ m, cl_m (M a) m → rl_h r m y) ∧ (c = false → ∃ m y, cl_m (M a) m ∧ cl_m (M b) y ∧ ¬ rl_h r m y) ∧ -100 ≤ x ∧ x ≤ 100) ?_ ?_ 1000 _ true ⟨fun _ y hy hlt => ?_, fun q => absurd q (by decide), by omega, by omega⟩ (fun _ => cl_lo cb.1) (by omega)
      · intro n x c hx ⟨c1, c2, hx1, hx2⟩
        refine ib_lt (M b).2.1 x (fun _ => ib_b c (fun ec => ?_) (fun ec => h 1 M (Or.inl ⟨rfl, fun m y hm hy _ => c1 ec y hy (by have := hy.2.1; omega) m hm⟩) (fun _ _ => rfl))) (fun q => by omega) rfl rfl (by omega)
        obtain ⟨m0, y0, hm0, hy0, hw⟩ := c2 ec
        refine x_kp rfl rfl rfl ha hb ca cb hr (fun M' hf h48 h49 => ?_)
        have cs := cs_h h48 (fun v hv => by have := cg_m ca hv.1; omega)
        refine x_emp (c := 48) rfl (by omega) cs (fun e2 => br_t rfl (h 3 M' (Or.inr (Or.inr ⟨rfl, ?_, m0, y0, hm0, hy0, fun q => absurd q e, hw⟩)) (fun j hj => hf j (by omega) (by omega) (by omega)))) (fun e2 => br_f (by decide) (h 2 M' (Or.inr (Or.inl ⟨rfl, fun x y hx hy hxy hr2 => (cl_h0 h48 e2).2 x ⟨hx, y, hy, hxy, hr2⟩⟩)) (fun j hj => hf j (by omega) (by omega) (by omega))))
        obtain ⟨p1, y, p2, p3, p4⟩ := (cl_hl h48 e2).1
        exact ⟨_, y, p1, p2, p3, p4⟩
      · intro n x c hx ⟨c1, c2, hx1, hx2⟩ ih
        have xb := cg_m cb hx
        refine ib_lt (M b).2.1 x (fun q => by have := hx.2.1; omega) (fun _ => x_ah rfl rfl rfl (by omega) ca hr (by omega) (fun hall => br_f (by decide) (nm_r (ii_add x _) (ih c ⟨fun ec y hy hlt m hm => ?_, c2, by omega, by omega⟩))) (fun hno => br_t rfl (nm_r (ii_add x _) (ih false ⟨fun q => absurd q (by decide), fun _ => ?_, by omega, by omega⟩)))) rfl rfl (by omega)
        · rcases (en_1 cb.1 hx y).mp ⟨hy, hlt⟩ with q | q
          · exact c1 ec y hy q.2 m hm
          · rw [q]
            exact hall m hm
        · obtain ⟨m, hm, hw⟩ := hno
          exact ⟨m, x, hm, hx, hw⟩
      · have := hy.1
        omega
    refine ib_le (M b).2.2 0 (fun e2 => main _ ?_) (fun e2 => And.intro hib (main _ ?_)) (xs_g M (by omega)) rfl (by omega)
    · rw [show sd_ (M b) = 1 from if_neg (by omega)]
      rfl
    · rw [show sd_ (M b) = (M b).2.2 from if_pos e2]
      exact xs_g M (by omega)
end
end
section
/-! ===== X: verdict, analyse ===== -/
theorem iw_le {x y : Int32} {A B : Prop} (a b : Int) (f : a ≤ b → A) (g : b < a → B) (hx : x.toInt = a := by rfl) (hy : y.toInt = b := by rfl) : (x ≤ y → A) ∧ (¬ x ≤ y → B) := by
  subst hx hy
  rw [Int32.le_iff_toInt_le]
  exact ⟨f, fun z => g (by omega)⟩
theorem iw_lt {x y : Int32} {A B : Prop} (a b : Int) (f : a < b → A) (g : b ≤ a → B) (hx : x.toInt = a := by rfl) (hy : y.toInt = b := by rfl) : (x < y → A) ∧ (¬ x < y → B) := by
  subst hx hy
  rw [Int32.lt_iff_toInt_lt]
  exact ⟨f, fun z => g (by omega)⟩
theorem iw_eq {x y : Int32} {A B : Prop} (a b : Int) (f : a = b → A) (g : a ≠ b → B) (hx : x.toInt = a := by rfl) (hy : y.toInt = b := by rfl) : (x = y → A) ∧ (¬ x = y → B) := by
  subst hx hy
  rw [← Int32.toInt_inj]
  exact ⟨f, g⟩
theorem ii_m1000 : (-1000 : Int32) = iI (-1000) := by decide
/-- fixpoints reached by analyse -/
def fx_ (k : kT) (m : Bool) (A : aT) : Prop := ∃ A1 : aT, k_lf k A1 ∧ (∀ p s v, k_F k True A1 p s v ↔ A1 p s v) ∧ ((m = false ∧ A = A1) ∨ (m = true ∧ k_gf k A1 A ∧ ∀ p s v, k_F k False A p s v ↔ A p s v))
theorem fx_u {k : kT} {m : Bool} {A B : aT} (h : fx_ k m A) (h' : fx_ k m B) : A = B := by
  obtain ⟨A1, a1, a2, a3⟩ := h
  obtain ⟨B1, b1, b2, b3⟩ := h'
  have e : A1 = B1 := k_lfe a1 b1 (fun p s v => (a2 p s v).mp) (fun p s v => (b2 p s v).mp)
  subst e
  rcases a3 with ⟨m1, a3⟩ | ⟨m1, a3, a4⟩ <;> rcases b3 with ⟨m2, b3⟩ | ⟨m2, b3, b4⟩
  · rw [a3, b3]
  · rw [m1] at m2
    exact absurd m2 (by decide)
  · rw [m1] at m2
    exact absurd m2 (by decide)
  · exact k_gfe a3 b3 (fun p s v => (a4 p s v).mpr) (fun p s v => (b4 p s v).mpr)
/-- the number of proved edges below i -/
noncomputable def cq_ (k : kT) (A : aT) (i : Int) : Nat := ct_n (fun j => vq_ k A True (j : Int) 1) i.toNat
theorem cq_s {k : kT} {A : aT} {i : Int} (h : 0 ≤ i) : cq_ k A (i + 1) = cq_ k A i + ct_b (vq_ k A True i 1) := by
  unfold cq_
  rw [show (i + 1).toNat = i.toNat + 1 by omega]
  show ct_n _ i.toNat + ct_b (vq_ k A True ((i.toNat : Nat) : Int) 1) = _
  rw [Int.toNat_of_nonneg h]
theorem cq_m {k : kT} {A : aT} {i : Int} (h : 0 ≤ i) : (cq_ k A i : Int) ≤ i := by
  have := ct_mx (fun j => vq_ k A True (j : Int) 1) i.toNat
  unfold cq_
  omega
section
variable {k : kT} {z : zT} {R : rT} {M : mT}
theorem x_ie {post : Int32 → Prop} (ok : k_ok k) (v : Int32) (ht : 0 ≤ v.toInt → v.toInt < kE k → post 1) (hf : ¬ (0 ≤ v.toInt ∧ v.toInt < kE k) → post 0) : wpX_isEdge post (XC k z R M) v := by
  have hV := ok.2.1
  exact iw_lt v.toInt 0 (fun e => hf (by omega)) (fun e => iw_le (kE k) v.toInt (fun e2 => hf (by omega)) (fun e2 => ht e e2) (ii_toInt (by omega)) rfl)
theorem x_ob {post : Int32 → Prop} (ok : k_ok k) {e : Int} {x : Int32} (hx : x = iI e) (he : 0 ≤ e ∧ e < kE k) (ht : ob_ (kA k e) → post 1) (hf : ¬ ob_ (kA k e) → post 0) : wpX_isObligation post (XC k z R M) x := by
  subst hx
  have hV := ok.2.1
  have ho := ok.2.2.1 e he.1 he.2
  have o0 := ho.1
  have o9 := ho.2.2.2.2.2.2.2.2.1
  have hin : vp_in (iI e) 20 := ii_in (by omega) (by omega) (by omega)
  have main : (kA k e 2 = 4 ∨ kA k e 2 = 5) → wX_isObligation_31 post (iI e) (iI (kB k)) (iI (kP k)) (iI (kV k)) (iI (kC k)) (iI (-kh k)) (iI (kh k - 1)) (iI (kE k)) (iI (kN k)) z.1 40 44 48 49 50 51 z.2.1 z.2.2.1 z.2.2.2.1 z.2.2.2.2.1 (xA k 0) (xA k 1) (xA k 2) (xA k 3) (xA k 4) (xA k 5) (xA k 6) (xH k) (xL (M)) (xU (M)) (xS (M)) R.1 R.2.1 R.2.2.1 R.2.2.2 z.2.2.2.2.2.1 z.2.2.2.2.2.2 := fun hk => And.intro hin (ib_eq (kA k e 6) 1 (fun q => ht (Or.inr (Or.inr ⟨hk, q⟩))) (fun q => hf (fun y => by unfold ob_ at y; omega)) (xa_g k 6 (by omega)) rfl (by omega))
  exact And.intro hin (nm_r (xa_g k 2 (by omega)) (ib_eq (kA k e 2) 7 (fun q => ht (Or.inl q)) (fun q7 => ib_eq (kA k e 2) 8 (fun q => ht (Or.inr (Or.inl q))) (fun q8 => ib_eq (kA k e 2) 4 (fun q => main (Or.inl q)) (fun q4 => ib_eq (kA k e 2) 5 (fun q => main (Or.inr q)) (fun q5 => hf (fun y => by unfold ob_ at y; omega)) rfl rfl (by omega)) rfl rfl (by omega)) rfl rfl (by omega)) rfl rfl (by omega)))
theorem vd_7 (ok : k_ok k) {g : Int → Int} {σ : Int → Int → Prop} (ho : ed_ok (kh k) (kP k) (kV k) g) (hk : g 2 = 7 ∨ g 2 = 8) {c : cT} (hc : ∀ v, σ (g 4) v ↔ cl_m c v) (hne : ∀ s, 0 ≤ s → s ≤ kV k → ∃ v, σ s v) {r : Int} (h : (r = 1 ∧ ∀ v, cl_m c v → 0 ≤ v ∧ v < kC k) ∨ (r = 2 ∧ (∀ v, cl_m c v → ¬ (0 ≤ v ∧ v < kC k))) ∨ (r = 3 ∧ (∃ v, cl_m c v ∧ 0 ≤ v ∧ v < kC k) ∧ ∃ v, cl_m c v ∧ ¬ (0 ≤ v ∧ v < kC k))) : vd_ (kh k) (kV k) (kC k) g σ r := by
  have hV := ok.2.1
  have h12 := ed_12 ho (by omega)
  have e1 : fl_1 g = g 4 := by rcases hk with q | q <;> simp [fl_1, q]
  have fp : ∀ a b, fl_p (kh k) (kC k) g a b ↔ (0 ≤ a ∧ a < kC k) := fun a b => ⟨fun q => q.2.2.2 hk, fun q => ⟨fun y => by omega, fun y => by omega, fun y => by omega, fun _ => q⟩⟩
  have pair : ∀ a, σ (g 4) a → ∃ b, σ (fl_1 g) a ∧ σ (fl_2 (kV k) g) b ∧ (fl_1 g = fl_2 (kV k) g → a = b) := fun a ha => by
    rw [e1]
    by_cases e : g 4 = fl_2 (kV k) g
    · exact ⟨a, ha, e ▸ ha, fun _ => rfl⟩
    · obtain ⟨b, hb⟩ := hne (fl_2 (kV k) g) (by omega) (by omega)
      exact ⟨b, ha, hb, fun q => absurd q e⟩
  have G : (∃ a b, fl_G (kh k) (kV k) (kC k) g σ a b) ↔ ∃ v, cl_m c v ∧ 0 ≤ v ∧ v < kC k := by
    constructor
    · rintro ⟨a, b, h1, _, _, h4⟩
      rw [e1] at h1
      exact ⟨a, (hc a).mp h1, (fp a b).mp h4⟩
    · rintro ⟨v, h1, h2⟩
      obtain ⟨b, p1, p2, p3⟩ := pair v ((hc v).mpr h1)
      exact ⟨v, b, p1, p2, p3, (fp v b).mpr h2⟩
  have W : vd_w (kh k) (kV k) (kC k) g σ ↔ ∃ v, cl_m c v ∧ ¬ (0 ≤ v ∧ v < kC k) := by
    constructor
    · rintro ⟨a, b, h1, _, _, h4⟩
      rw [e1] at h1
      exact ⟨a, (hc a).mp h1, fun q => h4 ((fp a b).mpr q)⟩
    · rintro ⟨v, h1, h2⟩
      obtain ⟨b, p1, p2, p3⟩ := pair v ((hc v).mpr h1)
      exact ⟨v, b, p1, p2, p3, fun q => h2 ((fp v b).mp q)⟩
  obtain ⟨v0, hv0⟩ := hne (g 4) (by omega) (by omega)
  have hv1 := (hc v0).mp hv0
  unfold vd_
  rw [G, W]
  rcases h with ⟨h1, h2⟩ | ⟨h1, h2⟩ | ⟨h1, h2, h3⟩
  · exact Or.inr (Or.inl ⟨h1, ⟨v0, hv1, h2 v0 hv1⟩, fun ⟨v, q1, q2⟩ => q2 (h2 v q1)⟩)
  · exact Or.inr (Or.inr (Or.inl ⟨h1, fun ⟨v, q1, q2⟩ => h2 v q1 q2, ⟨v0, hv1, h2 v0 hv1⟩⟩))
  · exact Or.inr (Or.inr (Or.inr ⟨h1, h2, h3⟩))
theorem vd_t {h V C : Int} {g : Int → Int} {σ : Int → Int → Prop} {A B : cT} {sm : Prop} {r w : Int} (hj : jt_ A B sm r w) (hp : ∃ x y, cl_m A x ∧ cl_m B y ∧ (sm → x = y)) (e : ∀ (Q : Prop → Prop), (∃ a b, σ (fl_1 g) a ∧ σ (fl_2 V g) b ∧ (fl_1 g = fl_2 V g → a = b) ∧ Q (fl_p h C g a b)) ↔ ∃ x y, cl_m A x ∧ cl_m B y ∧ (sm → x = y) ∧ Q (rl_h r x y)) : vd_ h V C g σ w := by
  have G : (∃ a b, fl_G h V C g σ a b) ↔ ∃ x y, cl_m A x ∧ cl_m B y ∧ (sm → x = y) ∧ rl_h r x y := e (fun q => q)
  have W : vd_w h V C g σ ↔ ∃ x y, cl_m A x ∧ cl_m B y ∧ (sm → x = y) ∧ ¬ rl_h r x y := e (fun q => ¬ q)
  obtain ⟨x, y, p1, p2, p3⟩ := hp
  unfold vd_
  rw [G, W]
  rcases hj with ⟨h1, h2⟩ | ⟨h1, h2⟩ | ⟨h1, h2, h3⟩
  · exact Or.inr (Or.inl ⟨h1, ⟨x, y, p1, p2, p3, h2 x y p1 p2 p3⟩, fun ⟨a, b, q1, q2, q3, q4⟩ => q4 (h2 a b q1 q2 q3)⟩)
  · exact Or.inr (Or.inr (Or.inl ⟨h1, fun ⟨a, b, q1, q2, q3, q4⟩ => h2 a b q1 q2 q3 q4, ⟨x, y, p1, p2, p3, h2 x y p1 p2 p3⟩⟩))
  · exact Or.inr (Or.inr (Or.inr ⟨h1, h2, h3⟩))
theorem x_ver {post : Int32 → SX → Prop} (ok : k_ok k) (hx : ¬ z.1 = 0 → x_ok k M) (v : Int32) (h : ∀ (r : Int) (M' : mT), vq_ k (xM k M) (¬ z.1 = 0) v.toInt r → (∀ j, j < 40 → M' j = M j) → post (iI r) (XC k z R M')) : wpX_verdict post (XC k z R M) v := by
  have hV := ok.2.1
  have no : ¬ (¬ z.1 = 0 ∧ (0 ≤ v.toInt ∧ v.toInt < kE k) ∧ ob_ (kA k v.toInt)) → post (-1000) (XC k z R M) := fun hn => by
    rw [ii_m1000]
    exact h (-1000) M (Or.inr ⟨hn, rfl⟩) (fun _ _ => rfl)
  refine And.intro (fun e => no (fun q => q.1 e)) (fun e => ?_)
  replace hx := hx e
  refine x_ie ok v (fun v0 v1 => br_f (by decide) ?_) (fun hn => br_t rfl (no (fun q => hn q.2.1)))
  have ev : v = iI v.toInt := ii_of v
  refine x_ob ok ev ⟨v0, v1⟩ (fun hob => br_f (by decide) ?_) (fun hn => br_t rfl (no (fun q => hn q.2.2)))
  have hh : ∀ (r : Int) (M' : mT), vd_ (kh k) (kV k) (kC k) (kA k v.toInt) (xM k M (kA k v.toInt 0)) r → (∀ j, j < 40 → M' j = M j) → post (iI r) (XC k z R M') := fun r M' hr hM => h r M' (Or.inl ⟨⟨e, ⟨v0, v1⟩, hob⟩, hr⟩) hM
  clear h no
  generalize v.toInt = e' at *
  subst ev
  have ho := ok.2.2.1 e' v0 v1
  have o0 := ho.1
  have o9 := ho.2.2.2.2.2.2.2.2.1
  have hin : vp_in (iI e') 20 := ii_in (by omega) (by omega) (by omega)
  have xg : ∀ f, xA k f (iI e').toNatClampNeg = iI (kA k e' f) := fun f => xa_g k f (by omega)
  generalize kA k e' = g at *
  have hp : 0 ≤ g 0 ∧ g 0 < kP k := ⟨o0.1, o0.2.1⟩
  refine And.intro hin (nm_r (e' := iI (4 * g 0)) (by rw [xg 0]; exact ii_mul 4 _) (x_emp (c := 4 * g 0) rfl (by omega) (by have := xo_s hx ok (p := g 0) (s := 0) ⟨hp.1, hp.2, by omega, by omega⟩; rw [Int.add_zero] at this; exact this) (fun el => br_t rfl ?_) (fun el => br_f (by decide) (hh 0 M (Or.inl ⟨rfl, fun ⟨a, b, hG⟩ => ?_, fun ⟨a, b, hG, _⟩ => ?_⟩) (fun _ _ => rfl)))))
  · have cg : ∀ s, 0 ≤ s → s ≤ kV k → cg_ (M (4 * g 0 + s)) := xo_n hx ok hp el
    have hσ : ∀ s v, 0 ≤ s → s ≤ kV k → (xM k M (g 0) s v ↔ cl_m (M (4 * g 0 + s)) v) := fun s v s0 s1 => ⟨fun q => q.2, fun q => ⟨⟨hp.1, hp.2, s0, s1⟩, q⟩⟩
    have hne : ∀ s, 0 ≤ s → s ≤ kV k → ∃ v, xM k M (g 0) s v := fun s s0 s1 => ⟨_, (hσ s _ s0 s1).mpr (cl_lo (cg s s0 s1).1)⟩
    have xr : ∀ f, iI (4 * g 0) + xA k f (iI e').toNatClampNeg = iI (4 * g 0 + g f) := fun f => by rw [xg f, ii_add]
    have m7 : (g 2 = 7 ∨ g 2 = 8) → wX_verdict_72 post (iI e') (iI (4 * g 0)) (iI (kB k)) (iI (kP k)) (iI (kV k)) (iI (kC k)) (iI (-kh k)) (iI (kh k - 1)) (iI (kE k)) (iI (kN k)) z.1 40 44 48 49 50 51 z.2.1 z.2.2.1 z.2.2.2.1 z.2.2.2.2.1 (xA k 0) (xA k 1) (xA k 2) (xA k 3) (xA k 4) (xA k 5) (xA k 6) (xH k) (xL (M)) (xU (M)) (xS (M)) R.1 R.2.1 R.2.2.1 R.2.2.2 z.2.2.2.2.2.1 z.2.2.2.2.2.2 := fun hk => by
      have o7 := ho.2.2.2.2.2.2.2.1 hk
      refine And.intro hin (x_ji ok (c := 4 * g 0 + g 4) (xr 4) (by omega) (cg _ (by omega) (by omega)) (fun r M' hr hM => hh r M' (vd_7 ok ho hk (fun v => hσ (g 4) v (by omega) (by omega)) hne hr) (fun j hj => hM j (by omega))))
    refine And.intro hin (ib_eq (g 2) 7 (fun q => m7 (Or.inl q)) (fun q7 => And.intro hin (ib_eq (g 2) 8 (fun q => m7 (Or.inr q)) (fun q8 => And.intro hin (ib_eq (g 2) 4 (fun hk => ?_) (fun q4 => ?_) (xg 2) rfl (by omega))) (xg 2) rfl (by omega))) (xg 2) rfl (by omega))
    · have o4 := ho.2.2.2.2.1 hk
      have e1 : fl_1 g = g 3 := by simp [fl_1, hk]
      have e2 : fl_2 (kV k) g = g 5 := by simp [fl_2, hk]
      have fp : ∀ a b, fl_p (kh k) (kC k) g a b ↔ rl_h (g 4) a b := fun a b => ⟨fun q => q.1 hk, fun q => ⟨fun _ => q, fun y => by omega, fun y => by omega, fun y => by omega⟩⟩
      have c3 := cg (g 3) (by omega) (by omega)
      have c5 := cg (g 5) (by omega) (by omega)
      refine And.intro hin (And.intro hin (And.intro hin (x_jt (a := 4 * g 0 + g 3) (r := g 4) (b := 4 * g 0 + g 5) (xr 3) (xg 4) (xr 5) (by omega) (by omega) c3 c5 (by omega) (fun w M' hj hM => hh w M' (vd_t hj ?_ (fun Q => ?_)) (fun j hj => hM j (by omega))))))
      · by_cases e : g 3 = g 5
        · exact ⟨_, _, cl_lo c3.1, by rw [← e]; exact cl_lo c3.1, fun _ => rfl⟩
        · exact ⟨_, _, cl_lo c3.1, cl_lo c5.1, fun q => by omega⟩
      · rw [e1, e2]
        constructor
        · rintro ⟨a, b, p1, p2, p3, p4⟩
          rw [propext (fp a b)] at p4
          exact ⟨a, b, (hσ _ _ (by omega) (by omega)).mp p1, (hσ _ _ (by omega) (by omega)).mp p2, fun q => p3 (by omega), p4⟩
        · rintro ⟨a, b, p1, p2, p3, p4⟩
          rw [← propext (fp a b)] at p4
          exact ⟨a, b, (hσ _ _ (by omega) (by omega)).mpr p1, (hσ _ _ (by omega) (by omega)).mpr p2, fun q => p3 (by omega), p4⟩
    · have hk : g 2 = 5 := by
        unfold ob_ at hob
        omega
      have o5 := ho.2.2.2.2.2.1 hk
      have e1 : fl_1 g = g 3 := by simp [fl_1, hk]
      have e2 : fl_2 (kV k) g = g 3 := by simp [fl_2, hk]
      have fp : ∀ a b, fl_p (kh k) (kC k) g a b ↔ rl_h (g 4) a (g 5) := fun a b => ⟨fun q => q.2.1 hk, fun q => ⟨fun y => by omega, fun _ => q, fun y => by omega, fun y => by omega⟩⟩
      have c3 := cg (g 3) (by omega) (by omega)
      have s51 : (ms M 51 (g 5, g 5, if g 5 = g 5 then 0 else 0)) 51 = (g 5, g 5, 0) := by rw [ms_s, if_pos rfl]
      have n51 : (ms M 51 (g 5, g 5, if g 5 = g 5 then 0 else 0)) (4 * g 0 + g 3) = M (4 * g 0 + g 3) := ms_n _ _ (by omega)
      have g5 : cg_ (g 5, g 5, 0) := ⟨Or.inl ⟨rfl, rfl⟩, by have := k_h ok; dsimp only; omega, by have := k_h ok; dsimp only; omega⟩
      refine And.intro hin (And.intro hin (x_set (c := 51) (lo := g 5) (hi := g 5) (st := 0) rfl (xg 5) (xg 5) rfl (by omega) (by omega) (And.intro hin (And.intro hin (x_jt (a := 4 * g 0 + g 3) (r := g 4) (b := 51) (xr 3) (xg 4) rfl (by omega) (by omega) (by rw [n51]; exact c3) (by rw [s51]; exact g5) (by omega) (fun w M' hj hM => hh w M' ?_ (fun j hj => ?_)))))))
      · rw [n51, s51] at hj
        refine vd_t hj ⟨_, _, cl_lo c3.1, cl_lo g5.1, fun q => by omega⟩ (fun Q => ?_)
        rw [e1, e2]
        constructor
        · rintro ⟨a, b, p1, p2, p3, p4⟩
          rw [propext (fp a b)] at p4
          exact ⟨a, g 5, (hσ _ _ (by omega) (by omega)).mp p1, cl_lo g5.1, fun q => by omega, p4⟩
        · rintro ⟨a, b, p1, p2, p3, p4⟩
          have eb : b = g 5 := by have := p2.1; have := p2.2.1; dsimp only at *; omega
          rw [eb, ← propext (fp a a)] at p4
          have := (hσ _ _ (by omega) (by omega)).mpr p1
          exact ⟨a, a, this, this, fun _ => rfl, p4⟩
      · rw [hM j (by omega), ms_n _ _ (by omega)]
  · obtain ⟨⟨_, _, d3, d4⟩, d5⟩ := hG.1
    rw [xo_0 hx ok hp el _ d3 d4] at d5
    exact cl_me d5
  · obtain ⟨⟨_, _, d3, d4⟩, d5⟩ := hG
    rw [xo_0 hx ok hp el _ d3 d4] at d5
    exact cl_me d5
theorem x_an50 {post : Int32 → SX → Prop} (ok : k_ok k) (hz : ¬ z.1 = 0) (h : ∀ M' : mT, (∀ j, j < 40 → M' j = M j) → post (iI (cq_ k (xM k M) (kE k))) (XC k z R M')) (hx : x_ok k M) : ∀ (n : Nat) (i : Int) (M' : mT), (∀ j, j < 40 → M' j = M j) → 0 ≤ i → i ≤ kE k → (kE k - i).toNat < n → wX_analyse_50 post n (iI (cq_ k (xM k M) i)) (iI i) (iI (kB k)) (iI (kP k)) (iI (kV k)) (iI (kC k)) (iI (-kh k)) (iI (kh k - 1)) (iI (kE k)) (iI (kN k)) z.1 40 44 48 49 50 51 z.2.1 z.2.2.1 z.2.2.2.1 z.2.2.2.2.1 (xA k 0) (xA k 1) (xA k 2) (xA k 3) (xA k 4) (xA k 5) (xA k 6) (xH k) (xL (M')) (xU (M')) (xS (M')) R.1 R.2.1 R.2.2.1 R.2.2.2 z.2.2.2.2.2.1 z.2.2.2.2.2.2
  | 0, _, _, _, _, _, hn => by omega
  | n + 1, i, M', hf, i0, i1, hn => by
    have hV := ok.2.1
    have cm := cq_m (k := k) (A := xM k M) i0
    have ht : (¬ z.1 = 0) = True := eq_true hz
    refine ib_le (kE k) i (fun e => ?_) (fun e => x_ver ok (fun _ => xo_f ok hf hx) (iI i) (fun r M'' hr hM => ?_)) rfl rfl (by omega)
    · obtain rfl : i = kE k := by omega
      exact h M' hf
    · rw [xM_e ok hf, ht, ii_toInt (by omega)] at hr
      have hf2 : ∀ j, j < 40 → M'' j = M j := fun j hj => (hM j hj).trans (hf j hj)
      have hrb : r = -1000 ∨ r = 0 ∨ r = 1 ∨ r = 2 ∨ r = 3 := by
        rcases hr with ⟨_, hr⟩ | ⟨_, hr⟩
        · unfold vd_ at hr
          omega
        · omega
      have cs := cq_s (k := k) (A := xM k M) i0
      refine ib_eq r 1 (fun e1 => nm_r (e' := iI (cq_ k (xM k M) (i + 1))) ?_ (nm_r (ii_add i 1) (x_an50 ok hz h hx n (i + 1) M'' hf2 (by omega) (by omega) (by omega)))) (fun e1 => nm_r (ii_add i 1) ?_) rfl rfl (by omega)
      · rw [e1] at hr
        rw [ct_b1 hr] at cs
        rw [ii_1, ii_add, cs]
        rfl
      · have hno : ¬ vq_ k (xM k M) True i 1 := fun q => e1 (vq_u hr q)
        rw [ct_b0 hno] at cs
        have := x_an50 ok hz h hx n (i + 1) M'' hf2 (by omega) (by omega) (by omega)
        rw [cs] at this
        exact this
theorem x_an2 {post : Int32 → SX → Prop} (ok : k_ok k) {oo ss re pe : Nat → Int32} (md : Int32) (h : ∀ (R' : rT) (M' : mT), x_ok k M' → fx_ k (decide (¬ md = 0)) (xM k M') → post (iI (cq_ k (xM k M') (kE k))) (XC k (1, z.2) R' M')) : ∀ (n : Nat) (p : Int) (M : mT), (∀ q s, 0 ≤ q → q < p → 0 ≤ s → s ≤ kV k → M (4 * q + s) = (1, 0, 0)) → 0 ≤ p → p ≤ kP k → (kP k - p).toNat < n → wX_analyse_2 post md n (iI p) (iI (kB k)) (iI (kP k)) (iI (kV k)) (iI (kC k)) (iI (-kh k)) (iI (kh k - 1)) (iI (kE k)) (iI (kN k)) z.1 40 44 48 49 50 51 z.2.1 z.2.2.1 z.2.2.2.1 z.2.2.2.2.1 (xA k 0) (xA k 1) (xA k 2) (xA k 3) (xA k 4) (xA k 5) (xA k 6) (xH k) (xL (M)) (xU (M)) (xS (M)) ((oo, ss, re, pe)).1 ((oo, ss, re, pe)).2.1 ((oo, ss, re, pe)).2.2.1 ((oo, ss, re, pe)).2.2.2 z.2.2.2.2.2.1 z.2.2.2.2.2.2
  | 0, _, _, _, _, _, hn => by omega
  | n + 1, p, M, h1, p0, p1, hn => by
    have hV := ok.2.1
    refine ib_le (kP k) p (fun e => x_arr ok (fun oo ss re pe ho hs => ?_)) (fun e => x_clr ok (r := 4 * p) (ii_mul 4 p) (by omega) (fun M' q1 q2 => nm_r (ii_add p 1) (x_an2 ok md h n (p + 1) M' (fun q s r0 r1 s0 s1 => ?_) (by omega) (by omega) (by omega)))) rfl rfl (by omega)
    · have hE : ∀ p s v, ¬ xM k M p s v := fun q s v ⟨⟨d1, d2, d3, d4⟩, hm⟩ => by
        rw [h1 q s d1 (by omega) d3 d4] at hm
        exact cl_me hm
      have hx0 : x_ok k M := ⟨fun q s ⟨d1, d2, d3, d4⟩ => Or.inl (h1 q s d1 (by omega) d3 d4), fun q s v hq => absurd hq (hE q s v), fun q s v hq => absurd hq (hE q s v)⟩
      have tt : (true = true) = True := eq_true rfl
      have ff : (false = true) = False := eq_false (by decide)
      have fin : ∀ M' : mT, x_ok k M' → fx_ k (decide (¬ md = 0)) (xM k M') → ∀ R' : rT, ∃ n50 : Nat, wX_analyse_50 post n50 0 0 (iI (kB k)) (iI (kP k)) (iI (kV k)) (iI (kC k)) (iI (-kh k)) (iI (kh k - 1)) (iI (kE k)) (iI (kN k)) 1 40 44 48 49 50 51 z.2.1 z.2.2.1 z.2.2.2.1 z.2.2.2.2.1 (xA k 0) (xA k 1) (xA k 2) (xA k 3) (xA k 4) (xA k 5) (xA k 6) (xH k) (xL (M')) (xU (M')) (xS (M')) R'.1 R'.2.1 R'.2.2.1 R'.2.2.2 z.2.2.2.2.2.1 z.2.2.2.2.2.2 := fun M' hx' hfx R' => by
        have hc0 : cq_ k (xM k M') 0 = 0 := rfl
        have := x_an50 (z := (1, z.2)) (R := R') (post := post) ok (by decide : ¬ (1 : Int32) = 0) (fun M'' hf => by
          have e3 := xM_e ok hf
          have := h R' M'' (xo_f ok hf hx') (by rw [e3]; exact hfx)
          rw [e3] at this
          exact this) hx' 30 0 M' (fun _ _ => rfl) (by omega) (by omega) (by omega)
        rw [hc0] at this
        exact ⟨30, this⟩
      refine x_st ok ho hs true (fun A => k_lf k A) (fun A => 1280 - k_ct A) rfl (fun A A' p hA hg up => ?_) (fun M' hx' hl hF => ?_) hx0 (k_lf0 k hE) (by omega)
      · have upT : k_up k True p A A' := by rw [tt] at up; exact up
        obtain ⟨u1, u2⟩ := k_lfu hA upT
        refine ⟨u1, fun s v hne => ?_⟩
        have hlt := k_ctl ok (k_upg ok hg up) u2 (p := p) (s := s) (v := v) (fun ha => hne ⟨fun _ => u2 p s v ha, fun _ => ha⟩) (by
          by_cases hb : A' p s v
          · exact hb
          · exact absurd ⟨fun ha => absurd (u2 p s v ha) hb, fun hb2 => absurd hb2 hb⟩ hne)
        have hm := k_ctm A'
        show 1280 - k_ct A' < 1280 - k_ct A
        omega
      · rw [tt] at hF
        refine And.intro (fun em => fin M' hx' ⟨_, hl, hF, Or.inl ⟨decide_eq_false (fun q => q em), rfl⟩⟩ _) (fun em => ?_)
        refine x_st ok ho hs false (fun A => k_gf k (xM k M') A) (fun A => k_ct A) rfl (fun A A' p hA hg up => ?_) (fun M'' hx'' hl2 hF2 => ?_) hx' (k_gf0 fun p s v => (hF p s v).mp) (k_ctm _)
        · have upF : k_up k False p A A' := by rw [ff] at up; exact up
          obtain ⟨u1, u2⟩ := k_gfu hA upF
          refine ⟨u1, fun s v hne => ?_⟩
          refine k_ctl ok hg u2 (p := p) (s := s) (v := v) (fun ha => hne ⟨fun _ => ha, fun _ => u2 p s v ha⟩) (by
            by_cases hb : A p s v
            · exact hb
            · exact absurd ⟨fun hb2 => absurd hb2 hb, fun ha => absurd (u2 p s v ha) hb⟩ hne)
        · rw [ff] at hF2
          exact fin M'' hx'' ⟨_, hl, hF, Or.inr ⟨decide_eq_true em, hl2, hF2⟩⟩ _
    · by_cases eq : q = p
      · rw [eq]
        exact q1 _ (by omega) (by omega)
      · rw [q2 _ (by omega)]
        exact h1 q s r0 (by omega) s0 s1
theorem x_ana {post : Int32 → SX → Prop} (ok : k_ok k) (md : Int32) (h : ∀ (R' : rT) (M' : mT), x_ok k M' → fx_ k (decide (¬ md = 0)) (xM k M') → post (iI (cq_ k (xM k M') (kE k))) (XC k (1, z.2) R' M')) : wpX_analyse post (XC k z R M) md := by
  have hV := ok.2.1
  obtain ⟨oo, ss, re, pe⟩ := R
  exact Exists.intro 20 (x_an2 ok md h 20 0 M (fun q s q0 q1 => by omega) (by omega) (by omega) (by omega))
end
end
section
/-! ===== Y's state and small methods ===== -/
abbrev yT : Type := Int32 × Int32 × Int32 × Int32 × Int32 × (Nat → Int32)
abbrev sT : Type := Int → Bool
def yP (k : kT) : Nat → Int32 := fun i => iI (kA k ((i : Int) / 7) ((i : Int) % 7))
def yB (σ : sT) : Nat → Int32 := fun i => bI (σ (i : Int))
def bs_ (σ : sT) (i : Int) : sT := fun j => if j = i then true else σ j
abbrev YC (k : kT) (y : yT) (σ α : sT) : SY := (iI (-kh k), iI (kh k - 1), iI (kP k), iI (kV k), iI (kC k), iI (kE k), iI (kN k), y.1, y.2.1, y.2.2.1, y.2.2.2.1, y.2.2.2.2.1, yP k, xH k, yB σ, yB α, y.2.2.2.2.2)
theorem y7 (e f : Int) {c : Int32} (hc : c = iI f) : iI e * 7 + c = iI (e * 7 + f) := by
  rw [hc, ii_7, ii_mul, ii_add]
theorem y70 (e : Int) : iI e * 7 = iI (e * 7 + 0) := by
  rw [ii_7, ii_mul, Int.add_zero]
theorem yp_g (k : kT) {e f : Int} {x : Int32} (hx : x = iI (e * 7 + f)) (he : 0 ≤ e ∧ e < 20) (hf : 0 ≤ f ∧ f < 7) : yP k x.toNatClampNeg = iI (kA k e f) := by
  subst hx
  unfold yP
  rw [ii_clamp (by omega), Int.toNat_of_nonneg (by omega), show (e * 7 + f) / 7 = e by omega, show (e * 7 + f) % 7 = f by omega]
theorem yp_in {e f : Int} {x : Int32} (hx : x = iI (e * 7 + f)) (he : 0 ≤ e ∧ e < 20) (hf : 0 ≤ f ∧ f < 7) : vp_in x 140 := by
  subst hx
  exact ii_in (by omega) (by omega) (by omega)
theorem yb_g (σ : sT) {i : Int} (h : 0 ≤ i ∧ i ≤ 10000) : yB σ (iI i).toNatClampNeg = bI (σ i) := by
  unfold yB
  rw [ii_clamp (by omega), Int.toNat_of_nonneg h.1]
theorem yb_u (σ : sT) {i : Int} (h : 0 ≤ i ∧ i ≤ 10000) : upd (yB σ) (iI i).toNatClampNeg (vp_nar .boolean 1) = yB (bs_ σ i) := by
  funext j
  unfold upd yB bs_
  rw [ii_clamp (by omega)]
  by_cases e : (j : Int) = i
  · rw [if_pos (by omega), if_pos e]
    rfl
  · rw [if_neg (by omega), if_neg e]
theorem bs_s (σ : sT) (i : Int) : bs_ σ i i = true := if_pos rfl
theorem bs_n (σ : sT) {i j : Int} (h : j ≠ i) : bs_ σ i j = σ j := if_neg h
theorem wr_m {h n : Int} (hh : h = 4 ∨ h = 8 ∨ h = 16) : (n % (2 * h) ≤ h - 1 → wr h n = n % (2 * h)) ∧ (h - 1 < n % (2 * h) → wr h n = n % (2 * h) + -h + -h) := by
  unfold wr
  rcases hh with rfl | rfl | rfl <;> omega
section
variable {k : kT} {y : yT} {σ α : sT}
theorem y_wrap {post : Int32 → Prop} (ok : k_ok k) (v : Int32) (h : post (iI (wr (kh k) v.toInt))) : wpY_wrap post (YC k y σ α) v := by
  have hh := k_h ok
  have hm := wr_m (n := v.toInt) hh
  have hr : 0 ≤ v.toInt % (2 * kh k) ∧ v.toInt % (2 * kh k) < 2 * kh k := ⟨Int.emod_nonneg _ (by omega), Int.emod_lt_of_pos _ (by omega)⟩
  refine nm_r (e' := iI (v.toInt % (2 * kh k))) (wy_m v ok.1) (ib_le (v.toInt % (2 * kh k)) (kh k - 1) (fun e => ?_) (fun e => ?_) rfl rfl (by omega))
  · rw [hm.1 e] at h
    exact h
  · rw [hm.2 e] at h
    show post (iI _ + iI (-kh k) + iI (-kh k))
    rw [ii_add, ii_add]
    exact h
theorem y_wrapI {post : Int32 → Prop} (ok : k_ok k) {x : Int} {v : Int32} (hv : v = iI x) (hx : -1000000 ≤ x ∧ x ≤ 1000000) (h : post (iI (wr (kh k) x))) : wpY_wrap post (YC k y σ α) v := by
  subst hv
  refine y_wrap ok _ ?_
  rw [ii_toInt hx]
  exact h
theorem y_h99 {post : Int32 → Prop} {a b : Int} (ha : -16 ≤ a ∧ a ≤ 16) (hb : -16 ≤ b ∧ b ≤ 16) (ht : b ∣ a → post 1) (hf : ¬ b ∣ a → post 0) : ∀ (n : Nat) (x : Int), (∀ u, -16 ≤ u → u < x → u * b ≠ a) → -16 ≤ x → x ≤ 17 → (17 - x).toNat < n → wY_holds_99 post (iI a) (iI b) (iI (-kh k)) (iI (kh k - 1)) (iI (kP k)) (iI (kV k)) (iI (kC k)) (iI (kE k)) (iI (kN k)) y.1 y.2.1 y.2.2.1 y.2.2.2.1 y.2.2.2.2.1 (yP k) (xH k) (yB (σ)) (yB (α)) y.2.2.2.2.2 n (iI x)
  | 0, _, _, _, _, hn => by omega
  | n + 1, x, h1, x0, x1, hn => by
    refine ib_lt 16 x (fun e => hf (fun hd => ?_)) (fun e => ?_) rfl rfl (by omega)
    · obtain ⟨q, hq⟩ := hd
      by_cases b0 : b = 0
      · subst b0
        exact h1 0 (by omega) (by omega) (by rw [hq, Int.mul_zero, Int.zero_mul])
      · by_cases a0 : a = 0
        · exact h1 0 (by omega) (by omega) (by rw [Int.zero_mul, a0])
        · have hn1 : q.natAbs ≤ 16 := by
            have h2 : a.natAbs = b.natAbs * q.natAbs := by rw [hq, Int.natAbs_mul]
            have h3 : 1 * q.natAbs ≤ b.natAbs * q.natAbs := Nat.mul_le_mul_right _ (by omega)
            omega
          exact h1 q (by omega) (by omega) (by rw [hq, Int.mul_comm])
    · have mb := mb_ (x := x) (y := b) (by omega) hb
      refine ib_eq (x * b) a (fun e2 => ht ⟨x, by rw [← e2, Int.mul_comm]⟩) (fun e2 => nm_r (ii_add x 1) (y_h99 ha hb ht hf n (x + 1) (fun u u0 u1 => ?_) (by omega) (by omega) (by omega))) (ii_mul x b) rfl (by omega)
      by_cases eu : u = x
      · rw [eu]
        exact e2
      · exact h1 u u0 (by omega)
theorem y_holds {post : Int32 → Prop} {a r b : Int} {x0 x1 x2 : Int32} (h0 : x0 = iI r) (h1 : x1 = iI a) (h2 : x2 = iI b) (ha : -16 ≤ a ∧ a ≤ 16) (hr : 0 ≤ r ∧ r ≤ 6) (hb : -16 ≤ b ∧ b ≤ 16) (ht : rl_h r a b → post 1) (hf : ¬ rl_h r a b → post 0) : wpY_holds post (YC k y σ α) x0 x1 x2 := by
  subst h0 h1 h2
  refine ib_eq r 0 (fun e => ?_) (fun e0 => ib_eq r 1 (fun e => ?_) (fun e1 => ib_eq r 2 (fun e => ?_) (fun e2 => ib_eq r 3 (fun e => ?_) (fun e3 => ib_eq r 4 (fun e => ?_) (fun e4 => ib_eq r 5 (fun e => ?_) (fun e5 => ?_))))))
  · subst e
    rw [rl_0] at ht hf
    exact ib_eq a b ht hf
  · subst e
    rw [rl_1] at ht hf
    exact ib_eq a b (fun e => hf (fun x => x e)) ht
  · subst e
    rw [rl_2] at ht hf
    exact ib_le b a (fun e => hf (by omega)) ht
  · subst e
    rw [rl_3] at ht hf
    exact ib_lt b a (fun e => hf (by omega)) ht
  · subst e
    rw [rl_4] at ht hf
    exact ib_le a b (fun e => hf (by omega)) ht
  · subst e
    rw [rl_5] at ht hf
    exact ib_lt a b (fun e => hf (by omega)) ht
  · obtain rfl : r = 6 := by omega
    rw [rl_6] at ht hf
    exact Exists.intro 40 (y_h99 ha hb ht hf 40 (-16) (fun u u0 u1 => by omega) (by omega) (by omega) (by omega))
theorem y_comp {post : Int32 → Prop} (ok : k_ok k) {op a b : Int} {x0 x1 x2 : Int32} (h0 : x0 = iI op) (h1 : x1 = iI a) (h2 : x2 = iI b) (ho : 0 ≤ op ∧ op ≤ 3) (ha : -16 ≤ a ∧ a ≤ 16) (hb : -16 ≤ b ∧ b ≤ 16) (h : post (iI (fl_c (kh k) op a b))) : wpY_compute post (YC k y σ α) x0 x1 x2 := by
  subst h0 h1 h2
  have mb := mb_ ha hb
  unfold fl_c at h
  refine ib_eq op 0 (fun e => ?_) (fun e0 => ib_eq op 1 (fun e => ?_) (fun e1 => ib_eq op 2 (fun e => ?_) (fun e2 => ?_)))
  · rw [if_pos e] at h
    exact y_wrapI ok (ii_add a b) (by omega) h
  · rw [if_neg e0, if_pos e] at h
    exact y_wrapI ok (ii_sub a b) (by omega) h
  · rw [if_neg e0, if_neg e1, if_pos e] at h
    exact y_wrapI ok (ii_mul a b) (by omega) h
  · rw [if_neg e0, if_neg e1, if_neg e2] at h
    exact h
theorem y_first {post : Int32 → Prop} (ok : k_ok k) {e : Int} {x : Int32} (hx : x = iI e) (he : 0 ≤ e ∧ e < kE k) (h : post (iI (fl_1 (kA k e)))) : wpY_first post (YC k y σ α) x := by
  subst hx
  have hV := ok.2.1
  have ho := (ok.2.2.1 e he.1 he.2).1
  have R : ∀ (f : Int) (c : Int32), c = iI f → 0 ≤ f ∧ f < 7 → vp_in (iI e * 7 + c) 140 ∧ yP k (iI e * 7 + c).toNatClampNeg = iI (kA k e f) := fun f c hc hf => ⟨yp_in (y7 e f hc) (by omega) hf, yp_g k (y7 e f hc) (by omega) hf⟩
  have r2 := R 2 2 rfl (by omega)
  have r3 := R 3 3 rfl (by omega)
  have r4 := R 4 4 rfl (by omega)
  have r5 := R 5 5 rfl (by omega)
  unfold fl_1 at h
  have a5 : (kA k e 2 = 1 ∨ kA k e 2 = 2) → wY_first_22 post (iI e) (iI (-kh k)) (iI (kh k - 1)) (iI (kP k)) (iI (kV k)) (iI (kC k)) (iI (kE k)) (iI (kN k)) y.1 y.2.1 y.2.2.1 y.2.2.2.1 y.2.2.2.2.1 (yP k) (xH k) (yB (σ)) (yB (α)) y.2.2.2.2.2 := fun q => by
    rw [if_pos q] at h
    refine And.intro r5.1 ?_
    rw [r5.2]
    exact h
  have a4 : ¬ (kA k e 2 = 1 ∨ kA k e 2 = 2) → (kA k e 2 = 7 ∨ kA k e 2 = 8) → wY_first_46 post (iI e) (iI (-kh k)) (iI (kh k - 1)) (iI (kP k)) (iI (kV k)) (iI (kC k)) (iI (kE k)) (iI (kN k)) y.1 y.2.1 y.2.2.1 y.2.2.2.1 y.2.2.2.2.1 (yP k) (xH k) (yB (σ)) (yB (α)) y.2.2.2.2.2 := fun q q2 => by
    rw [if_neg q, if_pos q2] at h
    refine And.intro r4.1 ?_
    rw [r4.2]
    exact h
  refine And.intro r2.1 (nm_r r2.2 (ib_eq (kA k e 2) 1 (fun q => a5 (Or.inl q)) (fun q1 => ib_eq (kA k e 2) 2 (fun q => a5 (Or.inr q)) (fun q2 => ib_eq (kA k e 2) 7 (fun q => a4 (by omega) (Or.inl q)) (fun q7 => ib_eq (kA k e 2) 8 (fun q => a4 (by omega) (Or.inr q)) (fun q8 => And.intro r3.1 ?_))))))
  rw [if_neg (by omega), if_neg (by omega)] at h
  show post (yP k (iI e * 7 + 3).toNatClampNeg)
  rw [r3.2]
  exact h
theorem y_second {post : Int32 → Prop} (ok : k_ok k) {e : Int} {x : Int32} (hx : x = iI e) (he : 0 ≤ e ∧ e < kE k) (h : post (iI (fl_2 (kV k) (kA k e)))) : wpY_second post (YC k y σ α) x := by
  subst hx
  have hV := ok.2.1
  have ho := (ok.2.2.1 e he.1 he.2).1
  have R : ∀ (f : Int) (c : Int32), c = iI f → 0 ≤ f ∧ f < 7 → vp_in (iI e * 7 + c) 140 ∧ yP k (iI e * 7 + c).toNatClampNeg = iI (kA k e f) := fun f c hc hf => ⟨yp_in (y7 e f hc) (by omega) hf, yp_g k (y7 e f hc) (by omega) hf⟩
  have r2 := R 2 2 rfl (by omega)
  have r3 := R 3 3 rfl (by omega)
  have r4 := R 4 4 rfl (by omega)
  have r5 := R 5 5 rfl (by omega)
  have r6 := R 6 6 rfl (by omega)
  unfold fl_2 at h
  have a5 : ¬ kA k e 2 = 1 → (kA k e 2 = 2 ∨ kA k e 2 = 4) → wY_second_40 post (iI e) (iI (-kh k)) (iI (kh k - 1)) (iI (kP k)) (iI (kV k)) (iI (kC k)) (iI (kE k)) (iI (kN k)) y.1 y.2.1 y.2.2.1 y.2.2.2.1 y.2.2.2.2.1 (yP k) (xH k) (yB (σ)) (yB (α)) y.2.2.2.2.2 := fun q q2 => by
    rw [if_neg q, if_pos q2] at h
    refine And.intro r5.1 ?_
    rw [r5.2]
    exact h
  refine And.intro r2.1 (nm_r r2.2 (ib_eq (kA k e 2) 1 (fun q => And.intro r6.1 ?_) (fun q1 => ib_eq (kA k e 2) 2 (fun q => a5 q1 (Or.inl q)) (fun q2 => ib_eq (kA k e 2) 4 (fun q => a5 q1 (Or.inr q)) (fun q4 => ib_eq (kA k e 2) 6 (fun q => And.intro r4.1 ?_) (fun q6 => ib_eq (kA k e 2) 7 (fun q => ?_) (fun q7 => And.intro r3.1 ?_)))))))
  · rw [if_pos q] at h
    show post (yP k (iI e * 7 + 6).toNatClampNeg)
    rw [r6.2]
    exact h
  · rw [if_neg q1, if_neg (by omega), if_pos q] at h
    show post (yP k (iI e * 7 + 4).toNatClampNeg)
    rw [r4.2]
    exact h
  · rw [if_neg q1, if_neg (by omega), if_neg q6, if_pos q] at h
    exact h
  · rw [if_neg q1, if_neg (by omega), if_neg q6, if_neg q7] at h
    show post (yP k (iI e * 7 + 3).toNatClampNeg)
    rw [r3.2]
    exact h
theorem y_writ {post : Int32 → Prop} (ok : k_ok k) {e : Int} {x : Int32} (hx : x = iI e) (he : 0 ≤ e ∧ e < kE k) (h : post (iI (fl_t (kV k) (kA k e)))) : wpY_written post (YC k y σ α) x := by
  subst hx
  have hV := ok.2.1
  have ho := (ok.2.2.1 e he.1 he.2).1
  have R : ∀ (f : Int) (c : Int32), c = iI f → 0 ≤ f ∧ f < 7 → vp_in (iI e * 7 + c) 140 ∧ yP k (iI e * 7 + c).toNatClampNeg = iI (kA k e f) := fun f c hc hf => ⟨yp_in (y7 e f hc) (by omega) hf, yp_g k (y7 e f hc) (by omega) hf⟩
  have r2 := R 2 2 rfl (by omega)
  have r3 := R 3 3 rfl (by omega)
  unfold fl_t at h
  have a3 : ¬ kA k e 2 = 8 → (kA k e 2 = 1 ∨ kA k e 2 = 2 ∨ kA k e 2 = 3 ∨ kA k e 2 = 7) → wY_written_44 post (iI e) (iI (-kh k)) (iI (kh k - 1)) (iI (kP k)) (iI (kV k)) (iI (kC k)) (iI (kE k)) (iI (kN k)) y.1 y.2.1 y.2.2.1 y.2.2.2.1 y.2.2.2.2.1 (yP k) (xH k) (yB (σ)) (yB (α)) y.2.2.2.2.2 := fun q q2 => by
    rw [if_neg q, if_pos q2] at h
    refine And.intro r3.1 ?_
    rw [r3.2]
    exact h
  refine And.intro r2.1 (nm_r r2.2 (ib_eq (kA k e 2) 8 (fun q => ?_) (fun q8 => ib_eq (kA k e 2) 1 (fun q => a3 q8 (by omega)) (fun q1 => ib_eq (kA k e 2) 2 (fun q => a3 q8 (by omega)) (fun q2 => ib_eq (kA k e 2) 3 (fun q => a3 q8 (by omega)) (fun q3 => ib_eq (kA k e 2) 7 (fun q => a3 q8 (by omega)) (fun q7 => ?_)))))))
  · rw [if_pos q] at h
    exact h
  · rw [if_neg q8, if_neg (by omega)] at h
    rw [ii_m1]
    exact h
theorem y_pass {post : Int32 → Prop} (ok : k_ok k) {e a b : Int} {x0 x1 x2 : Int32} (h0 : x0 = iI e) (h1 : x1 = iI a) (h2 : x2 = iI b) (he : 0 ≤ e ∧ e < kE k) (ha : -16 ≤ a ∧ a ≤ 16) (hb : -16 ≤ b ∧ b ≤ 16) (ht : fl_p (kh k) (kC k) (kA k e) a b → post 1) (hf : ¬ fl_p (kh k) (kC k) (kA k e) a b → post 0) : wpY_passes post (YC k y σ α) x0 x1 x2 := by
  subst h0 h1 h2
  have hV := ok.2.1
  have hh := k_h ok
  have ho := ok.2.2.1 e he.1 he.2
  have o0 := ho.1
  have R : ∀ (f : Int) (c : Int32), c = iI f → 0 ≤ f ∧ f < 7 → vp_in (iI (e * 7 + 0) + c) 140 ∧ yP k (iI (e * 7 + 0) + c).toNatClampNeg = iI (kA k e f) := fun f c hc hf => by
    rw [← y70]
    exact ⟨yp_in (y7 e f hc) (by omega) hf, yp_g k (y7 e f hc) (by omega) hf⟩
  have r2 := R 2 2 rfl (by omega)
  have r4 := R 4 4 rfl (by omega)
  have r5 := R 5 5 rfl (by omega)
  have r6 := R 6 6 rfl (by omega)
  have wb := wr_in (h := kh k) (a + b) hh
  generalize hg : kA k e = g at *
  have a7 : (g 2 = 7 ∨ g 2 = 8) → wY_passes_125 post (iI a) (iI (-kh k)) (iI (kh k - 1)) (iI (kP k)) (iI (kV k)) (iI (kC k)) (iI (kE k)) (iI (kN k)) y.1 y.2.1 y.2.2.1 y.2.2.2.1 y.2.2.2.2.1 (yP k) (xH k) (yB (σ)) (yB (α)) y.2.2.2.2.2 := fun hk => ib_lt a 0 (fun q => hf (fun y => by have := y.2.2.2 hk; omega)) (fun q => ib_le (kC k) a (fun q2 => hf (fun y => by have := y.2.2.2 hk; omega)) (fun q2 => ht ⟨fun y => by omega, fun y => by omega, fun y => by omega, fun _ => ⟨q, q2⟩⟩))
  refine nm_r (y70 e) (And.intro r2.1 (nm_r r2.2 (y_wrapI ok (ii_add a b) (by omega) (ib_eq (g 2) 4 (fun hk => And.intro r4.1 ?_) (fun q4 => ib_eq (g 2) 5 (fun hk => And.intro r4.1 (And.intro r5.1 ?_)) (fun q5 => ib_eq (g 2) 6 (fun hk => And.intro r5.1 (And.intro r6.1 ?_)) (fun q6 => ib_eq (g 2) 7 (fun hk => a7 (Or.inl hk)) (fun q7 => ib_eq (g 2) 8 (fun hk => a7 (Or.inr hk)) (fun q8 => ht ⟨fun y => by omega, fun y => by omega, fun y => by omega, fun y => by omega⟩)))))))))
  · have o4 := ho.2.2.2.2.1 hk
    exact y_holds r4.2 rfl rfl ha (by omega) hb (fun q => And.intro narrow_b1 (ht ⟨fun _ => q, fun y => by omega, fun y => by omega, fun y => by omega⟩)) (fun q => And.intro narrow_b0 (hf (fun y => q (y.1 hk))))
  · have o5 := ho.2.2.2.2.2.1 hk
    exact y_holds r4.2 rfl r5.2 ha (by omega) (by omega) (fun q => And.intro narrow_b1 (ht ⟨fun y => by omega, fun _ => q, fun y => by omega, fun y => by omega⟩)) (fun q => And.intro narrow_b0 (hf (fun y => q (y.2.1 hk))))
  · have o6 := ho.2.2.2.2.2.2.1 hk
    exact y_holds r5.2 rfl r6.2 (by omega) (by omega) (by omega) (fun q => And.intro narrow_b1 (ht ⟨fun y => by omega, fun y => by omega, fun _ => q, fun y => by omega⟩)) (fun q => And.intro narrow_b0 (hf (fun y => q (y.2.2.1 hk))))
theorem y_res {post : Int32 → Prop} (ok : k_ok k) {e a b : Int} {x0 x1 x2 : Int32} (h0 : x0 = iI e) (h1 : x1 = iI a) (h2 : x2 = iI b) (he : 0 ≤ e ∧ e < kE k) (ha : -16 ≤ a ∧ a ≤ 16) (hb : -16 ≤ b ∧ b ≤ 16) (h : post (iI (fl_r (kh k) (kA k e) a b))) : wpY_result post (YC k y σ α) x0 x1 x2 := by
  subst h0 h1 h2
  have hV := ok.2.1
  have hh := k_h ok
  have ho := ok.2.2.1 e he.1 he.2
  have o0 := ho.1
  have R : ∀ (f : Int) (c : Int32), c = iI f → 0 ≤ f ∧ f < 7 → vp_in (iI e * 7 + c) 140 ∧ yP k (iI e * 7 + c).toNatClampNeg = iI (kA k e f) := fun f c hc hf => ⟨yp_in (y7 e f hc) (by omega) hf, yp_g k (y7 e f hc) (by omega) hf⟩
  have r2 := R 2 2 rfl (by omega)
  have r4 := R 4 4 rfl (by omega)
  have r6 := R 6 6 rfl (by omega)
  unfold fl_r at h
  refine And.intro r2.1 (nm_r r2.2 (ib_eq (kA k e 2) 1 (fun q => And.intro r4.1 ?_) (fun q1 => ib_eq (kA k e 2) 2 (fun q => And.intro r4.1 (And.intro r6.1 ?_)) (fun q2 => ?_))))
  · have o1 := ho.2.1 q
    rw [if_pos q] at h
    exact y_comp ok r4.2 rfl rfl (by omega) ha hb h
  · have o2 := ho.2.2.1 q
    rw [if_neg q1, if_pos q] at h
    exact y_comp ok r4.2 rfl r6.2 (by omega) ha (by omega) h
  · rw [if_neg q1, if_neg q2] at h
    exact h
theorem y_obl {post : Int32 → Prop} (ok : k_ok k) {e : Int} {x : Int32} (hx : x = iI e) (he : 0 ≤ e ∧ e < kE k) (ht : ob_ (kA k e) → post 1) (hf : ¬ ob_ (kA k e) → post 0) : wpY_obligation post (YC k y σ α) x := by
  subst hx
  have hV := ok.2.1
  have ho := ok.2.2.1 e he.1 he.2
  have o0 := ho.1
  have o9 := ho.2.2.2.2.2.2.2.2.1
  have R : ∀ (f : Int) (c : Int32), c = iI f → 0 ≤ f ∧ f < 7 → vp_in (iI e * 7 + c) 140 ∧ yP k (iI e * 7 + c).toNatClampNeg = iI (kA k e f) := fun f c hc hf => ⟨yp_in (y7 e f hc) (by omega) hf, yp_g k (y7 e f hc) (by omega) hf⟩
  have r2 := R 2 2 rfl (by omega)
  have r6 := R 6 6 rfl (by omega)
  have main : (kA k e 2 = 4 ∨ kA k e 2 = 5) → wY_obligation_34 post (iI e) (iI (-kh k)) (iI (kh k - 1)) (iI (kP k)) (iI (kV k)) (iI (kC k)) (iI (kE k)) (iI (kN k)) y.1 y.2.1 y.2.2.1 y.2.2.2.1 y.2.2.2.2.1 (yP k) (xH k) (yB (σ)) (yB (α)) y.2.2.2.2.2 := fun hk => And.intro r6.1 (ib_eq (kA k e 6) 1 (fun q => ht (Or.inr (Or.inr ⟨hk, q⟩))) (fun q => hf (fun y => by unfold ob_ at y; omega)) r6.2 rfl (by omega))
  exact And.intro r2.1 (nm_r r2.2 (ib_eq (kA k e 2) 7 (fun q => ht (Or.inl q)) (fun q7 => ib_eq (kA k e 2) 8 (fun q => ht (Or.inr (Or.inl q))) (fun q8 => ib_eq (kA k e 2) 4 (fun q => main (Or.inl q)) (fun q4 => ib_eq (kA k e 2) 5 (fun q => main (Or.inr q)) (fun q5 => hf (fun y => by unfold ob_ at y; omega)) rfl rfl (by omega)) rfl rfl (by omega)) rfl rfl (by omega)) rfl rfl (by omega)))
theorem y_has {post : Int32 → Prop} {p s v : Int} {x0 x1 x2 : Int32} (h0 : x0 = iI p) (h1 : x1 = iI s) (h2 : x2 = iI v) (hp : 0 ≤ p ∧ p < 10) (hs : 0 ≤ s ∧ s ≤ 3) (hv : -16 ≤ v ∧ v < 16) (h : post (bI (σ (p * 128 + s * 32 + v + 16)))) : wpY_has post (YC k y σ α) x0 x1 x2 := by
  subst h0 h1 h2
  have e : iI p * 128 + iI s * 32 + iI v + 16 = iI (p * 128 + s * 32 + v + 16) := by
    rw [ii_128, ii_mul, ii_32, ii_mul, ii_add, ii_add, ii_16, ii_add]
  have eg : yB σ (iI p * 128 + iI s * 32 + iI v + 16).toNatClampNeg = bI (σ (p * 128 + s * 32 + v + 16)) := by
    rw [e]
    exact yb_g σ (by omega)
  refine And.intro (by rw [e]; exact ii_in (by omega) (by omega) (by omega)) (And.intro ?_ ?_)
  · show narrow .boolean (.int (yB σ (iI p * 128 + iI s * 32 + iI v + 16).toNatClampNeg)) = .int (yB σ (iI p * 128 + iI s * 32 + iI v + 16).toNatClampNeg)
    rw [eg]
    exact ib_nar _
  · show post (yB σ (iI p * 128 + iI s * 32 + iI v + 16).toNatClampNeg)
    rw [eg]
    exact h
theorem y_put {post : SY → Prop} {s v : Int} {x0 x1 : Int32} (h0 : x0 = iI s) (h1 : x1 = iI v) (hs : 0 ≤ s ∧ s ≤ 3) (hv : -16 ≤ v ∧ v < 16) (h : post (YC k y σ (bs_ α (s * 32 + v + 16)))) : wpY_put post (YC k y σ α) x0 x1 := by
  subst h0 h1
  have e : iI s * 32 + iI v + 16 = iI (s * 32 + v + 16) := by
    rw [ii_32, ii_mul, ii_add, ii_16, ii_add]
  exact And.intro (by rw [e]; exact ii_in (by omega) (by omega) (by omega)) (nm_r (by rw [e]; exact yb_u α (by omega)) h)
end
end
section
/-! ===== Y: flow ===== -/
def sM (k : kT) (σ : sT) : aT := fun p s v => k_d k p s ∧ (-kh k ≤ v ∧ v < kh k) ∧ σ (p * 128 + s * 32 + v + 16) = true
/-- α' is α with the cells of W set -/
def pw_ (k : kT) (α α' : sT) (W : Int → Int → Prop) : Prop := ∀ j, α' j = true ↔ (α j = true ∨ ∃ s v, (0 ≤ s ∧ s ≤ kV k ∧ -kh k ≤ v ∧ v < kh k) ∧ j = s * 32 + v + 16 ∧ W s v)
theorem pw_0 {k : kT} (α : sT) {W : Int → Int → Prop} (h : ∀ s v, 0 ≤ s → s ≤ kV k → -kh k ≤ v → v < kh k → ¬ W s v) : pw_ k α α W := fun j => ⟨Or.inl, fun y => y.elim id (fun ⟨s, v, r, _, w⟩ => absurd w (h s v r.1 r.2.1 r.2.2.1 r.2.2.2))⟩
theorem pw_x {k : kT} {α α' : sT} {W W' : Int → Int → Prop} (h : pw_ k α α' W) (e : ∀ s v, 0 ≤ s → s ≤ kV k → -kh k ≤ v → v < kh k → (W s v ↔ W' s v)) : pw_ k α α' W' := fun j => by
  rw [h j]
  constructor
  · rintro (y | ⟨s, v, r, ej, w⟩)
    · exact Or.inl y
    · exact Or.inr ⟨s, v, r, ej, (e s v r.1 r.2.1 r.2.2.1 r.2.2.2).mp w⟩
  · rintro (y | ⟨s, v, r, ej, w⟩)
    · exact Or.inl y
    · exact Or.inr ⟨s, v, r, ej, (e s v r.1 r.2.1 r.2.2.1 r.2.2.2).mpr w⟩
theorem pw_p {k : kT} {α α' : sT} {W : Int → Int → Prop} (h : pw_ k α α' W) {s v : Int} (r : 0 ≤ s ∧ s ≤ kV k ∧ -kh k ≤ v ∧ v < kh k) : pw_ k α (bs_ α' (s * 32 + v + 16)) (fun s' v' => W s' v' ∨ (s' = s ∧ v' = v)) := fun j => by
  by_cases e : j = s * 32 + v + 16
  · rw [e, bs_s]
    exact ⟨fun _ => Or.inr ⟨s, v, r, rfl, Or.inr ⟨rfl, rfl⟩⟩, fun _ => rfl⟩
  · rw [bs_n _ e, h j]
    constructor
    · rintro (y | ⟨s', v', r', ej, w⟩)
      · exact Or.inl y
      · exact Or.inr ⟨s', v', r', ej, Or.inl w⟩
    · rintro (y | ⟨s', v', r', ej, w | ⟨w1, w2⟩⟩)
      · exact Or.inl y
      · exact Or.inr ⟨s', v', r', ej, w⟩
      · rw [w1, w2] at ej
        exact absurd ej e
theorem fl_rr {h P V : Int} {g : Int → Int} (hh : h = 4 ∨ h = 8 ∨ h = 16) (ho : ed_ok h P V g) {a b : Int} (ha : -h ≤ a ∧ a < h) (hb : -h ≤ b ∧ b < h) : -h ≤ fl_r h g a b ∧ fl_r h g a b < h := by
  have w1 := wr_in (h := h) (a + b) hh
  have w2 := wr_in (h := h) (a - b) hh
  have w3 := wr_in (h := h) (a * b) hh
  have w4 := wr_in (h := h) (a + g 6) hh
  have w5 := wr_in (h := h) (a - g 6) hh
  have w6 := wr_in (h := h) (a * g 6) hh
  unfold fl_r
  split
  · unfold fl_c
    split
    · exact w1
    · split
      · exact w2
      · split
        · exact w3
        · exact hb
  · split
    · rename_i h2
      have := ho.2.2.1 h2
      unfold fl_c
      split
      · exact w4
      · split
        · exact w5
        · split
          · exact w6
          · omega
    · exact hb
abbrev GT : Type := Int32 → Int32 → Int32 → Int32 → Int32 → Int32 → Int32 → Int32 → Int32 → Int32 → Int32 → Int32 → Int32 → Int32 → (Nat → Int32) → (Nat → Int32) → (Nat → Int32) → (Nat → Int32) → (Nat → Int32) → Prop
abbrev HT : Type := Int32 → Int32 → Int32 → Int32 → Int32 → Int32 → Int32 → Int32 → Int32 → Int32 → Int32 → Int32 → Int32 → (Nat → Int32) → (Nat → Int32) → (Nat → Int32) → (Nat → Int32) → (Nat → Int32) → Prop
section
variable {k : kT} {y : yT} {σ : sT}
theorem y_f170 {post : SY → Prop} (ok : k_ok k) {J52 J67 : GT} {e src kd s1 s2 t a b r : Int} {x7 : Int32} {α0 α : sT} {W : Int → Int → Prop} (ht : -1 ≤ t ∧ t ≤ kV k) (hk : 0 ≤ kd ∧ kd ≤ 8) (hr : -kh k ≤ r ∧ r < kh k) (hp : pw_ k α0 α W) (h : ∀ α', pw_ k α0 α' (fun s v => W s v ∨ (s = t ∧ kd ≠ 3 ∧ v = r)) → J67 x7 (iI (b + 1)) (iI (-kh k)) (iI (kh k - 1)) (iI (kP k)) (iI (kV k)) (iI (kC k)) (iI (kE k)) (iI (kN k)) y.1 y.2.1 y.2.2.1 y.2.2.2.1 y.2.2.2.2.1 (yP k) (xH k) (yB (σ)) (yB (α')) y.2.2.2.2.2) : wY_flow_170 post J52 J67 (iI e) (iI src) (iI kd) (iI s1) (iI s2) (iI t) x7 (iI a) (iI b) (iI r) (iI (-kh k)) (iI (kh k - 1)) (iI (kP k)) (iI (kV k)) (iI (kC k)) (iI (kE k)) (iI (kN k)) y.1 y.2.1 y.2.2.1 y.2.2.2.1 y.2.2.2.2.1 (yP k) (xH k) (yB (σ)) (yB (α)) y.2.2.2.2.2 := by
  have hV := ok.2.1
  have hh := k_h ok
  refine ib_lt t 0 (fun q => nm_r (ii_add b 1) (h α (pw_x hp fun s v s0 s1 v0 v1 => ⟨Or.inl, fun w => w.elim id (fun w => by omega)⟩))) (fun q => ib_eq kd 3 (fun q3 => nm_r (ii_add b 1) (h α (pw_x hp fun s v s0 s1 v0 v1 => ⟨Or.inl, fun w => w.elim id (fun w => absurd q3 w.2.1)⟩))) (fun q3 => y_put rfl rfl (by omega) (by omega) (nm_r (ii_add b 1) (h _ (pw_x (pw_p hp (s := t) (v := r) (by omega)) fun s v s0 s1 v0 v1 => ⟨fun w => w.elim Or.inl (fun w => Or.inr ⟨w.1, q3, w.2⟩), fun w => w.elim Or.inl (fun w => Or.inr ⟨w.1, w.2.2⟩)⟩)))))
theorem y_f155 {post : SY → Prop} (ok : k_ok k) {J52 J67 : GT} {e src kd s1 s2 t a b r : Int} {x7 : Int32} {α0 α : sT} {W : Int → Int → Prop} (ht : -1 ≤ t ∧ t ≤ kV k) (hk : 0 ≤ kd ∧ kd ≤ 8) (hr : -kh k ≤ r ∧ r < kh k) (h2 : 0 ≤ s2 ∧ s2 ≤ kV k) (hb : -kh k ≤ b ∧ b < kh k) (hp : pw_ k α0 α W) (h : ∀ α', pw_ k α0 α' (fun s v => (W s v ∨ (s = s2 ∧ s2 ≠ t ∧ v = b)) ∨ (s = t ∧ kd ≠ 3 ∧ v = r)) → J67 x7 (iI (b + 1)) (iI (-kh k)) (iI (kh k - 1)) (iI (kP k)) (iI (kV k)) (iI (kC k)) (iI (kE k)) (iI (kN k)) y.1 y.2.1 y.2.2.1 y.2.2.2.1 y.2.2.2.2.1 (yP k) (xH k) (yB (σ)) (yB (α')) y.2.2.2.2.2) : wY_flow_155 post J52 J67 (iI e) (iI src) (iI kd) (iI s1) (iI s2) (iI t) x7 (iI a) (iI b) (iI r) (iI (-kh k)) (iI (kh k - 1)) (iI (kP k)) (iI (kV k)) (iI (kC k)) (iI (kE k)) (iI (kN k)) y.1 y.2.1 y.2.2.1 y.2.2.2.1 y.2.2.2.2.1 (yP k) (xH k) (yB (σ)) (yB (α)) y.2.2.2.2.2 := by
  have hV := ok.2.1
  have hh := k_h ok
  refine ib_eq s2 t (fun q => y_f170 ok ht hk hr (pw_x hp fun s v s0 s1 v0 v1 => ⟨Or.inl, fun w => w.elim id (fun w => absurd q w.2.1)⟩) h) (fun q => y_put rfl rfl (by omega) (by omega) (y_f170 ok ht hk hr (pw_x (pw_p hp (s := s2) (v := b) (by omega)) fun s v s0 s1 v0 v1 => ⟨fun w => w.elim Or.inl (fun w => Or.inr ⟨w.1, q, w.2⟩), fun w => w.elim Or.inl (fun w => Or.inr ⟨w.1, w.2.2⟩)⟩) h))
theorem y_f114 {post : SY → Prop} (ok : k_ok k) {J52 J67 : GT} {e src a b : Int} {x7 : Int32} {α0 α : sT} {W : Int → Int → Prop} (he : 0 ≤ e ∧ e < kE k) (ha : -kh k ≤ a ∧ a < kh k) (hb : -kh k ≤ b ∧ b < kh k) (hp : pw_ k α0 α W) (hN : ¬ fl_p (kh k) (kC k) (kA k e) a b → J67 x7 (iI (b + 1)) (iI (-kh k)) (iI (kh k - 1)) (iI (kP k)) (iI (kV k)) (iI (kC k)) (iI (kE k)) (iI (kN k)) y.1 y.2.1 y.2.2.1 y.2.2.2.1 y.2.2.2.2.1 (yP k) (xH k) (yB (σ)) (yB (α)) y.2.2.2.2.2) (h : fl_p (kh k) (kC k) (kA k e) a b → ∀ α', pw_ k α0 α' (fun s v => W s v ∨ fl_w (kh k) (kV k) (kA k e) a b s v) → J67 1 (iI (b + 1)) (iI (-kh k)) (iI (kh k - 1)) (iI (kP k)) (iI (kV k)) (iI (kC k)) (iI (kE k)) (iI (kN k)) y.1 y.2.1 y.2.2.1 y.2.2.2.1 y.2.2.2.2.1 (yP k) (xH k) (yB (σ)) (yB (α')) y.2.2.2.2.2) : wY_flow_114 post J52 J67 (iI e) (iI src) (iI (kA k e 2)) (iI (fl_1 (kA k e))) (iI (fl_2 (kV k) (kA k e))) (iI (fl_t (kV k) (kA k e))) x7 (iI a) (iI b) (iI (-kh k)) (iI (kh k - 1)) (iI (kP k)) (iI (kV k)) (iI (kC k)) (iI (kE k)) (iI (kN k)) y.1 y.2.1 y.2.2.1 y.2.2.2.1 y.2.2.2.2.1 (yP k) (xH k) (yB (σ)) (yB (α)) y.2.2.2.2.2 := by
  have hV := ok.2.1
  have hh := k_h ok
  have ho := ok.2.2.1 e he.1 he.2
  have h12 := ed_12 ho (by omega)
  have o0 := ho.1
  have rr := fl_rr hh ho ha hb
  refine y_pass ok rfl rfl rfl he (by omega) (by omega) (fun hpass => br_f (by decide) (y_res ok rfl rfl rfl he (by omega) (by omega) ?_)) (fun hn => br_t rfl (nm_r (ii_add b 1) (hN hn)))
  refine ib_eq (fl_1 (kA k e)) (fl_t (kV k) (kA k e)) (fun q => y_f155 ok (by omega) (by omega) rr (by omega) hb hp (fun α' hα' => h hpass α' (pw_x hα' fun s v s0 s1 v0 v1 => ?_))) (fun q => y_put rfl rfl (by omega) (by omega) (y_f155 ok (by omega) (by omega) rr (by omega) hb (pw_p hp (s := fl_1 (kA k e)) (v := a) (by omega)) (fun α' hα' => h hpass α' (pw_x hα' fun s v s0 s1 v0 v1 => ?_))))
  · unfold fl_w
    constructor
    · rintro ((w | w) | w)
      · exact Or.inl w
      · exact Or.inr (Or.inr (Or.inl w))
      · exact Or.inr (Or.inr (Or.inr w))
    · rintro (w | w | w | w)
      · exact Or.inl (Or.inl w)
      · exact absurd q w.2.1
      · exact Or.inl (Or.inr w)
      · exact Or.inr w
  · unfold fl_w
    constructor
    · rintro (((w | w) | w) | w)
      · exact Or.inl w
      · exact Or.inr (Or.inl ⟨w.1, q, w.2⟩)
      · exact Or.inr (Or.inr (Or.inl w))
      · exact Or.inr (Or.inr (Or.inr w))
    · rintro (w | w | w | w)
      · exact Or.inl (Or.inl (Or.inl w))
      · exact Or.inl (Or.inl (Or.inr ⟨w.1, w.2.2⟩))
      · exact Or.inl (Or.inr w)
      · exact Or.inr w
/-- the pairs before (a, b) -/
def fw_ (k : kT) (g : Int → Int) (S : Int → Int → Prop) (a b s v : Int) : Prop := ∃ a' b', (a' < a ∨ (a' = a ∧ b' < b)) ∧ fl_G (kh k) (kV k) (kC k) g S a' b' ∧ fl_w (kh k) (kV k) g a' b' s v
def fa_ (k : kT) (g : Int → Int) (S : Int → Int → Prop) (a b : Int) : Prop := ∃ a' b', (a' < a ∨ (a' = a ∧ b' < b)) ∧ fl_G (kh k) (kV k) (kC k) g S a' b'
theorem y_f67 {post : SY → Prop} (ok : k_ok k) {J52 : GT} {e a : Int} {α0 : sT} (he : 0 ≤ e ∧ e < kE k) (ha : -kh k ≤ a ∧ a < kh k) (hJ : ∀ (c : Bool) (α : sT), pw_ k α0 α (fw_ k (kA k e) (sM k σ (kA k e 0)) (a + 1) (-kh k)) → (c = true ↔ fa_ k (kA k e) (sM k σ (kA k e 0)) (a + 1) (-kh k)) → J52 (bI c) (iI (a + 1)) (iI (-kh k)) (iI (kh k - 1)) (iI (kP k)) (iI (kV k)) (iI (kC k)) (iI (kE k)) (iI (kN k)) y.1 y.2.1 y.2.2.1 y.2.2.2.1 y.2.2.2.2.1 (yP k) (xH k) (yB (σ)) (yB (α)) y.2.2.2.2.2) : ∀ (n : Nat) (b : Int) (c : Bool) (α : sT), pw_ k α0 α (fw_ k (kA k e) (sM k σ (kA k e 0)) a b) → (c = true ↔ fa_ k (kA k e) (sM k σ (kA k e 0)) a b) → -kh k ≤ b → b ≤ kh k → (kh k - b).toNat < n → wY_flow_67 post J52 (iI e) (iI (kA k e 0)) (iI (kA k e 2)) (iI (fl_1 (kA k e))) (iI (fl_2 (kV k) (kA k e))) (iI (fl_t (kV k) (kA k e))) (iI a) n (bI c) (iI b) (iI (-kh k)) (iI (kh k - 1)) (iI (kP k)) (iI (kV k)) (iI (kC k)) (iI (kE k)) (iI (kN k)) y.1 y.2.1 y.2.2.1 y.2.2.2.1 y.2.2.2.2.1 (yP k) (xH k) (yB (σ)) (yB (α)) y.2.2.2.2.2
  | 0, _, _, _, _, _, _, _, hn => by omega
  | n + 1, b, c, α, hp, hc, b0, b1, hn => by
    have hV := ok.2.1
    have hh := k_h ok
    have ho := ok.2.2.1 e he.1 he.2
    have h12 := ed_12 ho (by omega)
    have o0 := ho.1
    have rg : ∀ {a' b'}, fl_G (kh k) (kV k) (kC k) (kA k e) (sM k σ (kA k e 0)) a' b' → (-kh k ≤ a' ∧ a' < kh k) ∧ (-kh k ≤ b' ∧ b' < kh k) := fun hG => ⟨hG.1.2.1, hG.2.1.2.1⟩
    have d1 : k_d k (kA k e 0) (fl_1 (kA k e)) := ⟨by omega, by omega, by omega, by omega⟩
    have d2 : k_d k (kA k e 0) (fl_2 (kV k) (kA k e)) := ⟨by omega, by omega, by omega, by omega⟩
    -- the pair (a, b) isn't one
    have skip : ¬ fl_G (kh k) (kV k) (kC k) (kA k e) (sM k σ (kA k e 0)) a b → b < kh k → wY_flow_67 post J52 (iI e) (iI (kA k e 0)) (iI (kA k e 2)) (iI (fl_1 (kA k e))) (iI (fl_2 (kV k) (kA k e))) (iI (fl_t (kV k) (kA k e))) (iI a) n (bI c) (iI (b + 1)) (iI (-kh k)) (iI (kh k - 1)) (iI (kP k)) (iI (kV k)) (iI (kC k)) (iI (kE k)) (iI (kN k)) y.1 y.2.1 y.2.2.1 y.2.2.2.1 y.2.2.2.2.1 (yP k) (xH k) (yB (σ)) (yB (α)) y.2.2.2.2.2 := fun hno hlt => by
      refine y_f67 ok he ha hJ n (b + 1) c α (pw_x hp fun s v s0 s1 v0 v1 => ?_) (hc.trans ?_) (by omega) (by omega) (by omega)
      · constructor
        · rintro ⟨a', b', q, w⟩
          exact ⟨a', b', by omega, w⟩
        · rintro ⟨a', b', q, w⟩
          by_cases e1 : a' = a ∧ b' = b
          · rw [e1.1, e1.2] at w
            exact absurd w.1 hno
          · exact ⟨a', b', by omega, w⟩
      · constructor
        · rintro ⟨a', b', q, w⟩
          exact ⟨a', b', by omega, w⟩
        · rintro ⟨a', b', q, w⟩
          by_cases e1 : a' = a ∧ b' = b
          · rw [e1.1, e1.2] at w
            exact absurd w hno
          · exact ⟨a', b', by omega, w⟩
    refine ib_lt (kh k - 1) b (fun q => nm_r (ii_add a 1) (hJ c α (pw_x hp fun s v s0 s1 v0 v1 => ?_) (hc.trans ?_))) (fun q => ?_) rfl rfl (by omega)
    · constructor
      · rintro ⟨a', b', q2, w⟩
        exact ⟨a', b', by omega, w⟩
      · rintro ⟨a', b', q2, w⟩
        have := rg w.1
        exact ⟨a', b', by omega, w⟩
    · constructor
      · rintro ⟨a', b', q2, w⟩
        exact ⟨a', b', by omega, w⟩
      · rintro ⟨a', b', q2, w⟩
        have := rg w
        exact ⟨a', b', by omega, w⟩
    · have hb : -kh k ≤ b ∧ b < kh k := by omega
      have go : sM k σ (kA k e 0) (fl_1 (kA k e)) a → sM k σ (kA k e 0) (fl_2 (kV k) (kA k e)) b → (fl_1 (kA k e) = fl_2 (kV k) (kA k e) → a = b) → wY_flow_114 post J52 (wY_flow_67 post J52 (iI e) (iI (kA k e 0)) (iI (kA k e 2)) (iI (fl_1 (kA k e))) (iI (fl_2 (kV k) (kA k e))) (iI (fl_t (kV k) (kA k e))) (iI a) n) (iI e) (iI (kA k e 0)) (iI (kA k e 2)) (iI (fl_1 (kA k e))) (iI (fl_2 (kV k) (kA k e))) (iI (fl_t (kV k) (kA k e))) (bI c) (iI a) (iI b) (iI (-kh k)) (iI (kh k - 1)) (iI (kP k)) (iI (kV k)) (iI (kC k)) (iI (kE k)) (iI (kN k)) y.1 y.2.1 y.2.2.1 y.2.2.2.1 y.2.2.2.2.1 (yP k) (xH k) (yB (σ)) (yB (α)) y.2.2.2.2.2 := fun g1 g2 g3 => by
        refine y_f114 ok he ha hb hp (fun hn => skip (fun hG => hn hG.2.2.2) hb.2) (fun hpass α' hα' => ?_)
        have hG : fl_G (kh k) (kV k) (kC k) (kA k e) (sM k σ (kA k e 0)) a b := ⟨g1, g2, g3, hpass⟩
        refine y_f67 ok he ha hJ n (b + 1) true α' (pw_x hα' fun s v s0 s1 v0 v1 => ?_) ⟨fun _ => ⟨a, b, by omega, hG⟩, fun _ => rfl⟩ (by omega) (by omega) (by omega)
        constructor
        · rintro (⟨a', b', q2, w⟩ | w)
          · exact ⟨a', b', by omega, w⟩
          · exact ⟨a, b, by omega, hG, w⟩
        · rintro ⟨a', b', q2, w⟩
          by_cases e1 : a' = a ∧ b' = b
          · rw [e1.1, e1.2] at w
            exact Or.inr w.2
          · exact Or.inl ⟨a', b', by omega, w⟩
      refine y_has rfl rfl rfl (by omega) (by omega) (by omega) (ib_b _ (fun q1 => nm_r (ii_add b 1) (skip (fun hG => ?_) hb.2)) (fun q1 => y_has rfl rfl rfl (by omega) (by omega) (by omega) (ib_b _ (fun q2 => nm_r (ii_add b 1) (skip (fun hG => ?_) hb.2)) (fun q2 => ib_eq (fl_1 (kA k e)) (fl_2 (kV k) (kA k e)) (fun q3 => ib_eq a b (fun q4 => go ⟨d1, ha, q1⟩ ⟨d2, hb, q2⟩ (fun _ => q4)) (fun q4 => nm_r (ii_add b 1) (skip (fun hG => q4 (hG.2.2.1 q3)) hb.2))) (fun q3 => go ⟨d1, ha, q1⟩ ⟨d2, hb, q2⟩ (fun x => absurd x q3))))))
      · have := hG.1.2.2
        rw [q1] at this
        exact absurd this (by decide)
      · have := hG.2.1.2.2
        rw [q2] at this
        exact absurd this (by decide)
theorem y_f298 {post : SY → Prop} (ok : k_ok k) {J203 J264 : HT} {e s v : Int} {x2 x4 x5 x7 x9 : Int32} {α0 α : sT} {W : Int → Int → Prop} (he : 0 ≤ e ∧ e < kE k) (hs : 0 ≤ s ∧ s ≤ kV k) (hv : -kh k ≤ v ∧ v < kh k) (hp : pw_ k α0 α W) (h : ∀ α', pw_ k α0 α' (fun s' v' => W s' v' ∨ (s' = s ∧ v' = v ∧ s = fl_t (kV k) (kA k e) ∧ kA k e 2 = 3 ∧ kA k e 4 ≤ v ∧ v ≤ kA k e 5)) → J264 (iI (v + 1)) (iI (-kh k)) (iI (kh k - 1)) (iI (kP k)) (iI (kV k)) (iI (kC k)) (iI (kE k)) (iI (kN k)) y.1 y.2.1 y.2.2.1 y.2.2.2.1 y.2.2.2.2.1 (yP k) (xH k) (yB (σ)) (yB (α')) y.2.2.2.2.2) : wY_flow_298 post J203 J264 (iI e) x2 (iI (kA k e 2)) x4 x5 (iI (fl_t (kV k) (kA k e))) x7 (iI s) x9 (iI v) (iI (-kh k)) (iI (kh k - 1)) (iI (kP k)) (iI (kV k)) (iI (kC k)) (iI (kE k)) (iI (kN k)) y.1 y.2.1 y.2.2.1 y.2.2.2.1 y.2.2.2.2.1 (yP k) (xH k) (yB (σ)) (yB (α)) y.2.2.2.2.2 := by
  have hV := ok.2.1
  have hh := k_h ok
  have ho := ok.2.2.1 e he.1 he.2
  have h12 := ed_12 ho (by omega)
  have o0 := ho.1
  have o9 := ho.2.2.2.2.2.2.2.2.1
  have R : ∀ (f : Int) (c : Int32), c = iI f → 0 ≤ f ∧ f < 7 → vp_in (iI e * 7 + c) 140 ∧ yP k (iI e * 7 + c).toNatClampNeg = iI (kA k e f) := fun f c hc hf => ⟨yp_in (y7 e f hc) (by omega) hf, yp_g k (y7 e f hc) (by omega) hf⟩
  have r4 := R 4 4 rfl (by omega)
  have r5 := R 5 5 rfl (by omega)
  have stay : ¬ (s = fl_t (kV k) (kA k e) ∧ kA k e 2 = 3 ∧ kA k e 4 ≤ v ∧ v ≤ kA k e 5) → J264 (iI (v + 1)) (iI (-kh k)) (iI (kh k - 1)) (iI (kP k)) (iI (kV k)) (iI (kC k)) (iI (kE k)) (iI (kN k)) y.1 y.2.1 y.2.2.1 y.2.2.2.1 y.2.2.2.2.1 (yP k) (xH k) (yB (σ)) (yB (α)) y.2.2.2.2.2 := fun hn => h α (pw_x hp fun s' v' _ _ _ _ => ⟨Or.inl, fun w => w.elim id (fun w => absurd w.2.2 hn)⟩)
  refine ib_eq s (fl_t (kV k) (kA k e)) (fun q => ib_eq (kA k e 2) 3 (fun q3 => And.intro r4.1 (ib_lt v (kA k e 4) (fun q4 => nm_r (ii_add v 1) (stay (by omega))) (fun q4 => And.intro r5.1 (ib_lt (kA k e 5) v (fun q5 => nm_r (ii_add v 1) (stay (by omega))) (fun q5 => y_put rfl rfl (by omega) (by omega) (nm_r (ii_add v 1) (h _ (pw_x (pw_p hp (s := s) (v := v) (by omega)) fun s' v' _ _ _ _ => ⟨fun w => w.elim Or.inl (fun w => Or.inr ⟨w.1, w.2, q, q3, q4, q5⟩), fun w => w.elim Or.inl (fun w => Or.inr ⟨w.1, w.2.1⟩)⟩)))) r5.2 rfl (by omega))) rfl r4.2 (by omega))) (fun q3 => nm_r (ii_add v 1) (stay (by omega)))) (fun q => nm_r (ii_add v 1) (stay (by omega)))
/-- the cells kept before (s, v) -/
def fk_ (k : kT) (g : Int → Int) (S : Int → Int → Prop) (s v s' v' : Int) : Prop := (s' < s ∨ (s' = s ∧ v' < v)) ∧ fl_k (kV k) g S s' v'
theorem y_f264 {post : SY → Prop} (ok : k_ok k) {J203 : HT} {e s : Int} {x7 : Int32} (kp : Bool) {α0 : sT} {W : Int → Int → Prop} (he : 0 ≤ e ∧ e < kE k) (hs : 0 ≤ s ∧ s ≤ kV k) (hkp : kp = true ↔ ((s ≠ fl_1 (kA k e) ∧ s ≠ fl_2 (kV k) (kA k e) ∧ s ≠ fl_t (kV k) (kA k e)) ∨ (s = fl_t (kV k) (kA k e) ∧ kA k e 2 = 8))) (hJ : ∀ α, pw_ k α0 α (fun s' v' => W s' v' ∨ fk_ k (kA k e) (sM k σ (kA k e 0)) (s + 1) (-kh k) s' v') → J203 (iI (s + 1)) (iI (-kh k)) (iI (kh k - 1)) (iI (kP k)) (iI (kV k)) (iI (kC k)) (iI (kE k)) (iI (kN k)) y.1 y.2.1 y.2.2.1 y.2.2.2.1 y.2.2.2.2.1 (yP k) (xH k) (yB (σ)) (yB (α)) y.2.2.2.2.2) : ∀ (n : Nat) (v : Int) (α : sT), pw_ k α0 α (fun s' v' => W s' v' ∨ fk_ k (kA k e) (sM k σ (kA k e 0)) s v s' v') → -kh k ≤ v → v ≤ kh k → (kh k - v).toNat < n → wY_flow_264 post J203 (iI e) (iI (kA k e 0)) (iI (kA k e 2)) (iI (fl_1 (kA k e))) (iI (fl_2 (kV k) (kA k e))) (iI (fl_t (kV k) (kA k e))) x7 (iI s) (bI kp) n (iI v) (iI (-kh k)) (iI (kh k - 1)) (iI (kP k)) (iI (kV k)) (iI (kC k)) (iI (kE k)) (iI (kN k)) y.1 y.2.1 y.2.2.1 y.2.2.2.1 y.2.2.2.2.1 (yP k) (xH k) (yB (σ)) (yB (α)) y.2.2.2.2.2
  | 0, _, _, _, _, _, hn => by omega
  | n + 1, v, α, hp, v0, v1, hn => by
    have hV := ok.2.1
    have hh := k_h ok
    have ho := ok.2.2.1 e he.1 he.2
    have o0 := ho.1
    have ds : k_d k (kA k e 0) s := ⟨by omega, by omega, by omega, by omega⟩
    refine ib_lt (kh k - 1) v (fun q => nm_r (ii_add s 1) (hJ α (pw_x hp fun s' v' a0 a1 a2 a3 => ?_))) (fun q => ?_) rfl rfl (by omega)
    · constructor
      · rintro (w | ⟨w1, w2⟩)
        · exact Or.inl w
        · exact Or.inr ⟨by omega, w2⟩
      · rintro (w | ⟨w1, w2⟩)
        · exact Or.inl w
        · exact Or.inr ⟨by omega, w2⟩
    · -- the second part, when the first has put the cell or not
      have nxt : ∀ (α1 : sT) (X : Prop), pw_ k α0 α1 (fun s' v' => (W s' v' ∨ fk_ k (kA k e) (sM k σ (kA k e 0)) s v s' v') ∨ (s' = s ∧ v' = v ∧ X)) → (X ↔ (((s ≠ fl_1 (kA k e) ∧ s ≠ fl_2 (kV k) (kA k e) ∧ s ≠ fl_t (kV k) (kA k e)) ∨ (s = fl_t (kV k) (kA k e) ∧ kA k e 2 = 8)) ∧ sM k σ (kA k e 0) s v)) → wY_flow_298 post J203 (wY_flow_264 post J203 (iI e) (iI (kA k e 0)) (iI (kA k e 2)) (iI (fl_1 (kA k e))) (iI (fl_2 (kV k) (kA k e))) (iI (fl_t (kV k) (kA k e))) x7 (iI s) (bI kp) n) (iI e) (iI (kA k e 0)) (iI (kA k e 2)) (iI (fl_1 (kA k e))) (iI (fl_2 (kV k) (kA k e))) (iI (fl_t (kV k) (kA k e))) x7 (iI s) (bI kp) (iI v) (iI (-kh k)) (iI (kh k - 1)) (iI (kP k)) (iI (kV k)) (iI (kC k)) (iI (kE k)) (iI (kN k)) y.1 y.2.1 y.2.2.1 y.2.2.2.1 y.2.2.2.2.1 (yP k) (xH k) (yB (σ)) (yB (α1)) y.2.2.2.2.2 := fun α1 X hp1 hX => by
        refine y_f298 ok he hs (by omega) hp1 (fun α' hα' => y_f264 ok kp he hs hkp hJ n (v + 1) α' (pw_x hα' fun s' v' a0 a1 a2 a3 => ?_) (by omega) (by omega) (by omega))
        constructor
        · rintro (((w | ⟨w1, w2⟩) | ⟨w1, w2, w3⟩) | ⟨w1, w2, w3⟩)
          · exact Or.inl w
          · exact Or.inr ⟨by omega, w2⟩
          · subst w1 w2
            exact Or.inr ⟨by omega, Or.inl (hX.mp w3)⟩
          · subst w1 w2
            exact Or.inr ⟨by omega, Or.inr w3⟩
        · rintro (w | ⟨w1, w2⟩)
          · exact Or.inl (Or.inl (Or.inl w))
          · by_cases e1 : s' = s ∧ v' = v
            · obtain ⟨e2, e3⟩ := e1
              subst e2 e3
              rcases w2 with w2 | w2
              · exact Or.inl (Or.inr ⟨rfl, rfl, hX.mpr w2⟩)
              · exact Or.inr ⟨rfl, rfl, w2⟩
            · exact Or.inl (Or.inl (Or.inr ⟨by omega, w2⟩))
      refine ib_b kp (fun qk => nxt α False (pw_x hp fun s' v' a0 a1 a2 a3 => ⟨Or.inl, fun w => w.elim id (fun w => w.2.2.elim)⟩) ⟨False.elim, fun w => ?_⟩) (fun qk => y_has rfl rfl rfl (by omega) (by omega) (by omega) (ib_b _ (fun q1 => nxt α False (pw_x hp fun s' v' a0 a1 a2 a3 => ⟨Or.inl, fun w => w.elim id (fun w => w.2.2.elim)⟩) ⟨False.elim, fun w => ?_⟩) (fun q1 => y_put rfl rfl (by omega) (by omega) (nxt _ True (pw_x (pw_p hp (s := s) (v := v) (by omega)) fun s' v' a0 a1 a2 a3 => ⟨fun w => w.elim Or.inl (fun w => Or.inr ⟨w.1, w.2, trivial⟩), fun w => w.elim Or.inl (fun w => Or.inr ⟨w.1, w.2.1⟩)⟩) ⟨fun _ => ⟨hkp.mp qk, ds, by omega, q1⟩, fun _ => trivial⟩))))
      · rw [hkp.mpr w.1] at qk
        exact absurd qk (by decide)
      · have := w.2.2.2
        rw [q1] at this
        exact absurd this (by decide)
theorem y_f203 {post : SY → Prop} (ok : k_ok k) {e : Int} {α0 : sT} {W : Int → Int → Prop} (c : Bool) (he : 0 ≤ e ∧ e < kE k) (h : ∀ α, pw_ k α0 α (fun s' v' => W s' v' ∨ (c = true ∧ fl_k (kV k) (kA k e) (sM k σ (kA k e 0)) s' v')) → post (YC k y σ α)) : ∀ (n : Nat) (s : Int) (α : sT), pw_ k α0 α (fun s' v' => W s' v' ∨ (c = true ∧ fk_ k (kA k e) (sM k σ (kA k e 0)) s (-kh k) s' v')) → 0 ≤ s → s ≤ kV k + 1 → (kV k + 1 - s).toNat < n → wY_flow_203 post (iI e) (iI (kA k e 0)) (iI (kA k e 2)) (iI (fl_1 (kA k e))) (iI (fl_2 (kV k) (kA k e))) (iI (fl_t (kV k) (kA k e))) (bI c) n (iI s) (iI (-kh k)) (iI (kh k - 1)) (iI (kP k)) (iI (kV k)) (iI (kC k)) (iI (kE k)) (iI (kN k)) y.1 y.2.1 y.2.2.1 y.2.2.2.1 y.2.2.2.2.1 (yP k) (xH k) (yB (σ)) (yB (α)) y.2.2.2.2.2
  | 0, _, _, _, _, _, hn => by omega
  | n + 1, s, α, hp, s0, s1, hn => by
    have hV := ok.2.1
    have hh := k_h ok
    have ho := ok.2.2.1 e he.1 he.2
    have h12 := ed_12 ho (by omega)
    have o0 := ho.1
    refine ib_lt (kV k) s (fun q => h α (pw_x hp fun s' v' a0 a1 a2 a3 => ?_)) (fun q => ib_b c (fun qc => h α (pw_x hp fun s' v' a0 a1 a2 a3 => ?_)) (fun qc => ?_)) rfl rfl (by omega)
    · constructor
      · rintro (w | ⟨w1, w2⟩)
        · exact Or.inl w
        · exact Or.inr ⟨w1, w2.2⟩
      · rintro (w | ⟨w1, w2⟩)
        · exact Or.inl w
        · exact Or.inr ⟨w1, by omega, w2⟩
    · rw [qc]
      constructor
      · rintro (w | ⟨w1, w2⟩)
        · exact Or.inl w
        · exact absurd w1 (by decide)
      · rintro (w | ⟨w1, w2⟩)
        · exact Or.inl w
        · exact absurd w1 (by decide)
    · subst qc
      have go : ∀ kp : Bool, (kp = true ↔ ((s ≠ fl_1 (kA k e) ∧ s ≠ fl_2 (kV k) (kA k e) ∧ s ≠ fl_t (kV k) (kA k e)) ∨ (s = fl_t (kV k) (kA k e) ∧ kA k e 2 = 8))) → ∃ n264 : Nat, wY_flow_264 post (wY_flow_203 post (iI e) (iI (kA k e 0)) (iI (kA k e 2)) (iI (fl_1 (kA k e))) (iI (fl_2 (kV k) (kA k e))) (iI (fl_t (kV k) (kA k e))) (bI true) n) (iI e) (iI (kA k e 0)) (iI (kA k e 2)) (iI (fl_1 (kA k e))) (iI (fl_2 (kV k) (kA k e))) (iI (fl_t (kV k) (kA k e))) (bI true) (iI s) (bI kp) n264 (iI (-kh k)) (iI (-kh k)) (iI (kh k - 1)) (iI (kP k)) (iI (kV k)) (iI (kC k)) (iI (kE k)) (iI (kN k)) y.1 y.2.1 y.2.2.1 y.2.2.2.1 y.2.2.2.2.1 (yP k) (xH k) (yB (σ)) (yB (α)) y.2.2.2.2.2 := fun kp hkp => by
        refine ⟨100, y_f264 (W := W) ok kp he ⟨s0, q⟩ hkp (fun α1 hα1 => y_f203 ok true he h n (s + 1) α1 (pw_x hα1 fun s' v' a0 a1 a2 a3 => ?_) (by omega) (by omega) (by omega)) 100 (-kh k) α (pw_x hp fun s' v' a0 a1 a2 a3 => ?_) (by omega) (by omega) (by omega)⟩
        · exact ⟨fun w => w.elim Or.inl (fun w => Or.inr ⟨rfl, w⟩), fun w => w.elim Or.inl (fun w => Or.inr w.2)⟩
        · exact ⟨fun w => w.elim Or.inl (fun w => Or.inr w.2), fun w => w.elim Or.inl (fun w => Or.inr ⟨rfl, w⟩)⟩
      have j238 : (s = fl_1 (kA k e) ∨ s = fl_2 (kV k) (kA k e) ∨ s = fl_t (kV k) (kA k e)) → wY_flow_238 post (wY_flow_203 post (iI e) (iI (kA k e 0)) (iI (kA k e 2)) (iI (fl_1 (kA k e))) (iI (fl_2 (kV k) (kA k e))) (iI (fl_t (kV k) (kA k e))) (bI true) n) (iI e) (iI (kA k e 0)) (iI (kA k e 2)) (iI (fl_1 (kA k e))) (iI (fl_2 (kV k) (kA k e))) (iI (fl_t (kV k) (kA k e))) (bI true) (iI s) (iI (-kh k)) (iI (kh k - 1)) (iI (kP k)) (iI (kV k)) (iI (kC k)) (iI (kE k)) (iI (kN k)) y.1 y.2.1 y.2.2.1 y.2.2.2.1 y.2.2.2.2.1 (yP k) (xH k) (yB (σ)) (yB (α)) y.2.2.2.2.2 := fun hs3 => by
        refine ib_eq s (fl_t (kV k) (kA k e)) (fun q1 => ib_eq (kA k e 2) 8 (fun q2 => go true ⟨fun _ => Or.inr ⟨q1, q2⟩, fun _ => rfl⟩) (fun q2 => go false ⟨fun x => absurd x (by decide), fun x => by omega⟩)) (fun q1 => go false ⟨fun x => absurd x (by decide), fun x => by omega⟩)
      exact ib_eq s (fl_1 (kA k e)) (fun q1 => j238 (Or.inl q1)) (fun q1 => ib_eq s (fl_2 (kV k) (kA k e)) (fun q2 => j238 (Or.inr (Or.inl q2))) (fun q2 => ib_eq s (fl_t (kV k) (kA k e)) (fun q3 => j238 (Or.inr (Or.inr q3))) (fun q3 => go true ⟨fun _ => Or.inl ⟨q1, q2, q3⟩, fun _ => rfl⟩)))
theorem y_f52 {post : SY → Prop} (ok : k_ok k) {e : Int} {α0 : sT} (he : 0 ≤ e ∧ e < kE k) (h : ∀ α, pw_ k α0 α (fl_F (kh k) (kV k) (kC k) (kA k e) (sM k σ (kA k e 0))) → post (YC k y σ α)) : ∀ (n : Nat) (a : Int) (c : Bool) (α : sT), pw_ k α0 α (fw_ k (kA k e) (sM k σ (kA k e 0)) a (-kh k)) → (c = true ↔ fa_ k (kA k e) (sM k σ (kA k e 0)) a (-kh k)) → -kh k ≤ a → a ≤ kh k → (kh k - a).toNat < n → wY_flow_52 post (iI e) (iI (kA k e 0)) (iI (kA k e 2)) (iI (fl_1 (kA k e))) (iI (fl_2 (kV k) (kA k e))) (iI (fl_t (kV k) (kA k e))) n (bI c) (iI a) (iI (-kh k)) (iI (kh k - 1)) (iI (kP k)) (iI (kV k)) (iI (kC k)) (iI (kE k)) (iI (kN k)) y.1 y.2.1 y.2.2.1 y.2.2.2.1 y.2.2.2.2.1 (yP k) (xH k) (yB (σ)) (yB (α)) y.2.2.2.2.2
  | 0, _, _, _, _, _, _, _, hn => by omega
  | n + 1, a, c, α, hp, hc, a0, a1, hn => by
    have hV := ok.2.1
    have hh := k_h ok
    have hc2 : ∀ x, a = x → (c = true ↔ fa_ k (kA k e) (sM k σ (kA k e 0)) x (-kh k)) := fun x ex => ex ▸ hc
    refine ib_lt (kh k - 1) a (fun q => Exists.intro 10 (y_f203 ok c he (W := fw_ k (kA k e) (sM k σ (kA k e 0)) a (-kh k)) (fun α1 hα1 => h α1 (pw_x hα1 fun s v s0 s1 v0 v1 => ?_)) 10 0 α (pw_x hp fun s v s0 s1 v0 v1 => ⟨Or.inl, fun w => w.elim id (fun w => ?_)⟩) (by omega) (by omega) (by omega))) (fun q => Exists.intro 100 (y_f67 ok he ⟨a0, by omega⟩ (fun c1 α1 hp1 hc1 => y_f52 ok he h n (a + 1) c1 α1 hp1 hc1 (by omega) (by omega) (by omega)) 100 (-kh k) c α hp hc (by omega) (by omega) (by omega))) rfl rfl (by omega)
    · have hlt : ∀ {a' b'}, fl_G (kh k) (kV k) (kC k) (kA k e) (sM k σ (kA k e 0)) a' b' → a' < a := fun hG => by
        have := hG.1.2.1
        omega
      constructor
      · rintro (⟨a', b', _, w1, w2⟩ | ⟨w1, w2⟩)
        · exact ⟨a', b', w1, Or.inl w2⟩
        · obtain ⟨a', b', _, w3⟩ := (hc2 a rfl).mp w1
          exact ⟨a', b', w3, Or.inr w2⟩
      · rintro ⟨a', b', w1, w2 | w2⟩
        · exact Or.inl ⟨a', b', Or.inl (hlt w1), w1, w2⟩
        · exact Or.inr ⟨(hc2 a rfl).mpr ⟨a', b', Or.inl (hlt w1), w1⟩, w2⟩
    · have := w.2.1
      omega
theorem y_flow {post : SY → Prop} (ok : k_ok k) {e : Int} {x : Int32} {α0 : sT} (hx : x = iI e) (he : 0 ≤ e ∧ e < kE k) (h : ∀ α, pw_ k α0 α (fl_F (kh k) (kV k) (kC k) (kA k e) (sM k σ (kA k e 0))) → post (YC k y σ α)) : wpY_flow post (YC k y σ α0) x := by
  subst hx
  have hV := ok.2.1
  have hh := k_h ok
  have ho := ok.2.2.1 e he.1 he.2
  have rg : ∀ {a' b'}, fl_G (kh k) (kV k) (kC k) (kA k e) (sM k σ (kA k e 0)) a' b' → -kh k ≤ a' ∧ -kh k ≤ b' := fun hG => ⟨hG.1.2.1.1, hG.2.1.2.1.1⟩
  refine And.intro (yp_in (y70 e) (by omega) (by omega)) (nm_r (yp_g k (y70 e) (by omega) (by omega)) (And.intro (yp_in (y7 e 2 rfl) (by omega) (by omega)) (nm_r (yp_g k (y7 e 2 rfl) (by omega) (by omega)) (y_first ok rfl he (y_second ok rfl he (y_writ ok rfl he (Exists.intro 100 (y_f52 ok he h 100 (-kh k) false α0 (pw_0 α0 fun s v s0 s1 v0 v1 => ?_) ⟨fun q => absurd q (by decide), fun ⟨a', b', q, hG⟩ => ?_⟩ (by omega) (by omega) (by omega)))))))))
  · rintro ⟨a', b', q, hG, _⟩
    have := rg hG
    omega
  · have := rg hG
    omega
end
end
section
/-! ===== Y: isThreshold (and X's), close ===== -/
theorem pw_t {k : kT} (α : sT) {W : Int → Int → Prop} (h : ∀ s v, 0 ≤ s → s ≤ kV k → -kh k ≤ v → v < kh k → W s v → α (s * 32 + v + 16) = true) : pw_ k α α W := fun j => ⟨Or.inl, fun y => y.elim id (fun ⟨s, v, r, ej, w⟩ => by rw [ej]; exact h s v r.1 r.2.1 r.2.2.1 r.2.2.2 w)⟩
def cS (k : kT) (α : sT) (s v : Int) : Prop := (-kh k ≤ v ∧ v < kh k) ∧ α (s * 32 + v + 16) = true
/-- the largest common divisor is the greatest one -/
theorem gl_N {lo hi g : Int} {S : Int → Prop} (h1 : S lo) (h2 : S hi) (hb : ∀ n, S n → lo ≤ n ∧ n ≤ hi) (hl : lo < hi) (h31 : hi - lo ≤ 31) (g1 : 1 ≤ g) (hd : ∀ n, S n → g ∣ n - lo) (hm : ∀ d, g < d → d ≤ 31 → ¬ ∀ n, S n → d ∣ n - lo) : cl_N (lo, hi, g) S := by
  refine ⟨h1, h2, by dsimp only; omega, hb, fun d => ⟨fun q n hn => Int.dvd_trans q (hd n hn), fun q => ?_⟩⟩
  dsimp only at q ⊢
  have L : ∀ n, S n → ((Int.lcm g d : Nat) : Int) ∣ n - lo := fun n hn => Int.coe_lcm_dvd (hd n hn) (q n hn)
  have l1 := Int.le_of_dvd (by omega) (L hi h2)
  have g2 : g ∣ ((Int.lcm g d : Nat) : Int) := Int.dvd_lcm_left g d
  have d2 : d ∣ ((Int.lcm g d : Nat) : Int) := Int.dvd_lcm_right g d
  have l0 : 0 < ((Int.lcm g d : Nat) : Int) := by
    by_cases e : ((Int.lcm g d : Nat) : Int) = 0
    · have := L hi h2
      rw [e, Int.zero_dvd] at this
      omega
    · have : 0 ≤ ((Int.lcm g d : Nat) : Int) := Int.natCast_nonneg _
      omega
  have l2 : g ≤ ((Int.lcm g d : Nat) : Int) := Int.le_of_dvd l0 g2
  by_cases e : g < ((Int.lcm g d : Nat) : Int)
  · exact absurd L (hm _ e (by omega))
  · have e2 : ((Int.lcm g d : Nat) : Int) = g := by omega
    rw [e2] at d2
    exact d2
theorem co_Y {thr : Int → Prop} {w : Prop} {lo hi g fr to : Int} {S : Int → Prop} (h : cl_N (lo, hi, g) S) (hl : lo < hi) (hf : (¬ w ∧ fr = lo ∧ to = hi) ∨ (w ∧ (thr fr ∧ fr ≤ lo ∧ ∀ t, thr t → t ≤ lo → t ≤ fr) ∧ (thr to ∧ hi ≤ to ∧ ∀ t, thr t → hi ≤ t → to ≤ t))) (n : Int) : co_c thr w S n ↔ (fr ≤ n ∧ n ≤ to ∧ g ∣ n - lo) := by
  constructor
  · rintro (hn | ⟨_, ⟨a, ha, ha2⟩, ⟨b, hb, hb2⟩, hd⟩)
    · have h1 := h.2.2.2.1 n hn
      dsimp only at h1
      have h2 : g ∣ n - lo := (h.2.2.2.2 g).mp (Int.dvd_refl g) n hn
      rcases hf with hf | hf
      · exact ⟨by omega, by omega, h2⟩
      · have := hf.2.1.2.1
        have := hf.2.2.2.1
        exact ⟨by omega, by omega, h2⟩
    · have h1 := h.2.2.2.1 a ha
      have h2 := h.2.2.2.1 b hb
      dsimp only at h1 h2
      have h5 : g ∣ n - lo := co_s h hd
      rcases hf with ⟨f1, f2, f3⟩ | ⟨f1, ⟨f2, f3, f4⟩, f5, f6, f7⟩
      · rcases ha2 with h3 | h3
        · rcases hb2 with h4 | h4
          · exact ⟨by omega, by omega, h5⟩
          · exact absurd h4.1 f1
        · exact absurd h3.1 f1
      · have h3 : fr ≤ n := by
          rcases ha2 with h3 | h3
          · omega
          · exact h3.2 fr f2 (by omega)
        have h4 : n ≤ to := by
          rcases hb2 with h4 | h4
          · omega
          · exact h4.2 to f5 (by omega)
        exact ⟨h3, h4, h5⟩
  · rintro ⟨n1, n2, n3⟩
    rcases hf with ⟨f1, f2, f3⟩ | ⟨f1, ⟨f2, f3, f4⟩, f5, f6, f7⟩
    · exact Or.inr ⟨⟨_, _, h.1, h.2.1, hl⟩, ⟨_, h.1, Or.inl (by dsimp only; omega)⟩, ⟨_, h.2.1, Or.inl (by dsimp only; omega)⟩, fun d hd x hx => co_d h n3 d hd x hx⟩
    · refine Or.inr ⟨⟨_, _, h.1, h.2.1, hl⟩, ⟨_, h.1, Or.inr ⟨f1, fun t t1 t2 => ?_⟩⟩, ⟨_, h.2.1, Or.inr ⟨f1, fun t t1 t2 => ?_⟩⟩, fun d hd x hx => co_d h n3 d hd x hx⟩
      · have := f4 t t1 t2
        omega
      · have := f7 t t1 t2
        omega
section
variable {k : kT} {z : zT} {R : rT} {M : mT}
theorem x_th20 {post : Int32 → Prop} (ok : k_ok k) (v : Int32) (hn : ¬ (v.toInt = -kh k ∨ v.toInt = kh k - 1)) (ht : k_t k v.toInt → post 1) (hf : ¬ k_t k v.toInt → post 0) : ∀ (n : Nat) (i : Int), (∀ j, 0 ≤ j → j < i → kH k j ≠ v.toInt) → 0 ≤ i → i ≤ kN k → (kN k - i).toNat < n → wX_isThreshold_20 post v (iI (kB k)) (iI (kP k)) (iI (kV k)) (iI (kC k)) (iI (-kh k)) (iI (kh k - 1)) (iI (kE k)) (iI (kN k)) z.1 40 44 48 49 50 51 z.2.1 z.2.2.1 z.2.2.2.1 z.2.2.2.2.1 (xA k 0) (xA k 1) (xA k 2) (xA k 3) (xA k 4) (xA k 5) (xA k 6) (xH k) (xL (M)) (xU (M)) (xS (M)) R.1 R.2.1 R.2.2.1 R.2.2.2 z.2.2.2.2.2.1 z.2.2.2.2.2.2 n (iI i)
  | 0, _, _, _, _, hn => by omega
  | n + 1, i, h1, i0, i1, hn2 => by
    have hV := ok.2.1
    have hh := k_h ok
    refine ib_le (kN k) i (fun e => hf ?_) (fun e => And.intro (ii_in (by omega) (by omega) (by omega)) (iw_eq (kH k i) v.toInt (fun q => ht (Or.inr (Or.inr ⟨i, i0, e, q⟩))) (fun q => nm_r (ii_add i 1) (x_th20 ok v hn ht hf n (i + 1) (fun j j0 j1 => ?_) (by omega) (by omega) (by omega))) ?_ rfl)) rfl rfl (by omega)
    · rintro (q | q | ⟨j, j0, j1, q⟩)
      · exact hn (Or.inl q)
      · exact hn (Or.inr q)
      · exact h1 j j0 (by omega) q
    · by_cases ej : j = i
      · rw [ej]
        exact q
      · exact h1 j j0 (by omega)
    · have := ok.2.2.2 i i0 e
      rw [xh_g k (by omega), ii_toInt (by omega)]
theorem x_thr {post : Int32 → Prop} (ok : k_ok k) (v : Int32) (ht : k_t k v.toInt → post 1) (hf : ¬ k_t k v.toInt → post 0) : wpX_isThreshold post (XC k z R M) v := by
  have hV := ok.2.1
  have hh := k_h ok
  exact iw_eq v.toInt (-kh k) (fun e => ht (Or.inl e)) (fun e => iw_eq v.toInt (kh k - 1) (fun e2 => ht (Or.inr (Or.inl e2))) (fun e2 => Exists.intro 20 (x_th20 ok v (by omega) ht hf 20 0 (fun j j0 j1 => by omega) (by omega) (by omega) (by omega))) rfl (ii_toInt (by omega))) rfl (ii_toInt (by omega))
end
section
variable {k : kT} {y : yT} {σ α : sT}
theorem y_th20 {post : Int32 → Prop} (ok : k_ok k) (v : Int32) (hn : ¬ (v.toInt = -kh k ∨ v.toInt = kh k - 1)) (ht : k_t k v.toInt → post 1) (hf : ¬ k_t k v.toInt → post 0) : ∀ (n : Nat) (i : Int), (∀ j, 0 ≤ j → j < i → kH k j ≠ v.toInt) → 0 ≤ i → i ≤ kN k → (kN k - i).toNat < n → wY_isThreshold_20 post v (iI (-kh k)) (iI (kh k - 1)) (iI (kP k)) (iI (kV k)) (iI (kC k)) (iI (kE k)) (iI (kN k)) y.1 y.2.1 y.2.2.1 y.2.2.2.1 y.2.2.2.2.1 (yP k) (xH k) (yB (σ)) (yB (α)) y.2.2.2.2.2 n (iI i)
  | 0, _, _, _, _, hn => by omega
  | n + 1, i, h1, i0, i1, hn2 => by
    have hV := ok.2.1
    have hh := k_h ok
    refine ib_le (kN k) i (fun e => hf ?_) (fun e => And.intro (ii_in (by omega) (by omega) (by omega)) (iw_eq (kH k i) v.toInt (fun q => ht (Or.inr (Or.inr ⟨i, i0, e, q⟩))) (fun q => nm_r (ii_add i 1) (y_th20 ok v hn ht hf n (i + 1) (fun j j0 j1 => ?_) (by omega) (by omega) (by omega))) ?_ rfl)) rfl rfl (by omega)
    · rintro (q | q | ⟨j, j0, j1, q⟩)
      · exact hn (Or.inl q)
      · exact hn (Or.inr q)
      · exact h1 j j0 (by omega) q
    · by_cases ej : j = i
      · rw [ej]
        exact q
      · exact h1 j j0 (by omega)
    · have := ok.2.2.2 i i0 e
      rw [xh_g k (by omega), ii_toInt (by omega)]
theorem y_thr {post : Int32 → Prop} (ok : k_ok k) (v : Int32) (ht : k_t k v.toInt → post 1) (hf : ¬ k_t k v.toInt → post 0) : wpY_isThreshold post (YC k y σ α) v := by
  have hV := ok.2.1
  have hh := k_h ok
  exact iw_eq v.toInt (-kh k) (fun e => ht (Or.inl e)) (fun e => iw_eq v.toInt (kh k - 1) (fun e2 => ht (Or.inr (Or.inl e2))) (fun e2 => Exists.intro 20 (y_th20 ok v (by omega) ht hf 20 0 (fun j j0 j1 => by omega) (by omega) (by omega) (by omega))) rfl (ii_toInt (by omega))) rfl (ii_toInt (by omega))
theorem y_thrI {post : Int32 → Prop} (ok : k_ok k) {x : Int} {v : Int32} (hv : v = iI x) (hx : -1000000 ≤ x ∧ x ≤ 1000000) (ht : k_t k x → post 1) (hf : ¬ k_t k x → post 0) : wpY_isThreshold post (YC k y σ α) v := by
  subst hv
  have e := ii_toInt hx
  refine y_thr ok _ (fun q => ht ?_) (fun q => hf ?_)
  · rw [e] at q
    exact q
  · rw [e] at q
    exact q
theorem y_c231 {post : SY → Prop} (ok : k_ok k) {s lo g fr to : Int} {α0 : sT} (hs : 0 ≤ s ∧ s ≤ kV k) (hr : -kh k ≤ fr ∧ to ≤ kh k - 1 ∧ fr ≤ to + 1) (hlo : -kh k ≤ lo ∧ lo < kh k) (hg : 1 ≤ g ∧ g ≤ 31) (h : ∀ α', pw_ k α0 α' (fun s' v' => s' = s ∧ fr ≤ v' ∧ v' ≤ to ∧ g ∣ v' - lo) → post (YC k y σ α')) : ∀ (n : Nat) (v : Int) (α : sT), pw_ k α0 α (fun s' v' => s' = s ∧ (fr ≤ v' ∧ v' < v ∧ v' ≤ to) ∧ g ∣ v' - lo) → fr ≤ v → v ≤ to + 1 → (to + 1 - v).toNat < n → wY_close_231 post (iI (s * 32 + 16)) (iI lo) (iI to) (iI g) (iI (-kh k)) (iI (kh k - 1)) (iI (kP k)) (iI (kV k)) (iI (kC k)) (iI (kE k)) (iI (kN k)) y.1 y.2.1 y.2.2.1 y.2.2.2.1 y.2.2.2.2.1 n (iI v) (yP k) (xH k) (yB (σ)) (yB (α)) y.2.2.2.2.2
  | 0, _, _, _, _, _, hn => by omega
  | n + 1, v, α, hp, v0, v1, hn => by
    have hV := ok.2.1
    have hh := k_h ok
    refine ib_lt to v (fun e => h α (pw_x hp fun s' v' a0 a1 a2 a3 => ?_)) (fun e => And.intro (ib_ne g (by omega)) (ib_dv (v - lo) g (fun d => ?_) (fun d => nm_r (ii_add v 1) (y_c231 ok hs hr hlo hg h n (v + 1) α (pw_x hp fun s' v' a0 a1 a2 a3 => ?_) (by omega) (by omega) (by omega))) (ii_sub v lo) rfl (by omega))) rfl rfl (by omega)
    · exact ⟨fun ⟨w1, w2, w3⟩ => ⟨w1, by omega, by omega, w3⟩, fun ⟨w1, w2, w3, w4⟩ => ⟨w1, by omega, w4⟩⟩
    · have ei : iI (s * 32 + 16) + iI v = iI (s * 32 + v + 16) := by
        rw [ii_add]
        exact congrArg iI (by omega)
      refine And.intro (by rw [ei]; exact ii_in (by omega) (by omega) (by omega)) (nm_r (by rw [ei]; exact yb_u α (by omega)) (nm_r (ii_add v 1) (y_c231 ok hs hr hlo hg h n (v + 1) _ (pw_x (pw_p hp (s := s) (v := v) (by omega)) fun s' v' a0 a1 a2 a3 => ?_) (by omega) (by omega) (by omega))))
      constructor
      · rintro (⟨w1, w2, w3⟩ | ⟨w1, w2⟩)
        · exact ⟨w1, by omega, w3⟩
        · rw [w1, w2]
          exact ⟨rfl, by omega, d⟩
      · rintro ⟨w1, w2, w3⟩
        by_cases ev : v' = v
        · exact Or.inr ⟨w1, ev⟩
        · exact Or.inl ⟨w1, by omega, w3⟩
    · constructor
      · rintro ⟨w1, w2, w3⟩
        exact ⟨w1, by omega, w3⟩
      · rintro ⟨w1, w2, w3⟩
        by_cases ev : v' = v
        · rw [ev] at w3
          exact absurd w3 d
        · exact ⟨w1, by omega, w3⟩
theorem y_c183 {post : SY → Prop} (ok : k_ok k) {J : Int32 → Prop} {s lo hi g : Int} {x6 x7 : Int32} (hs : 0 ≤ s ∧ s ≤ kV k) (hb : -kh k ≤ lo ∧ lo < hi ∧ hi < kh k) (hg : 1 ≤ g ∧ g ≤ 31) (hN : (¬ ∀ u, lo ≤ u → u ≤ hi → cS k α s u → g ∣ u - lo) → J (iI (g - 1))) (hY : (∀ u, lo ≤ u → u ≤ hi → cS k α s u → g ∣ u - lo) → ∃ n231 : Nat, wY_close_231 post (iI (s * 32 + 16)) (iI lo) x7 (iI g) (iI (-kh k)) (iI (kh k - 1)) (iI (kP k)) (iI (kV k)) (iI (kC k)) (iI (kE k)) (iI (kN k)) y.1 y.2.1 y.2.2.1 y.2.2.2.1 y.2.2.2.2.1 n231 x6 (yP k) (xH k) (yB (σ)) (yB (α)) y.2.2.2.2.2) : ∀ (n : Nat) (v : Int) (c : Bool), (c = true ↔ ∀ u, lo ≤ u → u < v → cS k α s u → g ∣ u - lo) → lo ≤ v → v ≤ hi + 1 → (hi + 1 - v).toNat < n → wY_close_183 post J (iI (s * 32 + 16)) (iI lo) (iI hi) x6 x7 (iI g) (iI (-kh k)) (iI (kh k - 1)) (iI (kP k)) (iI (kV k)) (iI (kC k)) (iI (kE k)) (iI (kN k)) y.1 y.2.1 y.2.2.1 y.2.2.2.1 y.2.2.2.2.1 (yP k) (xH k) (yB (σ)) (yB (α)) y.2.2.2.2.2 n (bI c) (iI v)
  | 0, _, _, _, _, _, hn => by omega
  | n + 1, v, c, hc, v0, v1, hn => by
    have hV := ok.2.1
    have hh := k_h ok
    have ei : iI (s * 32 + 16) + iI v = iI (s * 32 + v + 16) := by
      rw [ii_add]
      exact congrArg iI (by omega)
    have eg : yB α (iI (s * 32 + 16) + iI v).toNatClampNeg = bI (α (s * 32 + v + 16)) := by
      rw [ei]
      exact yb_g α (by omega)
    refine ib_lt hi v (fun e => ib_b c (fun ec => nm_r (e' := iI (g - 1)) (by rw [ii_m1, ii_add]; rfl) (hN (fun hall => ?_))) (fun ec => hY (fun u u0 u1 => hc.mp ec u u0 (by omega)))) (fun e => And.intro (by rw [ei]; exact ii_in (by omega) (by omega) (by omega)) (ib_b (α (s * 32 + v + 16)) (fun ea => nm_r (ii_add v 1) (y_c183 ok hs hb hg hN hY n (v + 1) c (hc.trans ?_) (by omega) (by omega) (by omega))) (fun ea => And.intro (ib_ne g (by omega)) (ib_dv (v - lo) g (fun d => nm_r (ii_add v 1) (y_c183 ok hs hb hg hN hY n (v + 1) c (hc.trans ?_) (by omega) (by omega) (by omega))) (fun d => nm_r (ii_add v 1) (y_c183 ok hs hb hg hN hY n (v + 1) false ⟨fun q => absurd q (by decide), fun q => ?_⟩ (by omega) (by omega) (by omega))) (ii_sub v lo) rfl (by omega))) eg)) rfl rfl (by omega)
    · have := hc.mpr (fun u u0 u1 => hall u u0 (by omega))
      rw [ec] at this
      exact absurd this (by decide)
    · constructor
      · intro q u u0 u1 hu
        by_cases eu : u = v
        · rw [eu] at hu
          have := hu.2
          rw [ea] at this
          exact absurd this (by decide)
        · exact q u u0 (by omega) hu
      · intro q u u0 u1 hu
        exact q u u0 (by omega) hu
    · constructor
      · intro q u u0 u1 hu
        by_cases eu : u = v
        · rw [eu]
          exact d
        · exact q u u0 (by omega) hu
      · intro q u u0 u1 hu
        exact q u u0 (by omega) hu
    · exact absurd (q v v0 (by omega) ⟨by omega, ea⟩) d
theorem y_c170 {post : SY → Prop} (ok : k_ok k) {s lo hi fr to : Int} (hs : 0 ≤ s ∧ s ≤ kV k) (hb : -kh k ≤ lo ∧ lo < hi ∧ hi < kh k) (hr : -kh k ≤ fr ∧ to ≤ kh k - 1 ∧ fr ≤ lo ∧ hi ≤ to) (hl : cS k α s lo) (hh1 : cS k α s hi) (hall : ∀ u, cS k α s u → lo ≤ u ∧ u ≤ hi) (h : ∀ g, cl_N (lo, hi, g) (cS k α s) → ∀ α', pw_ k α α' (fun s' v' => s' = s ∧ fr ≤ v' ∧ v' ≤ to ∧ g ∣ v' - lo) → post (YC k y σ α')) : ∀ (n : Nat) (g : Int), (∀ d, g < d → d ≤ 31 → ¬ ∀ u, cS k α s u → d ∣ u - lo) → 1 ≤ g → g ≤ 31 → g < n → wY_close_170 post (iI (s * 32 + 16)) (iI lo) (iI hi) (iI fr) (iI to) (iI (-kh k)) (iI (kh k - 1)) (iI (kP k)) (iI (kV k)) (iI (kC k)) (iI (kE k)) (iI (kN k)) y.1 y.2.1 y.2.2.1 y.2.2.2.1 y.2.2.2.2.1 (yP k) (xH k) (yB (σ)) (yB (α)) y.2.2.2.2.2 n (iI g)
  | 0, _, _, _, _, hn => by omega
  | n + 1, g, h1, g0, g1, hn => by
    have hV := ok.2.1
    have hh := k_h ok
    refine ib_lt g 1 (fun e => by omega) (fun _ => Exists.intro 100 (y_c183 ok hs hb ⟨g0, g1⟩ (fun hno => ?_) (fun hyes => ?_) 100 lo true ⟨fun _ u u0 u1 => by omega, fun _ => rfl⟩ (by omega) (by omega) (by omega))) rfl rfl (by omega)
    · have hno2 : ¬ ∀ u, cS k α s u → g ∣ u - lo := fun q => hno (fun u _ _ hu => q u hu)
      have g2 : 1 ≤ g - 1 := by
        by_cases e : g = 1
        · exfalso
          exact hno2 (fun u _ => by rw [e]; exact Int.one_dvd _)
        · omega
      exact y_c170 ok hs hb hr hl hh1 hall h n (g - 1) (fun d d0 d1 => by
        by_cases e : d = g
        · rw [e]
          exact hno2
        · exact h1 d (by omega) d1) g2 (by omega) (by omega)
    · have hN := gl_N hl hh1 hall hb.2.1 (by omega) g0 (fun u hu => hyes u (hall u hu).1 (hall u hu).2 hu) h1
      exact ⟨100, y_c231 ok hs (by omega) (by omega) ⟨g0, g1⟩ (h g hN) 100 fr α (pw_0 α fun s' v' a0 a1 a2 a3 w => by omega) (Int.le_refl _) (by omega) (by omega)⟩
theorem y_c135 {post : SY → Prop} (ok : k_ok k) {s lo hi fr : Int} (wd : Bool) (hs : 0 ≤ s ∧ s ≤ kV k) (hb : -kh k ≤ lo ∧ lo < hi ∧ hi < kh k) (K : ∀ to, (wd = false ∧ to = hi) ∨ (wd = true ∧ k_t k to ∧ hi ≤ to ∧ ∀ t, k_t k t → hi ≤ t → to ≤ t) → ∃ n170 : Nat, wY_close_170 post (iI (s * 32 + 16)) (iI lo) (iI hi) (iI fr) (iI to) (iI (-kh k)) (iI (kh k - 1)) (iI (kP k)) (iI (kV k)) (iI (kC k)) (iI (kE k)) (iI (kN k)) y.1 y.2.1 y.2.2.1 y.2.2.2.1 y.2.2.2.2.1 (yP k) (xH k) (yB (σ)) (yB (α)) y.2.2.2.2.2 n170 31) : ∀ (n : Nat) (to v : Int), ((v = kh k - 1 ∧ to = hi) ∨ (wd = true ∧ v < kh k - 1 ∧ k_t k to ∧ v < to ∧ ∀ t, k_t k t → v < t → to ≤ t)) → hi - 1 ≤ v → v ≤ kh k - 1 → (v + 1 - hi).toNat < n → wY_close_135 post (bI wd) (iI (s * 32 + 16)) (iI lo) (iI hi) (iI fr) (iI (-kh k)) (iI (kh k - 1)) (iI (kP k)) (iI (kV k)) (iI (kC k)) (iI (kE k)) (iI (kN k)) y.1 y.2.1 y.2.2.1 y.2.2.2.1 y.2.2.2.2.1 (yP k) (xH k) (yB (σ)) (yB (α)) y.2.2.2.2.2 n (iI to) (iI v)
  | 0, _, _, _, _, _, hn => by omega
  | n + 1, to, v, h1, v0, v1, hn => by
    have hV := ok.2.1
    have hh := k_h ok
    refine ib_lt v hi (fun e => K to ?_) (fun e => ib_b wd (fun ew => K to (Or.inl ⟨ew, ?_⟩)) (fun ew => y_thrI ok rfl (by omega) (fun ht => br_t rfl (nm_r (e' := iI (v - 1)) (by rw [ii_m1, ii_add]; rfl) (y_c135 ok wd hs hb K n v (v - 1) (Or.inr ⟨ew, by omega, ht, by omega, fun t _ t2 => by omega⟩) (by omega) (by omega) (by omega)))) (fun ht => br_f (by decide) (nm_r (e' := iI (v - 1)) (by rw [ii_m1, ii_add]; rfl) (y_c135 ok wd hs hb K n to (v - 1) ?_ (by omega) (by omega) (by omega)))))) rfl rfl (by omega)
    · rcases h1 with h1 | h1
      · omega
      · exact Or.inr ⟨h1.1, h1.2.2.1, by omega, fun t t1 t2 => h1.2.2.2.2 t t1 (by omega)⟩
    · rcases h1 with h1 | h1
      · exact h1.2
      · rw [h1.1] at ew
        exact absurd ew (by decide)
    · rcases h1 with h1 | h1
      · exfalso
        exact ht (Or.inr (Or.inl h1.1))
      · refine Or.inr ⟨ew, by omega, h1.2.2.1, by omega, fun t t1 t2 => ?_⟩
        by_cases et : t = v
        · rw [et] at t1
          exact absurd t1 ht
        · exact h1.2.2.2.2 t t1 (by omega)
theorem y_c98 {post : SY → Prop} (ok : k_ok k) {s lo hi : Int} (wd : Bool) (hs : 0 ≤ s ∧ s ≤ kV k) (hb : -kh k ≤ lo ∧ lo < hi ∧ hi < kh k) (K : ∀ fr, (wd = false ∧ fr = lo) ∨ (wd = true ∧ k_t k fr ∧ fr ≤ lo ∧ ∀ t, k_t k t → t ≤ lo → t ≤ fr) → ∃ n135 : Nat, wY_close_135 post (bI wd) (iI (s * 32 + 16)) (iI lo) (iI hi) (iI fr) (iI (-kh k)) (iI (kh k - 1)) (iI (kP k)) (iI (kV k)) (iI (kC k)) (iI (kE k)) (iI (kN k)) y.1 y.2.1 y.2.2.1 y.2.2.2.1 y.2.2.2.2.1 (yP k) (xH k) (yB (σ)) (yB (α)) y.2.2.2.2.2 n135 (iI hi) (iI (kh k - 1))) : ∀ (n : Nat) (fr v : Int), ((v = -kh k ∧ fr = lo) ∨ (wd = true ∧ -kh k < v ∧ k_t k fr ∧ fr < v ∧ ∀ t, k_t k t → t < v → t ≤ fr)) → -kh k ≤ v → v ≤ lo + 1 → (lo + 1 - v).toNat < n → wY_close_98 post (bI wd) (iI (s * 32 + 16)) (iI lo) (iI hi) (iI hi) (iI (-kh k)) (iI (kh k - 1)) (iI (kP k)) (iI (kV k)) (iI (kC k)) (iI (kE k)) (iI (kN k)) y.1 y.2.1 y.2.2.1 y.2.2.2.1 y.2.2.2.2.1 (yP k) (xH k) (yB (σ)) (yB (α)) y.2.2.2.2.2 n (iI fr) (iI v)
  | 0, _, _, _, _, _, hn => by omega
  | n + 1, fr, v, h1, v0, v1, hn => by
    have hV := ok.2.1
    have hh := k_h ok
    refine ib_lt lo v (fun e => K fr ?_) (fun e => ib_b wd (fun ew => K fr (Or.inl ⟨ew, ?_⟩)) (fun ew => y_thrI ok rfl (by omega) (fun ht => br_t rfl (nm_r (ii_add v 1) (y_c98 ok wd hs hb K n v (v + 1) (Or.inr ⟨ew, by omega, ht, by omega, fun t _ t2 => by omega⟩) (by omega) (by omega) (by omega)))) (fun ht => br_f (by decide) (nm_r (ii_add v 1) (y_c98 ok wd hs hb K n fr (v + 1) ?_ (by omega) (by omega) (by omega)))))) rfl rfl (by omega)
    · rcases h1 with h1 | h1
      · omega
      · exact Or.inr ⟨h1.1, h1.2.2.1, by omega, fun t t1 t2 => h1.2.2.2.2 t t1 (by omega)⟩
    · rcases h1 with h1 | h1
      · exact h1.2
      · rw [h1.1] at ew
        exact absurd ew (by decide)
    · rcases h1 with h1 | h1
      · exfalso
        exact ht (Or.inl h1.1)
      · refine Or.inr ⟨ew, by omega, h1.2.2.1, by omega, fun t t1 t2 => ?_⟩
        by_cases et : t = v
        · rw [et] at t1
          exact absurd t1 ht
        · exact h1.2.2.2.2 t t1 (by omega)
/-- what the scan for low and high has seen -/
def lh_ (S : Int → Prop) (lo hi v : Int) : Prop := (lo = 16 ∧ hi = -17 ∧ ∀ u, u < v → ¬ S u) ∨ (lo ≤ hi ∧ -16 ≤ lo ∧ hi < 16 ∧ S lo ∧ S hi ∧ hi < v ∧ ∀ u, u < v → S u → lo ≤ u ∧ u ≤ hi)
theorem y_c22 {post : SY → Prop} (ok : k_ok k) {s : Int} (wd : Bool) (hs : 0 ≤ s ∧ s ≤ kV k) (h : ∀ α', pw_ k α α' (fun s' v' => s' = s ∧ co_c (k_t k) (wd = true) (cS k α s) v') → post (YC k y σ α')) : ∀ (n : Nat) (lo hi v : Int), lh_ (cS k α s) lo hi v → -kh k ≤ v → v ≤ kh k → (kh k - v).toNat < n → wY_close_22 post (bI wd) (iI (s * 32 + 16)) (iI (-kh k)) (iI (kh k - 1)) (iI (kP k)) (iI (kV k)) (iI (kC k)) (iI (kE k)) (iI (kN k)) y.1 y.2.1 y.2.2.1 y.2.2.2.1 y.2.2.2.2.1 (yP k) (xH k) (yB (σ)) (yB (α)) y.2.2.2.2.2 n (iI lo) (iI hi) (iI v)
  | 0, _, _, _, _, _, _, hn => by omega
  | n + 1, lo, hi, v, h1, v0, v1, hn => by
    have hV := ok.2.1
    have hh := k_h ok
    have ei : iI (s * 32 + 16) + iI v = iI (s * 32 + v + 16) := by
      rw [ii_add]
      exact congrArg iI (by omega)
    have eg : v < kh k → yB α (iI (s * 32 + 16) + iI v).toNatClampNeg = bI (α (s * 32 + v + 16)) := fun hv => by
      rw [ei]
      exact yb_g α (by omega)
    have lhb : -17 ≤ lo ∧ lo ≤ 16 ∧ -17 ≤ hi ∧ hi ≤ 16 := by
      rcases h1 with h1 | h1
      · omega
      · omega
    refine ib_lt (kh k - 1) v (fun e => ib_lt lo hi (fun e1 => ?_) (fun e1 => h α (pw_t α fun s' v' a0 a1 a2 a3 w => ?_)) rfl rfl (by omega)) (fun e => ?_) rfl rfl (by omega)
    · rcases h1 with h1 | ⟨l1, l2, l3, l4, l5, l6, l7⟩
      · omega
      have hall : ∀ u, cS k α s u → lo ≤ u ∧ u ≤ hi := fun u hu => l7 u (by have := hu.1; omega) hu
      have b1 := l4.1
      have b2 := l5.1
      refine Exists.intro 100 (y_c98 ok wd hs ⟨b1.1, e1, b2.2⟩ (fun fr hfr => Exists.intro 100 (y_c135 ok wd hs ⟨b1.1, e1, b2.2⟩ (fun to hto => Exists.intro 100 (y_c170 ok hs ⟨b1.1, e1, b2.2⟩ ?_ l4 l5 hall (fun g hN α' hα' => h α' (pw_x hα' fun s' v' a0 a1 a2 a3 => ?_)) 100 31 (fun d d0 d1 => by omega) (by omega) (by omega) (by omega))) 100 hi (kh k - 1) (Or.inl ⟨rfl, rfl⟩) (by omega) (by omega) (by omega))) 100 lo (-kh k) (Or.inl ⟨rfl, rfl⟩) (by omega) (by omega) (by omega))
      · have f1 : -kh k ≤ fr ∧ fr ≤ lo := by
          rcases hfr with q | q
          · omega
          · have := k_tr ok q.2.1
            omega
        have f2 : to ≤ kh k - 1 ∧ hi ≤ to := by
          rcases hto with q | q
          · omega
          · have := k_tr ok q.2.1
            omega
        omega
      · have Y := co_Y (thr := k_t k) (w := wd = true) hN e1 (fr := fr) (to := to) (by
          rcases hfr with ⟨q1, q2⟩ | ⟨q1, q2⟩
          · rcases hto with ⟨r1, r2⟩ | ⟨r1, r2⟩
            · exact Or.inl ⟨by rw [q1]; decide, q2, r2⟩
            · rw [q1] at r1
              exact absurd r1 (by decide)
          · rcases hto with ⟨r1, r2⟩ | ⟨r1, r2⟩
            · rw [q1] at r1
              exact absurd r1 (by decide)
            · exact Or.inr ⟨q1, q2, r2⟩) v'
        rw [Y]
    · obtain ⟨w1, w2⟩ := w
      subst w1
      have one : ∀ u w, cS k α s' u → cS k α s' w → u = w := fun u w hu hw => by
        rcases h1 with ⟨_, _, q⟩ | ⟨l1, l2, l3, l4, l5, l6, l7⟩
        · exact absurd hu (q u (by have := hu.1; omega))
        · have q1 := l7 u (by have := hu.1; omega) hu
          have q2 := l7 w (by have := hw.1; omega) hw
          omega
      rcases w2 with w2 | ⟨⟨x, z, hx, hz, hxz⟩, _⟩
      · exact w2.2
      · have := one x z hx hz
        omega
    · have eg1 := eg (by omega)
      have hin : vp_in (iI (s * 32 + 16) + iI v) 128 := by rw [ei]; exact ii_in (by omega) (by omega) (by omega)
      have hit : α (s * 32 + v + 16) = true → cS k α s v := fun ea => ⟨by omega, ea⟩
      have hno : α (s * 32 + v + 16) = false → ¬ cS k α s v := fun ea hu => by
        have := hu.2
        rw [ea] at this
        exact absurd this (by decide)
      have j54 : ∀ lo' : Int, -17 ≤ lo' ∧ lo' ≤ 16 → (α (s * 32 + v + 16) = false → lh_ (cS k α s) lo' hi (v + 1)) → (α (s * 32 + v + 16) = true → lh_ (cS k α s) lo' v (v + 1)) → wY_close_54 post (wY_close_22 post (bI wd) (iI (s * 32 + 16)) (iI (-kh k)) (iI (kh k - 1)) (iI (kP k)) (iI (kV k)) (iI (kC k)) (iI (kE k)) (iI (kN k)) y.1 y.2.1 y.2.2.1 y.2.2.2.1 y.2.2.2.2.1 (yP k) (xH k) (yB (σ)) (yB (α)) y.2.2.2.2.2 n) (bI wd) (iI (s * 32 + 16)) (iI lo') (iI hi) (iI v) (iI (-kh k)) (iI (kh k - 1)) (iI (kP k)) (iI (kV k)) (iI (kC k)) (iI (kE k)) (iI (kN k)) y.1 y.2.1 y.2.2.1 y.2.2.2.1 y.2.2.2.2.1 (yP k) (xH k) (yB (σ)) (yB (α)) y.2.2.2.2.2 := fun lo' hlo' hf ht => And.intro hin (ib_b (α (s * 32 + v + 16)) (fun ea => nm_r (ii_add v 1) (y_c22 ok wd hs h n lo' hi (v + 1) (hf ea) (by omega) (by omega) (by omega))) (fun ea => nm_r (ii_add v 1) (y_c22 ok wd hs h n lo' v (v + 1) (ht ea) (by omega) (by omega) (by omega))) eg1)
      refine And.intro hin (ib_b (α (s * 32 + v + 16)) (fun ea => j54 lo (by omega) (fun _ => ?_) (fun ea2 => ?_)) (fun ea => ib_eq lo 16 (fun q => j54 v (by omega) (fun ea2 => ?_) (fun _ => ?_)) (fun q => j54 lo (by omega) (fun ea2 => ?_) (fun _ => ?_)) rfl rfl (by omega)) eg1)
      · rcases h1 with ⟨l1, l2, l3⟩ | ⟨l1, l2, l3, l4, l5, l6, l7⟩
        · refine Or.inl ⟨l1, l2, fun u hu => ?_⟩
          by_cases eu : u = v
          · rw [eu]
            exact hno ea
          · exact l3 u (by omega)
        · refine Or.inr ⟨l1, l2, l3, l4, l5, by omega, fun u hu hS => ?_⟩
          by_cases eu : u = v
          · rw [eu] at hS
            exact absurd hS (hno ea)
          · exact l7 u (by omega) hS
      · rw [ea] at ea2
        exact absurd ea2 (by decide)
      · rw [ea] at ea2
        exact absurd ea2 (by decide)
      · rcases h1 with ⟨l1, l2, l3⟩ | ⟨l1, l2, l3, l4, l5, l6, l7⟩
        · refine Or.inr ⟨Int.le_refl _, by omega, by omega, hit ea, hit ea, by omega, fun u hu hS => ?_⟩
          by_cases eu : u = v
          · omega
          · exact absurd hS (l3 u (by omega))
        · omega
      · rw [ea] at ea2
        exact absurd ea2 (by decide)
      · rcases h1 with ⟨l1, l2, l3⟩ | ⟨l1, l2, l3, l4, l5, l6, l7⟩
        · omega
        · refine Or.inr ⟨by omega, l2, by omega, l4, hit ea, by omega, fun u hu hS => ?_⟩
          by_cases eu : u = v
          · omega
          · have := l7 u (by omega) hS
            omega
theorem y_close {post : SY → Prop} (ok : k_ok k) {s : Int} (wd : Bool) {x0 x1 : Int32} (h0 : x0 = iI s) (h1 : x1 = bI wd) (hs : 0 ≤ s ∧ s ≤ kV k) (h : ∀ α', pw_ k α α' (fun s' v' => s' = s ∧ co_c (k_t k) (wd = true) (cS k α s) v') → post (YC k y σ α')) : wpY_close post (YC k y σ α) x0 x1 := by
  subst h0 h1
  have hV := ok.2.1
  have hh := k_h ok
  exact nm_r (e' := iI (s * 32 + 16)) (by rw [ii_32, ii_mul, ii_16, ii_add]) (Exists.intro 100 (y_c22 ok wd hs h 100 16 (-17) (-kh k) (Or.inl ⟨rfl, rfl, fun u hu hS => by have := hS.1; omega⟩) (by omega) (by omega) (by omega)))
end
end
section
/-! ===== Y: update ===== -/
def bw_ (σ : sT) (i : Int) (b : Bool) : sT := fun j => if j = i then b else σ j
theorem bw_s (σ : sT) (i : Int) (b : Bool) : bw_ σ i b i = b := if_pos rfl
theorem bw_n (σ : sT) {i j : Int} (b : Bool) (h : j ≠ i) : bw_ σ i b j = σ j := if_neg h
theorem yb_w (σ : sT) {i : Int} (b : Bool) {x : Int32} (hx : x = bI b) (h : 0 ≤ i ∧ i ≤ 10000) : upd (yB σ) (iI i).toNatClampNeg (vp_nar .boolean x) = yB (bw_ σ i b) := by
  subst hx
  rw [ib_vn]
  funext j
  unfold upd yB bw_
  rw [ii_clamp (by omega)]
  by_cases e : (j : Int) = i
  · rw [if_pos (by omega), if_pos e]
  · rw [if_neg (by omega), if_neg e]
theorem pw_c {k : kT} {α α' α'' : sT} {W W' : Int → Int → Prop} (h : pw_ k α α' W) (h' : pw_ k α' α'' W') : pw_ k α α'' (fun s v => W s v ∨ W' s v) := fun j => by
  rw [h' j, h j]
  constructor
  · rintro ((y | ⟨s, v, r, ej, w⟩) | ⟨s, v, r, ej, w⟩)
    · exact Or.inl y
    · exact Or.inr ⟨s, v, r, ej, Or.inl w⟩
    · exact Or.inr ⟨s, v, r, ej, Or.inr w⟩
  · rintro (y | ⟨s, v, r, ej, w | w⟩)
    · exact Or.inl (Or.inl y)
    · exact Or.inl (Or.inr ⟨s, v, r, ej, w⟩)
    · exact Or.inr ⟨s, v, r, ej, w⟩
/-- over an empty accumulator: what a cell holds -/
theorem pw_v {k : kT} {α α' : sT} {W : Int → Int → Prop} (ok : k_ok k) (h : pw_ k α α' W) (h0 : ∀ j, 0 ≤ j → j < 128 → α j = false) {s v : Int} (r : 0 ≤ s ∧ s ≤ kV k ∧ -kh k ≤ v ∧ v < kh k) : α' (s * 32 + v + 16) = true ↔ W s v := by
  have hV := ok.2.1
  have hh := k_h ok
  rw [h, h0 _ (by omega) (by omega)]
  constructor
  · rintro (y | ⟨s', v', r', ej, w⟩)
    · exact absurd y (by decide)
    · have e1 : s' = s := by omega
      have e2 : v' = v := by omega
      rw [e1, e2] at w
      exact w
  · intro w
    exact Or.inr ⟨s, v, r, rfl, w⟩
/-- Y's sets: all set cells are in range -/
def y_ok (k : kT) (σ : sT) : Prop := (∀ p i, 0 ≤ p → p < kP k → 0 ≤ i → i < 128 → σ (p * 128 + i) = true → ∃ s v, (0 ≤ s ∧ s ≤ kV k ∧ -kh k ≤ v ∧ v < kh k) ∧ i = s * 32 + v + 16) ∧ k_g k (sM k σ)
/-- hides an 'exists' from omega -/
def hx_ (b : Bool) (Q : Prop) : Prop := b = true ↔ Q
theorem hx_l {b : Bool} {Q : Prop} (h : hx_ b Q) (e : b = true) : Q := h.mp e
theorem hx_r {b : Bool} {Q : Prop} (h : hx_ b Q) (q : Q) : b = true := h.mpr q
section
variable {k : kT} {y : yT} {σ : sT}
theorem y_u155 {post : Int32 → SY → Prop} (ok : k_ok k) {p : Int} {α : sT} (hp : 0 ≤ p ∧ p < kP k) (h : ∀ (σ' : sT) (b : Bool), (∀ i, 0 ≤ i → i < 128 → σ' (p * 128 + i) = α i) → (∀ j, (j < p * 128 ∨ p * 128 + 128 ≤ j) → σ' j = σ j) → (b = true ↔ ∃ i, 0 ≤ i ∧ i < 128 ∧ σ (p * 128 + i) ≠ α i) → post (bI b) (YC k y σ' α)) : ∀ (n : Nat) (i : Int) (b : Bool) (σ' : sT), (∀ j, 0 ≤ j → j < i → σ' (p * 128 + j) = α j) → (∀ j, (j < p * 128 ∨ p * 128 + i ≤ j) → σ' j = σ j) → (b = true ↔ ∃ j, 0 ≤ j ∧ j < i ∧ σ (p * 128 + j) ≠ α j) → 0 ≤ i → i ≤ 128 → (128 - i).toNat < n → wY_update_155 post (iI p) (iI (-kh k)) (iI (kh k - 1)) (iI (kP k)) (iI (kV k)) (iI (kC k)) (iI (kE k)) (iI (kN k)) y.1 y.2.1 y.2.2.1 y.2.2.2.1 y.2.2.2.2.1 n (bI b) (iI i) (yP k) (xH k) (yB (σ')) (yB (α)) y.2.2.2.2.2
  | 0, _, _, _, _, _, _, _, _, hn => by omega
  | n + 1, i, b, σ', h1, h2, hb, i0, i1, hn => by
    have hV := ok.2.1
    have hb2 : ∀ x, i = x → (b = true ↔ ∃ j, 0 ≤ j ∧ j < x ∧ σ (p * 128 + j) ≠ α j) := fun x e => e ▸ hb
    clear hb
    refine ib_le 128 i (fun e => And.intro (ib_nar b) (h σ' b (fun j j0 j1 => h1 j j0 (by omega)) (fun j hj => h2 j (by omega)) (hb2 128 (by omega)))) (fun e => ?_) rfl rfl (by omega)
    have ei : iI p * 128 + iI i = iI (p * 128 + i) := by rw [ii_128, ii_mul, ii_add]
    have hin1 : vp_in (iI p * 128 + iI i) 1280 := by rw [ei]; exact ii_in (by omega) (by omega) (by omega)
    have hin2 : vp_in (iI i) 128 := ii_in (by omega) (by omega) (by omega)
    have es : yB σ' (iI p * 128 + iI i).toNatClampNeg = bI (σ (p * 128 + i)) := by
      rw [ei, yb_g σ' (by omega), h2 _ (by omega)]
    have ea : yB α (iI i).toNatClampNeg = bI (α i) := yb_g α (by omega)
    have nxt : ∀ b' : Bool, hx_ b' (∃ j, 0 ≤ j ∧ j < i + 1 ∧ σ (p * 128 + j) ≠ α j) → wY_update_189 post (wY_update_155 post (iI p) (iI (-kh k)) (iI (kh k - 1)) (iI (kP k)) (iI (kV k)) (iI (kC k)) (iI (kE k)) (iI (kN k)) y.1 y.2.1 y.2.2.1 y.2.2.2.1 y.2.2.2.2.1 n) (iI p) (bI b') (iI i) (iI (-kh k)) (iI (kh k - 1)) (iI (kP k)) (iI (kV k)) (iI (kC k)) (iI (kE k)) (iI (kN k)) y.1 y.2.1 y.2.2.1 y.2.2.2.1 y.2.2.2.2.1 (yP k) (xH k) (yB (σ')) (yB (α)) y.2.2.2.2.2 := fun b' hb' => by
      refine And.intro hin2 (And.intro hin1 (nm_r (by rw [ei]; exact yb_w σ' (α i) ea (by omega)) (nm_r (ii_add i 1) (y_u155 ok hp h n (i + 1) b' (bw_ σ' (p * 128 + i) (α i)) (fun j j0 j1 => ?_) (fun j hj => ?_) hb' (by omega) (by omega) (by omega)))))
      · by_cases ej : j = i
        · rw [ej, bw_s]
        · rw [bw_n _ _ (by omega)]
          exact h1 j j0 (by omega)
      · rw [bw_n _ _ (by omega)]
        exact h2 j (by omega)
    refine And.intro hin1 (And.intro hin2 (And.intro (fun q => nxt b ?_) (fun q => nxt true ⟨fun _ => ⟨i, i0, by omega, ?_⟩, fun _ => rfl⟩)))
    · have eq : σ (p * 128 + i) = α i := by
        have q2 : bI (σ (p * 128 + i)) = bI (α i) := es.symm.trans (Eq.trans q ea)
        cases h3 : σ (p * 128 + i) <;> cases h4 : α i
        · rfl
        · rw [h3, h4] at q2
          exact absurd q2 (by decide)
        · rw [h3, h4] at q2
          exact absurd q2 (by decide)
        · rfl
      unfold hx_
      rw [hb2 i rfl]
      constructor
      · rintro ⟨j, j0, j1, hj⟩
        exact ⟨j, j0, by omega, hj⟩
      · rintro ⟨j, j0, j1, hj⟩
        by_cases ej : j = i
        · rw [ej] at hj
          exact absurd eq hj
        · exact ⟨j, j0, by omega, hj⟩
    · intro eq
      apply q
      show yB σ' (iI p * 128 + iI i).toNatClampNeg = yB α (iI i).toNatClampNeg
      rw [es, ea, eq]
theorem y_u118 {post : Int32 → SY → Prop} (ok : k_ok k) {p : Int} (wb hd : Bool) {A : aT} {α0 : sT} (hA : sM k σ = A) (hp : 0 ≤ p ∧ p < kP k) (hg : k_g k A) (h0 : ∀ j, 0 ≤ j → j < 128 → α0 j = false) (hhd : hd = true ↔ k_hd k p) (K : ∀ α, pw_ k α0 α (fun s v => k_F k (wb = true) A p s v) → ∃ n155 : Nat, wY_update_155 post (iI p) (iI (-kh k)) (iI (kh k - 1)) (iI (kP k)) (iI (kV k)) (iI (kC k)) (iI (kE k)) (iI (kN k)) y.1 y.2.1 y.2.2.1 y.2.2.2.1 y.2.2.2.2.1 n155 0 0 (yP k) (xH k) (yB (σ)) (yB (α)) y.2.2.2.2.2) : ∀ (n : Nat) (s : Int) (α : sT), pw_ k α0 α (fun s' v' => (s' < s ∧ k_F k (wb = true) A p s' v') ∨ (s ≤ s' ∧ k_in k A p s' v')) → 0 ≤ s → s ≤ kV k + 1 → (kV k + 1 - s).toNat < n → wY_update_118 post (iI p) (bI wb) (bI hd) 0 n (iI s) (iI (-kh k)) (iI (kh k - 1)) (iI (kP k)) (iI (kV k)) (iI (kC k)) (iI (kE k)) (iI (kN k)) y.1 y.2.1 y.2.2.1 y.2.2.2.1 y.2.2.2.2.1 (yP k) (xH k) (yB (σ)) (yB (α)) y.2.2.2.2.2
  | 0, _, _, _, _, _, hn => by omega
  | n + 1, s, α, hw, s0, s1, hn => by
    have hV := ok.2.1
    have hh := k_h ok
    refine ib_lt (kV k) s (fun e => K α (pw_x hw fun s' v' a0 a1 a2 a3 => ?_)) (fun e => ?_) rfl rfl (by omega)
    · exact ⟨fun w => w.elim (fun w => w.2) (fun w => by omega), fun w => Or.inl ⟨by omega, w⟩⟩
    · have eS : cS k α s = k_in k A p s := by
        funext v
        apply propext
        constructor
        · rintro ⟨r, ha⟩
          rcases (pw_v ok hw h0 ⟨s0, e, r.1, r.2⟩).mp ha with w | w
          · omega
          · exact w.2
        · intro hv
          have r := k_inr ok hg hv
          refine ⟨by omega, (pw_v ok hw h0 ⟨s0, e, by omega, by omega⟩).mpr (Or.inr ⟨Int.le_refl _, hv⟩)⟩
      have go : ∀ (cb : Bool) (x0 : Int32), x0 = bI cb → (cb = true ↔ (wb = true ∧ k_hd k p)) → wY_update_143 post (wY_update_118 post (iI p) (bI wb) (bI hd) 0 n) (iI p) (bI wb) (bI hd) 0 (iI s) x0 (iI s) (iI (-kh k)) (iI (kh k - 1)) (iI (kP k)) (iI (kV k)) (iI (kC k)) (iI (kE k)) (iI (kN k)) y.1 y.2.1 y.2.2.1 y.2.2.2.1 y.2.2.2.2.1 (yP k) (xH k) (yB (σ)) (yB (α)) y.2.2.2.2.2 := fun cb x0 hx0 hcb => by
        have ecb : (cb = true) = (wb = true ∧ k_hd k p) := propext hcb
        refine y_close ok cb rfl hx0 ⟨s0, e⟩ (fun α' hα' => nm_r (ii_add s 1) (y_u118 ok wb hd hA hp hg h0 hhd K n (s + 1) α' (pw_x (pw_c hw hα') fun s' v' a0 a1 a2 a3 => ?_) (by omega) (by omega) (by omega)))
        rw [eS, ecb]
        constructor
        · rintro ((w | w) | w)
          · exact Or.inl ⟨by omega, w.2⟩
          · by_cases es : s' = s
            · subst es
              exact Or.inl ⟨by omega, ⟨hp.1, hp.2, a0, a1⟩, Or.inl w.2⟩
            · exact Or.inr ⟨by omega, w.2⟩
          · have w1 := w.1
            subst w1
            exact Or.inl ⟨by omega, ⟨hp.1, hp.2, a0, a1⟩, w.2⟩
        · rintro (w | w)
          · by_cases es : s' = s
            · subst es
              exact Or.inr ⟨rfl, w.2.2⟩
            · exact Or.inl (Or.inl ⟨by omega, w.2⟩)
          · exact Or.inl (Or.inr ⟨by omega, w.2⟩)
      refine ib_b wb (fun q => go false 0 rfl ⟨fun x => absurd x (by decide), fun x => ?_⟩) (fun q => ib_b hd (fun q2 => go false 0 rfl ⟨fun x => absurd x (by decide), fun x => ?_⟩) (fun q2 => go true 1 rfl ⟨fun _ => ⟨q, hhd.mp q2⟩, fun _ => rfl⟩))
      · rw [q] at x
        exact absurd x.1 (by decide)
      · rw [hhd.mpr x.2] at q2
        exact absurd q2 (by decide)
theorem y_u62 {post : Int32 → SY → Prop} (ok : k_ok k) {p : Int} (wb : Bool) {A : aT} {α0 : sT} (hA : sM k σ = A) (hp : 0 ≤ p ∧ p < kP k) (K : ∀ (α : sT) (hd : Bool), (hd = true ↔ k_hd k p) → pw_ k α0 α (k_in k A p) → ∃ n118 : Nat, wY_update_118 post (iI p) (bI wb) (bI hd) 0 n118 0 (iI (-kh k)) (iI (kh k - 1)) (iI (kP k)) (iI (kV k)) (iI (kC k)) (iI (kE k)) (iI (kN k)) y.1 y.2.1 y.2.2.1 y.2.2.2.1 y.2.2.2.2.1 (yP k) (xH k) (yB (σ)) (yB (α)) y.2.2.2.2.2) : ∀ (n : Nat) (i : Int) (hd : Bool) (α : sT), (hd = true ↔ ∃ e, 0 ≤ e ∧ e < i ∧ kA k e 1 = p ∧ p ≤ kA k e 0) → pw_ k α0 α (k_ii k A p i) → 0 ≤ i → i ≤ kE k → (kE k - i).toNat < n → wY_update_62 post (iI p) (bI wb) 0 n (bI hd) (iI i) (iI (-kh k)) (iI (kh k - 1)) (iI (kP k)) (iI (kV k)) (iI (kC k)) (iI (kE k)) (iI (kN k)) y.1 y.2.1 y.2.2.1 y.2.2.2.1 y.2.2.2.2.1 (yP k) (xH k) (yB (σ)) (yB (α)) y.2.2.2.2.2
  | 0, _, _, _, _, _, _, _, hn => by omega
  | n + 1, i, hd, α, h1, h2, i0, i1, hn => by
    have hV := ok.2.1
    have h1' : ∀ x, i = x → (hd = true ↔ ∃ e, 0 ≤ e ∧ e < x ∧ kA k e 1 = p ∧ p ≤ kA k e 0) := fun x e => e ▸ h1
    clear h1
    refine ib_le (kE k) i (fun e => ?_) (fun e => ?_) rfl rfl (by omega)
    · have ei : i = kE k := by omega
      subst ei
      exact K α hd (h1' _ rfl) h2
    · have ho := (ok.2.2.1 i i0 e).1
      have r1 : vp_in (iI i * 7 + 1) 140 ∧ yP k (iI i * 7 + 1).toNatClampNeg = iI (kA k i 1) := ⟨yp_in (y7 i 1 rfl) (by omega) (by omega), yp_g k (y7 i 1 rfl) (by omega) (by omega)⟩
      have r0 : vp_in (iI i * 7) 140 ∧ yP k (iI i * 7).toNatClampNeg = iI (kA k i 0) := ⟨yp_in (y70 i) (by omega) (by omega), yp_g k (y70 i) (by omega) (by omega)⟩
      have ii : ∀ (W : Int → Int → Prop) (α' : sT), pw_ k α α' W → (∀ s v, k_ii k A p (i + 1) s v ↔ (k_ii k A p i s v ∨ W s v)) → pw_ k α0 α' (k_ii k A p (i + 1)) := fun W α' hα' hW => pw_x (pw_c h2 hα') fun s v _ _ _ _ => (hW s v).symm
      refine And.intro r1.1 (ib_eq (kA k i 1) p (fun et => y_flow ok rfl ⟨i0, e⟩ (fun α' hα' => ?_)) (fun et => nm_r (ii_add i 1) (y_u62 ok wb hA hp K n (i + 1) hd α ((h1' i rfl).trans ?_) (pw_x h2 fun s v _ _ _ _ => ?_) (by omega) (by omega) (by omega))) r1.2 rfl (by omega))
      · rw [hA] at hα'
        have hpw := ii _ α' hα' (fun s v => by
          constructor
          · rintro (w | ⟨e', e1, e2, e3, e4⟩)
            · exact Or.inl (Or.inl w)
            · by_cases ee : e' = i
              · subst ee
                exact Or.inr e4
              · exact Or.inl (Or.inr ⟨e', e1, by omega, e3, e4⟩)
          · rintro ((w | ⟨e', e1, e2, e3⟩) | w)
            · exact Or.inl w
            · exact Or.inr ⟨e', e1, by omega, e3⟩
            · exact Or.inr ⟨i, i0, by omega, et, w⟩)
        refine And.intro r0.1 (ib_lt (kA k i 0) p (fun es => nm_r (ii_add i 1) (y_u62 ok wb hA hp K n (i + 1) hd α' ((h1' i rfl).trans ?_) hpw (by omega) (by omega) (by omega))) (fun es => nm_r (ii_add i 1) (y_u62 ok wb hA hp K n (i + 1) true α' ⟨fun _ => ⟨i, i0, by omega, et, es⟩, fun _ => rfl⟩ hpw (by omega) (by omega) (by omega))) r0.2 rfl (by omega))
        constructor
        · rintro ⟨e', e1, e2, e3⟩
          exact ⟨e', e1, by omega, e3⟩
        · rintro ⟨e', e1, e2, e3, e4⟩
          by_cases ee : e' = i
          · subst ee
            omega
          · exact ⟨e', e1, by omega, e3, e4⟩
      · constructor
        · rintro ⟨e', e1, e2, e3⟩
          exact ⟨e', e1, by omega, e3⟩
        · rintro ⟨e', e1, e2, e3, e4⟩
          by_cases ee : e' = i
          · subst ee
            exact absurd e3 et
          · exact ⟨e', e1, by omega, e3, e4⟩
      · constructor
        · rintro (w | ⟨e', e1, e2, e3⟩)
          · exact Or.inl w
          · exact Or.inr ⟨e', e1, by omega, e3⟩
        · rintro (w | ⟨e', e1, e2, e3, e4⟩)
          · exact Or.inl w
          · by_cases ee : e' = i
            · subst ee
              exact absurd e3 et
            · exact Or.inr ⟨e', e1, by omega, e3, e4⟩
theorem y_u33 {post : Int32 → SY → Prop} (ok : k_ok k) {p : Int} (wb : Bool) {A : aT} {α0 : sT} (hp : 0 ≤ p ∧ p < kP k) (K : ∀ α : sT, pw_ k α0 α (k_ii k A p 0) → ∃ n62 : Nat, wY_update_62 post (iI p) (bI wb) 0 n62 0 0 (iI (-kh k)) (iI (kh k - 1)) (iI (kP k)) (iI (kV k)) (iI (kC k)) (iI (kE k)) (iI (kN k)) y.1 y.2.1 y.2.2.1 y.2.2.2.1 y.2.2.2.2.1 (yP k) (xH k) (yB (σ)) (yB (α)) y.2.2.2.2.2) : ∀ (n : Nat) (s : Int) (α : sT), pw_ k α0 α (fun s' v' => s' < s ∧ k_ii k A p 0 s' v') → 0 ≤ s → s ≤ kV k + 1 → (kV k + 1 - s).toNat < n → wY_update_33 post (iI p) (bI wb) 0 0 n (iI s) (iI (-kh k)) (iI (kh k - 1)) (iI (kP k)) (iI (kV k)) (iI (kC k)) (iI (kE k)) (iI (kN k)) y.1 y.2.1 y.2.2.1 y.2.2.2.1 y.2.2.2.2.1 (yP k) (xH k) (yB (σ)) (yB (α)) y.2.2.2.2.2
  | 0, _, _, _, _, _, hn => by omega
  | n + 1, s, α, hw, s0, s1, hn => by
    have hV := ok.2.1
    have hh := k_h ok
    have ik : ∀ s v, k_ii k A p 0 s v ↔ (p = 0 ∧ v = 0) := fun s v => ⟨fun w => w.elim id (fun ⟨e, e1, e2, _⟩ => by omega), Or.inl⟩
    refine ib_lt (kV k) s (fun e => K α (pw_x hw fun s' v' a0 a1 a2 a3 => ⟨fun w => w.2, fun w => ⟨by omega, w⟩⟩)) (fun e => ib_eq p 0 (fun ep => y_put (s := s) (v := 0) rfl rfl (by omega) (by omega) (nm_r (ii_add s 1) (y_u33 ok wb hp K n (s + 1) _ (pw_x (pw_p hw (s := s) (v := 0) (by omega)) fun s' v' a0 a1 a2 a3 => ?_) (by omega) (by omega) (by omega)))) (fun ep => K α (pw_x hw fun s' v' a0 a1 a2 a3 => ?_)) rfl rfl (by omega)) rfl rfl (by omega)
    · rw [ik]
      constructor
      · rintro (w | w)
        · exact ⟨by omega, w.2⟩
        · exact ⟨by omega, ep, w.2⟩
      · rintro ⟨w1, w2, w3⟩
        by_cases es : s' = s
        · exact Or.inr ⟨es, w3⟩
        · exact Or.inl ⟨by omega, w2, w3⟩
    · rw [ik]
      exact ⟨fun w => absurd w.2.1 ep, fun w => absurd w.1 ep⟩
theorem y_u8 {post : Int32 → SY → Prop} (ok : k_ok k) {p : Int} (wb : Bool) (K : ∀ α : sT, (∀ j, 0 ≤ j → j < 128 → α j = false) → ∃ n33 : Nat, wY_update_33 post (iI p) (bI wb) 0 0 n33 0 (iI (-kh k)) (iI (kh k - 1)) (iI (kP k)) (iI (kV k)) (iI (kC k)) (iI (kE k)) (iI (kN k)) y.1 y.2.1 y.2.2.1 y.2.2.2.1 y.2.2.2.2.1 (yP k) (xH k) (yB (σ)) (yB (α)) y.2.2.2.2.2) : ∀ (n : Nat) (i : Int) (α : sT), (∀ j, 0 ≤ j → j < i → α j = false) → 0 ≤ i → i ≤ 128 → (128 - i).toNat < n → wY_update_8 post (iI p) (bI wb) 0 0 (iI (-kh k)) (iI (kh k - 1)) (iI (kP k)) (iI (kV k)) (iI (kC k)) (iI (kE k)) (iI (kN k)) y.1 y.2.1 y.2.2.1 y.2.2.2.1 y.2.2.2.2.1 n (iI i) (yP k) (xH k) (yB (σ)) (yB (α)) y.2.2.2.2.2
  | 0, _, _, _, _, _, hn => by omega
  | n + 1, i, α, h1, i0, i1, hn => by
    refine ib_le 128 i (fun e => K α (fun j j0 j1 => h1 j j0 (by omega))) (fun e => And.intro (ii_in (by omega) (by omega) (by omega)) (nm_r (yb_w α false rfl (by omega)) (nm_r (ii_add i 1) (y_u8 ok wb K n (i + 1) _ (fun j j0 j1 => ?_) (by omega) (by omega) (by omega))))) rfl rfl (by omega)
    by_cases ej : j = i
    · rw [ej, bw_s]
    · rw [bw_n _ _ ej]
      exact h1 j j0 (by omega)
theorem y_upd {post : Int32 → SY → Prop} (ok : k_ok k) {p : Int} (wb : Bool) {x0 x1 : Int32} {α : sT} (e0 : x0 = iI p) (e1 : x1 = bI wb) (hp : 0 ≤ p ∧ p < kP k) (hy : y_ok k σ) (h : ∀ (σ' α' : sT) (b : Bool), y_ok k σ' → k_up k (wb = true) p (sM k σ) (sM k σ') → (b = false → sM k σ' = sM k σ) → (b = true → ∃ s v, ¬ (sM k σ p s v ↔ sM k σ' p s v)) → post (bI b) (YC k y σ' α')) : wpY_update post (YC k y σ α) x0 x1 := by
  subst e0 e1
  have hV := ok.2.1
  have hh := k_h ok
  refine Exists.intro 200 (y_u8 ok wb (fun α0 h0 => Exists.intro 10 (y_u33 ok wb (A := sM k σ) (α0 := α0) hp (fun α1 w1 => Exists.intro 30 (y_u62 ok wb rfl hp (fun α2 hd hhd w2 => Exists.intro 10 (y_u118 ok wb hd rfl hp hy.2 h0 hhd (fun α3 w3 => Exists.intro 200 (y_u155 ok hp (fun σ' b q1 q2 q3 => ?_) 200 0 false σ (fun j j0 j1 => by omega) (fun _ _ => rfl) ⟨fun q => absurd q (by decide), fun ⟨j, j0, j1, _⟩ => by omega⟩ (by omega) (by omega) (by omega))) 10 0 α2 (pw_x w2 fun s' v' a0 a1 a2 a3 => ⟨fun w => Or.inr ⟨by omega, w⟩, fun w => w.elim (fun w => by omega) (fun w => w.2)⟩) (by omega) (by omega) (by omega))) 30 0 false α1 ⟨fun q => absurd q (by decide), fun ⟨e', e1, e2, _⟩ => by omega⟩ w1 (by omega) (by omega) (by omega))) 10 0 α0 (pw_0 α0 fun s v s0 s1 v0 v1 w => by omega) (by omega) (by omega) (by omega))) 200 0 α (fun j j0 j1 => by omega) (by omega) (by omega) (by omega))
  have q4 : hx_ b (∃ i, 0 ≤ i ∧ i < 128 ∧ σ (p * 128 + i) ≠ α3 i) := q3
  clear q3
  -- what stands in the row of p now
  have row : ∀ s v, 0 ≤ s → s ≤ kV k → -kh k ≤ v → v < kh k → (σ' (p * 128 + s * 32 + v + 16) = true ↔ k_F k (wb = true) (sM k σ) p s v) := fun s v s0 s1 v0 v1 => by
    have e : p * 128 + s * 32 + v + 16 = p * 128 + (s * 32 + v + 16) := by omega
    rw [e, q1 _ (by omega) (by omega)]
    exact pw_v ok w3 h0 ⟨s0, s1, v0, v1⟩
  have FG := k_Fg (w := (wb = true)) ok hy.2
  have up : k_up k (wb = true) p (sM k σ) (sM k σ') := fun q s v => by
    constructor
    · rintro ⟨d, r, hs⟩
      by_cases eq : q = p
      · subst eq
        exact Or.inl ⟨rfl, (row s v d.2.2.1 d.2.2.2 r.1 r.2).mp hs⟩
      · refine Or.inr ⟨eq, d, r, ?_⟩
        obtain ⟨d1, d2, d3, d4⟩ := d
        rw [q2 _ (by omega)] at hs
        exact hs
    · rintro (⟨eq, hF⟩ | ⟨eq, d, r, hs⟩)
      · subst eq
        have rg := FG.1 q s v hF
        exact ⟨rg.1, rg.2, (row s v rg.1.2.2.1 rg.1.2.2.2 rg.2.1 rg.2.2).mpr hF⟩
      · refine ⟨d, r, ?_⟩
        obtain ⟨d1, d2, d3, d4⟩ := d
        rw [q2 _ (by omega)]
        exact hs
  have yk : y_ok k σ' := ⟨fun q i q0 q1' i0 i1 hs => by
    by_cases eq : q = p
    · subst eq
      rw [q1 i i0 i1, w3 i, h0 i i0 i1] at hs
      rcases hs with hs | ⟨s, v, r, ej, _⟩
      · exact absurd hs (by decide)
      · exact ⟨s, v, r, ej⟩
    · rw [q2 _ (by omega)] at hs
      exact hy.1 q i q0 q1' i0 i1 hs, k_upg ok hy.2 up⟩
  -- a cell that differs is a member that differs
  have cell : ∀ i, 0 ≤ i → i < 128 → σ (p * 128 + i) ≠ σ' (p * 128 + i) → ∃ s v, ¬ (sM k σ p s v ↔ sM k σ' p s v) := fun i i0 i1 hne => by
    have hst : ∃ s v, (0 ≤ s ∧ s ≤ kV k ∧ -kh k ≤ v ∧ v < kh k) ∧ i = s * 32 + v + 16 := by
      cases h3 : σ (p * 128 + i) with
      | true => exact hy.1 p i hp.1 hp.2 i0 i1 h3
      | false =>
        cases h4 : σ' (p * 128 + i) with
        | true => exact yk.1 p i hp.1 hp.2 i0 i1 h4
        | false => rw [h3, h4] at hne; exact absurd rfl hne
    obtain ⟨s, v, r, ej⟩ := hst
    refine ⟨s, v, fun hiff => hne ?_⟩
    have e : p * 128 + i = p * 128 + s * 32 + v + 16 := by omega
    have d : k_d k p s := ⟨hp.1, hp.2, r.1, r.2.1⟩
    rw [e]
    cases h3 : σ (p * 128 + s * 32 + v + 16) with
    | true => exact ((hiff.mp ⟨d, r.2.2, h3⟩).2.2).symm
    | false =>
      cases h4 : σ' (p * 128 + s * 32 + v + 16) with
      | false => rfl
      | true =>
        have := (hiff.mpr ⟨d, r.2.2, h4⟩).2.2
        rw [h3] at this
        exact absurd this (by decide)
  refine h σ' α3 b yk up (fun eb => ?_) (fun eb => ?_)
  · have all : ∀ i, 0 ≤ i → i < 128 → σ' (p * 128 + i) = σ (p * 128 + i) := fun i i0 i1 => by
      by_cases e : σ (p * 128 + i) = α3 i
      · rw [q1 i i0 i1, e]
      · rw [hx_r q4 ⟨i, i0, i1, e⟩] at eb
        exact absurd eb (by decide)
    funext q s v
    apply propext
    unfold sM
    constructor
    · rintro ⟨d, r, hs⟩
      refine ⟨d, r, ?_⟩
      obtain ⟨d1, d2, d3, d4⟩ := d
      by_cases eq : q = p
      · subst eq
        rw [show q * 128 + s * 32 + v + 16 = q * 128 + (s * 32 + v + 16) by omega, all _ (by omega) (by omega)] at hs
        rw [show q * 128 + s * 32 + v + 16 = q * 128 + (s * 32 + v + 16) by omega]
        exact hs
      · rw [q2 _ (by omega)] at hs
        exact hs
    · rintro ⟨d, r, hs⟩
      refine ⟨d, r, ?_⟩
      obtain ⟨d1, d2, d3, d4⟩ := d
      by_cases eq : q = p
      · subst eq
        rw [show q * 128 + s * 32 + v + 16 = q * 128 + (s * 32 + v + 16) by omega, all _ (by omega) (by omega)]
        rw [show q * 128 + s * 32 + v + 16 = q * 128 + (s * 32 + v + 16) by omega] at hs
        exact hs
      · rw [q2 _ (by omega)]
        exact hs
  · obtain ⟨i, i0, i1, hne⟩ := hx_l q4 eb
    exact cell i i0 i1 (by rw [q1 i i0 i1]; exact hne)
end
end
section
/-! ===== Y: sweep, verdict, analyse ===== -/
section
variable {k : kT} {y : yT}
theorem y_sw20 {post : SY → Prop} (ok : k_ok k) (wb : Bool) (I : aT → Prop) (pot : aT → Nat) (hI : ∀ (A A' : aT) (p : Int), I A → k_g k A → k_up k (wb = true) p A A' → I A' ∧ (∀ s v, ¬ (A p s v ↔ A' p s v) → pot A' < pot A)) {J : GT} {t : Int} {A0 : aT} (hJ : ∀ (c : Bool) (σ α : sT), y_ok k σ → I (sM k σ) → (c = false → ∀ p s v, k_F k (wb = true) (sM k σ) p s v ↔ sM k σ p s v) → (c = true → pot (sM k σ) < pot A0) → J (bI c) (iI (t + 1)) (iI (-kh k)) (iI (kh k - 1)) (iI (kP k)) (iI (kV k)) (iI (kC k)) (iI (kE k)) (iI (kN k)) y.1 y.2.1 y.2.2.1 y.2.2.2.1 y.2.2.2.2.1 (yP k) (xH k) (yB (σ)) (yB (α)) y.2.2.2.2.2) : ∀ (n : Nat) (p : Int) (c : Bool) (σ α : sT), y_ok k σ → I (sM k σ) → (c = false → sM k σ = A0 ∧ ∀ q, 0 ≤ q → q < p → ∀ s v, k_F k (wb = true) A0 q s v ↔ A0 q s v) → (c = true → pot (sM k σ) < pot A0) → 0 ≤ p → p ≤ kP k → (kP k - p).toNat < n → wY_sweep_20 post J (bI wb) (iI t) n (bI c) (iI p) (iI (-kh k)) (iI (kh k - 1)) (iI (kP k)) (iI (kV k)) (iI (kC k)) (iI (kE k)) (iI (kN k)) y.1 y.2.1 y.2.2.1 y.2.2.2.1 y.2.2.2.2.1 (yP k) (xH k) (yB (σ)) (yB (α)) y.2.2.2.2.2
  | 0, _, _, _, _, _, _, _, _, _, _, hn => by omega
  | n + 1, p, c, σ, α, hy, hi, hf, ht, p0, p1, hn => by
    have hV := ok.2.1
    refine ib_le (kP k) p (fun e => nm_r (ii_add t 1) (hJ c σ α hy hi (fun ec q s v => ?_) ht)) (fun e => y_upd ok wb rfl rfl ⟨p0, e⟩ hy (fun σ' α' b yk up hb0 hb1 => ?_)) rfl rfl (by omega)
    · obtain ⟨e1, e2⟩ := hf ec
      rw [e1]
      by_cases d : 0 ≤ q ∧ q < kP k
      · exact e2 q d.1 (by omega) s v
      · constructor
        · intro w
          exact absurd ⟨w.1.1, w.1.2.1⟩ d
        · intro w
          rw [← e1] at w
          exact absurd ⟨w.1.1, w.1.2.1⟩ d
    · obtain ⟨hi1, hi2⟩ := hI _ _ p hi hy.2 up
      refine ib_b b (fun eb => nm_r (ii_add p 1) (y_sw20 ok wb I pot hI hJ n (p + 1) c σ' α' yk hi1 (fun ec => ?_) (fun ec => ?_) (by omega) (by omega) (by omega))) (fun eb => nm_r (ii_add p 1) (y_sw20 ok wb I pot hI hJ n (p + 1) true σ' α' yk hi1 (fun ec => absurd ec (by decide)) (fun _ => ?_) (by omega) (by omega) (by omega)))
      · have es := hb0 eb
        obtain ⟨e1, e2⟩ := hf ec
        refine ⟨es.trans e1, fun q q0 q1 s v => ?_⟩
        by_cases eq : q = p
        · subst eq
          have := up q s v
          rw [es, e1] at this
          constructor
          · intro w
            exact this.mpr (Or.inl ⟨rfl, w⟩)
          · intro w
            rcases this.mp w with u | u
            · exact u.2
            · exact absurd rfl u.1
        · exact e2 q q0 (by omega) s v
      · rw [hb0 eb]
        exact ht ec
      · obtain ⟨s, v, hne⟩ := hb1 eb
        have h2 := hi2 s v hne
        cases c with
        | false =>
          rw [← (hf rfl).1]
          exact h2
        | true =>
          have := ht rfl
          omega
theorem y_sw4 {post : SY → Prop} (ok : k_ok k) (wb : Bool) (I : aT → Prop) (pot : aT → Nat) (hI : ∀ (A A' : aT) (p : Int), I A → k_g k A → k_up k (wb = true) p A A' → I A' ∧ (∀ s v, ¬ (A p s v ↔ A' p s v) → pot A' < pot A)) (h : ∀ σ α, y_ok k σ → I (sM k σ) → (∀ p s v, k_F k (wb = true) (sM k σ) p s v ↔ sM k σ p s v) → post (YC k y σ α)) : ∀ (n : Nat) (t : Int) (c : Bool) (σ α : sT), y_ok k σ → I (sM k σ) → (c = true → t + (pot (sM k σ) : Int) ≤ 1280) → (c = false → ∀ p s v, k_F k (wb = true) (sM k σ) p s v ↔ sM k σ p s v) → 0 ≤ t → t ≤ 1290 → (1300 - t).toNat < n → wY_sweep_4 post (bI wb) n (bI c) (iI t) (iI (-kh k)) (iI (kh k - 1)) (iI (kP k)) (iI (kV k)) (iI (kC k)) (iI (kE k)) (iI (kN k)) y.1 y.2.1 y.2.2.1 y.2.2.2.1 y.2.2.2.2.1 (yP k) (xH k) (yB (σ)) (yB (α)) y.2.2.2.2.2
  | 0, _, _, _, _, _, _, _, _, _, _, hn => by omega
  | n + 1, t, c, σ, α, hy, hi, hc1, hc2, t0, t1, hn => by
    have hV := ok.2.1
    refine ib_le 1300 t (fun e => by omega) (fun e => ib_b c (fun ec => h σ α hy hi (hc2 ec)) (fun ec => Exists.intro 20 (y_sw20 ok wb I pot hI (A0 := sM k σ) (fun c' σ' α' yk hi' f1 f2 => y_sw4 ok wb I pot hI h n (t + 1) c' σ' α' yk hi' (fun ec' => ?_) f1 (by omega) ?_ (by omega)) 20 0 false σ α hy hi (fun _ => ⟨rfl, fun q q0 q1 => by omega⟩) (fun q => absurd q (by decide)) (by omega) (by omega) (by omega)))) rfl rfl (by omega)
    · have := f2 ec'
      have := hc1 ec
      omega
    · have := hc1 ec
      omega
theorem y_swp {post : SY → Prop} (ok : k_ok k) (wb : Bool) (I : aT → Prop) (pot : aT → Nat) {x : Int32} (hx : x = bI wb) (hI : ∀ (A A' : aT) (p : Int), I A → k_g k A → k_up k (wb = true) p A A' → I A' ∧ (∀ s v, ¬ (A p s v ↔ A' p s v) → pot A' < pot A)) (h : ∀ σ α, y_ok k σ → I (sM k σ) → (∀ p s v, k_F k (wb = true) (sM k σ) p s v ↔ sM k σ p s v) → post (YC k y σ α)) {σ α : sT} (hy : y_ok k σ) (hi : I (sM k σ)) (hp : pot (sM k σ) ≤ 1280) : wpY_sweep post (YC k y σ α) x := by
  subst hx
  exact Exists.intro 2000 (y_sw4 ok wb I pot hI h 2000 0 true σ α hy hi (fun _ => by omega) (fun q => absurd q (by decide)) (by omega) (by omega) (by omega))
/-- pairs before (a, b) that don't pass -/
def fb_ (k : kT) (g : Int → Int) (S : Int → Int → Prop) (a b : Int) : Prop := ∃ a' b', (a' < a ∨ (a' = a ∧ b' < b)) ∧ (S (fl_1 g) a' ∧ S (fl_2 (kV k) g) b' ∧ (fl_1 g = fl_2 (kV k) g → a' = b') ∧ ¬ fl_p (kh k) (kC k) g a' b')
theorem y_v81 {post : Int32 → Prop} (ok : k_ok k) {σ α : sT} {J : Int32 → Int32 → Int32 → Prop} {e a : Int} (he : 0 ≤ e ∧ e < kE k) (ha : -kh k ≤ a ∧ a < kh k) (hJ : ∀ c1 c2 : Bool, (c1 = true ↔ fa_ k (kA k e) (sM k σ (kA k e 0)) (a + 1) (-kh k)) → (c2 = true ↔ fb_ k (kA k e) (sM k σ (kA k e 0)) (a + 1) (-kh k)) → J (bI c1) (bI c2) (iI (a + 1))) : ∀ (n : Nat) (b : Int) (c1 c2 : Bool), (c1 = true ↔ fa_ k (kA k e) (sM k σ (kA k e 0)) a b) → (c2 = true ↔ fb_ k (kA k e) (sM k σ (kA k e 0)) a b) → -kh k ≤ b → b ≤ kh k → (kh k - b).toNat < n → wY_verdict_81 post J (iI e) (iI (kA k e 0)) (iI (fl_1 (kA k e))) (iI (fl_2 (kV k) (kA k e))) (iI a) (iI (-kh k)) (iI (kh k - 1)) (iI (kP k)) (iI (kV k)) (iI (kC k)) (iI (kE k)) (iI (kN k)) y.1 y.2.1 y.2.2.1 y.2.2.2.1 y.2.2.2.2.1 (yP k) (xH k) (yB (σ)) (yB (α)) y.2.2.2.2.2 n (bI c1) (bI c2) (iI b)
  | 0, _, _, _, _, _, _, _, hn => by omega
  | n + 1, b, c1, c2, h1, h2, b0, b1, hn => by
    have hV := ok.2.1
    have hh := k_h ok
    have ho := ok.2.2.1 e he.1 he.2
    have h12 := ed_12 ho (by omega)
    have o0 := ho.1
    have d1 : k_d k (kA k e 0) (fl_1 (kA k e)) := ⟨by omega, by omega, by omega, by omega⟩
    have d2 : k_d k (kA k e 0) (fl_2 (kV k) (kA k e)) := ⟨by omega, by omega, by omega, by omega⟩
    -- a step over (a, b): what it adds
    have stA : ∀ x : Bool, (x = true ↔ (fa_ k (kA k e) (sM k σ (kA k e 0)) a b ∨ fl_G (kh k) (kV k) (kC k) (kA k e) (sM k σ (kA k e 0)) a b)) → (x = true ↔ fa_ k (kA k e) (sM k σ (kA k e 0)) a (b + 1)) := fun x hx => hx.trans (by
      constructor
      · rintro (⟨a', b', q, w⟩ | w)
        · exact ⟨a', b', by omega, w⟩
        · exact ⟨a, b, by omega, w⟩
      · rintro ⟨a', b', q, w⟩
        by_cases e1 : a' = a ∧ b' = b
        · rw [e1.1, e1.2] at w
          exact Or.inr w
        · exact Or.inl ⟨a', b', by omega, w⟩)
    have stB : ∀ x : Bool, (x = true ↔ (fb_ k (kA k e) (sM k σ (kA k e 0)) a b ∨ (sM k σ (kA k e 0) (fl_1 (kA k e)) a ∧ sM k σ (kA k e 0) (fl_2 (kV k) (kA k e)) b ∧ (fl_1 (kA k e) = fl_2 (kV k) (kA k e) → a = b) ∧ ¬ fl_p (kh k) (kC k) (kA k e) a b))) → (x = true ↔ fb_ k (kA k e) (sM k σ (kA k e 0)) a (b + 1)) := fun x hx => hx.trans (by
      constructor
      · rintro (⟨a', b', q, w⟩ | w)
        · exact ⟨a', b', by omega, w⟩
        · exact ⟨a, b, by omega, w⟩
      · rintro ⟨a', b', q, w⟩
        by_cases e1 : a' = a ∧ b' = b
        · rw [e1.1, e1.2] at w
          exact Or.inr w
        · exact Or.inl ⟨a', b', by omega, w⟩)
    have skip : b < kh k → ¬ (sM k σ (kA k e 0) (fl_1 (kA k e)) a ∧ sM k σ (kA k e 0) (fl_2 (kV k) (kA k e)) b ∧ (fl_1 (kA k e) = fl_2 (kV k) (kA k e) → a = b)) → wY_verdict_81 post J (iI e) (iI (kA k e 0)) (iI (fl_1 (kA k e))) (iI (fl_2 (kV k) (kA k e))) (iI a) (iI (-kh k)) (iI (kh k - 1)) (iI (kP k)) (iI (kV k)) (iI (kC k)) (iI (kE k)) (iI (kN k)) y.1 y.2.1 y.2.2.1 y.2.2.2.1 y.2.2.2.2.1 (yP k) (xH k) (yB (σ)) (yB (α)) y.2.2.2.2.2 n (bI c1) (bI c2) (iI (b + 1)) := fun hlt hno => by
      refine y_v81 ok he ha hJ n (b + 1) c1 c2 (stA c1 (h1.trans ⟨Or.inl, fun w => w.elim id (fun w => absurd ⟨w.1, w.2.1, w.2.2.1⟩ hno)⟩)) (stB c2 (h2.trans ⟨Or.inl, fun w => w.elim id (fun w => absurd ⟨w.1, w.2.1, w.2.2.1⟩ hno)⟩)) (by omega) (by omega) (by omega)
    refine ib_lt (kh k - 1) b (fun q => nm_r (ii_add a 1) (hJ c1 c2 (h1.trans ?_) (h2.trans ?_))) (fun q => ?_) rfl rfl (by omega)
    · constructor
      · rintro ⟨a', b', q2, w⟩
        exact ⟨a', b', by omega, w⟩
      · rintro ⟨a', b', q2, w⟩
        have := w.2.1.2.1
        have := w.1.2.1
        exact ⟨a', b', by omega, w⟩
    · constructor
      · rintro ⟨a', b', q2, w⟩
        exact ⟨a', b', by omega, w⟩
      · rintro ⟨a', b', q2, w⟩
        have := w.2.1.2.1
        have := w.1.2.1
        exact ⟨a', b', by omega, w⟩
    · have hb : -kh k ≤ b ∧ b < kh k := by omega
      have go : sM k σ (kA k e 0) (fl_1 (kA k e)) a → sM k σ (kA k e 0) (fl_2 (kV k) (kA k e)) b → (fl_1 (kA k e) = fl_2 (kV k) (kA k e) → a = b) → wY_verdict_126 post J (wY_verdict_81 post J (iI e) (iI (kA k e 0)) (iI (fl_1 (kA k e))) (iI (fl_2 (kV k) (kA k e))) (iI a) (iI (-kh k)) (iI (kh k - 1)) (iI (kP k)) (iI (kV k)) (iI (kC k)) (iI (kE k)) (iI (kN k)) y.1 y.2.1 y.2.2.1 y.2.2.2.1 y.2.2.2.2.1 (yP k) (xH k) (yB (σ)) (yB (α)) y.2.2.2.2.2 n) (iI e) (iI (kA k e 0)) (iI (fl_1 (kA k e))) (iI (fl_2 (kV k) (kA k e))) (bI c1) (bI c2) (iI a) (iI b) (iI (-kh k)) (iI (kh k - 1)) (iI (kP k)) (iI (kV k)) (iI (kC k)) (iI (kE k)) (iI (kN k)) y.1 y.2.1 y.2.2.1 y.2.2.2.1 y.2.2.2.2.1 (yP k) (xH k) (yB (σ)) (yB (α)) y.2.2.2.2.2 := fun g1 g2 g3 => by
        refine y_pass ok rfl rfl rfl he (by omega) (by omega) (fun hp => br_f (by decide) (nm_r (ii_add b 1) (y_v81 ok he ha hJ n (b + 1) true c2 (stA true ⟨fun _ => Or.inr ⟨g1, g2, g3, hp⟩, fun _ => rfl⟩) (stB c2 (h2.trans ⟨Or.inl, fun w => w.elim id (fun w => absurd hp w.2.2.2)⟩)) (by omega) (by omega) (by omega)))) (fun hp => br_t rfl (nm_r (ii_add b 1) (y_v81 ok he ha hJ n (b + 1) c1 true (stA c1 (h1.trans ⟨Or.inl, fun w => w.elim id (fun w => absurd w.2.2.2 hp)⟩)) (stB true ⟨fun _ => Or.inr ⟨g1, g2, g3, hp⟩, fun _ => rfl⟩) (by omega) (by omega) (by omega))))
      refine y_has rfl rfl rfl (by omega) (by omega) (by omega) (ib_b _ (fun q1 => nm_r (ii_add b 1) (skip hb.2 (fun hG => ?_))) (fun q1 => y_has rfl rfl rfl (by omega) (by omega) (by omega) (ib_b _ (fun q2 => nm_r (ii_add b 1) (skip hb.2 (fun hG => ?_))) (fun q2 => ib_eq (fl_1 (kA k e)) (fl_2 (kV k) (kA k e)) (fun q3 => ib_eq a b (fun q4 => go ⟨d1, ha, q1⟩ ⟨d2, hb, q2⟩ (fun _ => q4)) (fun q4 => nm_r (ii_add b 1) (skip hb.2 (fun hG => q4 (hG.2.2 q3))))) (fun q3 => go ⟨d1, ha, q1⟩ ⟨d2, hb, q2⟩ (fun x => absurd x q3))))))
      · have := hG.1.2.2
        rw [q1] at this
        exact absurd this (by decide)
      · have := hG.2.1.2.2
        rw [q2] at this
        exact absurd this (by decide)
theorem y_v66 {post : Int32 → Prop} (ok : k_ok k) {σ α : sT} {e : Int} (he : 0 ≤ e ∧ e < kE k) (h : ∀ r, vd_ (kh k) (kV k) (kC k) (kA k e) (sM k σ (kA k e 0)) r → post (iI r)) : ∀ (n : Nat) (a : Int) (c1 c2 : Bool), (c1 = true ↔ fa_ k (kA k e) (sM k σ (kA k e 0)) a (-kh k)) → (c2 = true ↔ fb_ k (kA k e) (sM k σ (kA k e 0)) a (-kh k)) → -kh k ≤ a → a ≤ kh k → (kh k - a).toNat < n → wY_verdict_66 post (iI e) (iI (kA k e 0)) (iI (fl_1 (kA k e))) (iI (fl_2 (kV k) (kA k e))) (iI (-kh k)) (iI (kh k - 1)) (iI (kP k)) (iI (kV k)) (iI (kC k)) (iI (kE k)) (iI (kN k)) y.1 y.2.1 y.2.2.1 y.2.2.2.1 y.2.2.2.2.1 (yP k) (xH k) (yB (σ)) (yB (α)) y.2.2.2.2.2 n (bI c1) (bI c2) (iI a)
  | 0, _, _, _, _, _, _, _, hn => by omega
  | n + 1, a, c1, c2, h1, h2, a0, a1, hn => by
    have hV := ok.2.1
    have hh := k_h ok
    refine ib_lt (kh k - 1) a (fun q => ?_) (fun q => Exists.intro 100 (y_v81 ok he ⟨a0, by omega⟩ (fun d1 d2 g1 g2 => y_v66 ok he h n (a + 1) d1 d2 g1 g2 (by omega) (by omega) (by omega)) 100 (-kh k) c1 c2 h1 h2 (by omega) (by omega) (by omega))) rfl rfl (by omega)
    have G : c1 = true ↔ ∃ x z, fl_G (kh k) (kV k) (kC k) (kA k e) (sM k σ (kA k e 0)) x z := h1.trans (by
      constructor
      · rintro ⟨a', b', _, w⟩
        exact ⟨a', b', w⟩
      · rintro ⟨a', b', w⟩
        have := w.1.2.1
        exact ⟨a', b', by omega, w⟩)
    have W : c2 = true ↔ vd_w (kh k) (kV k) (kC k) (kA k e) (sM k σ (kA k e 0)) := h2.trans (by
      constructor
      · rintro ⟨a', b', _, w⟩
        exact ⟨a', b', w⟩
      · rintro ⟨a', b', w⟩
        have := w.1.2.1
        exact ⟨a', b', by omega, w⟩)
    have nG : c1 = false → ¬ ∃ x z, fl_G (kh k) (kV k) (kC k) (kA k e) (sM k σ (kA k e 0)) x z := fun ec w => by
      rw [G.mpr w] at ec
      exact absurd ec (by decide)
    have nW : c2 = false → ¬ vd_w (kh k) (kV k) (kC k) (kA k e) (sM k σ (kA k e 0)) := fun ec w => by
      rw [W.mpr w] at ec
      exact absurd ec (by decide)
    have j171 : (c1 = true ∨ c2 = true) → wY_verdict_171 post (bI c1) (bI c2) (iI (-kh k)) (iI (kh k - 1)) (iI (kP k)) (iI (kV k)) (iI (kC k)) (iI (kE k)) (iI (kN k)) y.1 y.2.1 y.2.2.1 y.2.2.2.1 y.2.2.2.2.1 (yP k) (xH k) (yB (σ)) (yB (α)) y.2.2.2.2.2 := fun hor => by
      refine ib_b c2 (fun e2 => ?_) (fun e2 => ib_b c1 (fun e1 => h 2 (Or.inr (Or.inr (Or.inl ⟨rfl, nG e1, W.mp e2⟩)))) (fun e1 => h 3 (Or.inr (Or.inr (Or.inr ⟨rfl, G.mp e1, W.mp e2⟩)))))
      have e1 : c1 = true := by
        rcases hor with q | q
        · exact q
        · rw [e2] at q
          exact absurd q (by decide)
      exact h 1 (Or.inr (Or.inl ⟨rfl, G.mp e1, nW e2⟩))
    exact ib_b c1 (fun e1 => ib_b c2 (fun e2 => h 0 (Or.inl ⟨rfl, nG e1, nW e2⟩)) (fun e2 => j171 (Or.inr e2))) (fun e1 => j171 (Or.inl e1))
theorem y_ver {post : Int32 → Prop} (ok : k_ok k) {σ α : sT} (v : Int32) (h : ∀ r : Int, vq_ k (sM k σ) (¬ y.1 = 0) v.toInt r → post (iI r)) : wpY_verdict post (YC k y σ α) v := by
  have hV := ok.2.1
  have hh := k_h ok
  have no : ¬ (¬ y.1 = 0 ∧ (0 ≤ v.toInt ∧ v.toInt < kE k) ∧ ob_ (kA k v.toInt)) → post (-1000) := fun hn => by
    rw [ii_m1000]
    exact h (-1000) (Or.inr ⟨hn, rfl⟩)
  refine And.intro (fun e => no (fun q => q.1 e)) (fun e => iw_lt v.toInt 0 (fun e1 => no (fun q => by have := q.2.1; omega)) (fun v0 => iw_le (kE k) v.toInt (fun e1 => no (fun q => by have := q.2.1; omega)) (fun v1 => ?_) (ii_toInt (by omega)) rfl))
  have ev : v = iI v.toInt := ii_of v
  refine y_obl ok ev ⟨v0, v1⟩ (fun hob => br_f (by decide) ?_) (fun hn => br_t rfl (no (fun q => hn q.2.2)))
  have hh2 : ∀ r : Int, vd_ (kh k) (kV k) (kC k) (kA k v.toInt) (sM k σ (kA k v.toInt 0)) r → post (iI r) := fun r hr => h r (Or.inl ⟨⟨e, ⟨v0, v1⟩, hob⟩, hr⟩)
  clear h no
  generalize v.toInt = e' at *
  subst ev
  refine And.intro (yp_in (y70 e') (by omega) (by omega)) (nm_r (yp_g k (y70 e') (by omega) (by omega)) (y_first ok rfl ⟨v0, v1⟩ (y_second ok rfl ⟨v0, v1⟩ (Exists.intro 100 (y_v66 ok ⟨v0, v1⟩ hh2 100 (-kh k) false false ⟨fun q => absurd q (by decide), fun ⟨a', b', q, w⟩ => ?_⟩ ⟨fun q => absurd q (by decide), fun ⟨a', b', q, w⟩ => ?_⟩ (by omega) (by omega) (by omega))))))
  · have := w.1.2.1
    have := w.2.1.2.1
    omega
  · have := w.1.2.1
    have := w.2.1.2.1
    omega
theorem y_an45 {post : Int32 → SY → Prop} (ok : k_ok k) {σ α : sT} (hz : ¬ y.1 = 0) (h : post (iI (cq_ k (sM k σ) (kE k))) (YC k y σ α)) : ∀ (n : Nat) (i : Int), 0 ≤ i → i ≤ kE k → (kE k - i).toNat < n → wY_analyse_45 post (iI (-kh k)) (iI (kh k - 1)) (iI (kP k)) (iI (kV k)) (iI (kC k)) (iI (kE k)) (iI (kN k)) y.1 y.2.1 y.2.2.1 y.2.2.2.1 y.2.2.2.2.1 (yP k) (xH k) (yB (σ)) (yB (α)) y.2.2.2.2.2 n (iI (cq_ k (sM k σ) i)) (iI i)
  | 0, _, _, _, hn => by omega
  | n + 1, i, i0, i1, hn => by
    have hV := ok.2.1
    have cm := cq_m (k := k) (A := sM k σ) i0
    have ht : (¬ y.1 = 0) = True := eq_true hz
    refine ib_le (kE k) i (fun e => ?_) (fun e => y_ver ok (iI i) (fun r hr => ?_)) rfl rfl (by omega)
    · obtain rfl : i = kE k := by omega
      exact h
    · rw [ht, ii_toInt (by omega)] at hr
      have hrb : r = -1000 ∨ r = 0 ∨ r = 1 ∨ r = 2 ∨ r = 3 := by
        rcases hr with ⟨_, hr⟩ | ⟨_, hr⟩
        · unfold vd_ at hr
          omega
        · omega
      have cs := cq_s (k := k) (A := sM k σ) i0
      refine ib_eq r 1 (fun e1 => nm_r (e' := iI (cq_ k (sM k σ) (i + 1))) ?_ (nm_r (ii_add i 1) (y_an45 ok hz h n (i + 1) (by omega) (by omega) (by omega)))) (fun e1 => nm_r (ii_add i 1) ?_) rfl rfl (by omega)
      · rw [e1] at hr
        rw [ct_b1 hr] at cs
        rw [ii_1, ii_add, cs]
        rfl
      · have hno : ¬ vq_ k (sM k σ) True i 1 := fun q => e1 (vq_u hr q)
        rw [ct_b0 hno] at cs
        have := y_an45 ok hz h n (i + 1) (by omega) (by omega) (by omega)
        rw [cs] at this
        exact this
theorem y_an2 {post : Int32 → SY → Prop} (ok : k_ok k) (md : Int32) {α : sT} (h : ∀ σ' α' : sT, y_ok k σ' → fx_ k (decide (¬ md = 0)) (sM k σ') → post (iI (cq_ k (sM k σ') (kE k))) (YC k (1, y.2) σ' α')) : ∀ (n : Nat) (i : Int) (σ : sT), (∀ j, 0 ≤ j → j < i → σ j = false) → 0 ≤ i → i ≤ 1280 → (1280 - i).toNat < n → wY_analyse_2 post md (iI (-kh k)) (iI (kh k - 1)) (iI (kP k)) (iI (kV k)) (iI (kC k)) (iI (kE k)) (iI (kN k)) y.1 y.2.1 y.2.2.1 y.2.2.2.1 y.2.2.2.2.1 n (iI i) (yP k) (xH k) (yB (σ)) (yB (α)) y.2.2.2.2.2
  | 0, _, _, _, _, _, hn => by omega
  | n + 1, i, σ, h1, i0, i1, hn => by
    have hV := ok.2.1
    have hh := k_h ok
    refine ib_le 1280 i (fun e => ?_) (fun e => And.intro (ii_in (by omega) (by omega) (by omega)) (nm_r (yb_w σ false rfl (by omega)) (nm_r (ii_add i 1) (y_an2 ok md h n (i + 1) _ (fun j j0 j1 => ?_) (by omega) (by omega) (by omega))))) rfl rfl (by omega)
    · have hE : ∀ p s v, ¬ sM k σ p s v := fun p s v ⟨d, r, hs⟩ => by
        obtain ⟨d1, d2, d3, d4⟩ := d
        rw [h1 _ (by omega) (by omega)] at hs
        exact absurd hs (by decide)
      have hy0 : y_ok k σ := ⟨fun p j p0 p1 j0 j1 hs => by
        rw [h1 _ (by omega) (by omega)] at hs
        exact absurd hs (by decide), fun p s v hq => absurd hq (hE p s v), fun p s v hq => absurd hq (hE p s v)⟩
      have tt : (true = true) = True := eq_true rfl
      have ff : (false = true) = False := eq_false (by decide)
      have fin : ∀ σ' α' : sT, y_ok k σ' → fx_ k (decide (¬ md = 0)) (sM k σ') → ∃ n45 : Nat, wY_analyse_45 post (iI (-kh k)) (iI (kh k - 1)) (iI (kP k)) (iI (kV k)) (iI (kC k)) (iI (kE k)) (iI (kN k)) 1 y.2.1 y.2.2.1 y.2.2.2.1 y.2.2.2.2.1 (yP k) (xH k) (yB (σ')) (yB (α')) y.2.2.2.2.2 n45 0 0 := fun σ' α' hy' hfx => by
        have hc0 : cq_ k (sM k σ') 0 = 0 := rfl
        have := y_an45 (y := (1, y.2)) (post := post) (σ := σ') (α := α') ok (by decide : ¬ (1 : Int32) = 0) (h σ' α' hy' hfx) 30 0 (by omega) (by omega) (by omega)
        rw [hc0] at this
        exact ⟨30, this⟩
      refine y_swp ok true (fun A => k_lf k A) (fun A => 1280 - k_ct A) rfl (fun A A' p hA hg up => ?_) (fun σ' α' hy' hl hF => ?_) hy0 (k_lf0 k hE) (by omega)
      · have upT : k_up k True p A A' := by rw [tt] at up; exact up
        obtain ⟨u1, u2⟩ := k_lfu hA upT
        refine ⟨u1, fun s v hne => ?_⟩
        have hlt := k_ctl ok (k_upg ok hg up) u2 (p := p) (s := s) (v := v) (fun ha => hne ⟨fun _ => u2 p s v ha, fun _ => ha⟩) (by
          by_cases hb : A' p s v
          · exact hb
          · exact absurd ⟨fun ha => absurd (u2 p s v ha) hb, fun hb2 => absurd hb2 hb⟩ hne)
        have hm := k_ctm A'
        show 1280 - k_ct A' < 1280 - k_ct A
        omega
      · rw [tt] at hF
        refine And.intro (fun em => fin σ' α' hy' ⟨_, hl, hF, Or.inl ⟨decide_eq_false (fun q => q em), rfl⟩⟩) (fun em => ?_)
        refine y_swp ok false (fun A => k_gf k (sM k σ') A) (fun A => k_ct A) rfl (fun A A' p hA hg up => ?_) (fun σ'' α'' hy'' hl2 hF2 => ?_) hy' (k_gf0 fun p s v => (hF p s v).mp) (k_ctm _)
        · have upF : k_up k False p A A' := by rw [ff] at up; exact up
          obtain ⟨u1, u2⟩ := k_gfu hA upF
          refine ⟨u1, fun s v hne => ?_⟩
          refine k_ctl ok hg u2 (p := p) (s := s) (v := v) (fun ha => hne ⟨fun _ => ha, fun _ => u2 p s v ha⟩) (by
            by_cases hb : A p s v
            · exact hb
            · exact absurd ⟨fun hb2 => absurd hb2 hb, fun ha => absurd (u2 p s v ha) hb⟩ hne)
        · rw [ff] at hF2
          exact fin σ'' α'' hy'' ⟨_, hl, hF, Or.inr ⟨decide_eq_true em, hl2, hF2⟩⟩
    · by_cases ej : j = i
      · rw [ej, bw_s]
      · rw [bw_n _ _ ej]
        exact h1 j j0 (by omega)
theorem y_ana {post : Int32 → SY → Prop} (ok : k_ok k) (md : Int32) {σ α : sT} (h : ∀ σ' α' : sT, y_ok k σ' → fx_ k (decide (¬ md = 0)) (sM k σ') → post (iI (cq_ k (sM k σ') (kE k))) (YC k (1, y.2) σ' α')) : wpY_analyse post (YC k y σ α) md := by
  exact Exists.intro 2000 (y_an2 ok md h 2000 0 σ (fun j j0 j1 => by omega) (by omega) (by omega) (by omega))
end
end
section
/-! ===== the relation ===== -/
abbrev yZ (z : zT) (me : Nat → Int32) : yT := (z.1, z.2.1, z.2.2.1, z.2.2.2.1, z.2.2.2.2.1, me)
/-- the machines: the same point, the same pending input, the same values -/
def m_ok (k : kT) (z : zT) (me : Nat → Int32) : Prop := (∃ cp, 0 ≤ cp ∧ cp < kP k ∧ z.2.1 = iI cp) ∧ (∃ pi, -kh k ≤ pi ∧ pi < kh k ∧ z.2.2.2.2.1 = iI pi) ∧ (∀ i, 0 ≤ i → i < kV k → ∃ a, -kh k ≤ a ∧ a < kh k ∧ rd z.2.2.2.2.2.1 i = iI a ∧ rd me i = iI a) ∧ (∀ i, 0 ≤ i → i < kC k → ∃ a, -kh k ≤ a ∧ a < kh k ∧ rd z.2.2.2.2.2.2 i = iI a ∧ rd me (kV k + i) = iI a)
def i_Rel (_ : Nat) (u : SX) (v : SY) : Prop := ∃ (k : kT) (z : zT) (R : rT) (M : mT) (me : Nat → Int32) (σ α : sT), u = XC k z R M ∧ v = YC k (yZ z me) σ α ∧ k_ok k ∧ m_ok k z me ∧ (¬ z.1 = 0 → x_ok k M ∧ y_ok k σ ∧ xM k M = sM k σ)
theorem i_up {k : Nat} {u : SX} {v : SY} (h : i_Rel k u v) : i_Rel (k + 5) u v := h
/-- the program with edge e0 replaced and E edges -/
def ks (k : kT) (E e0 : Int) (g : Int → Int) : kT := (kB k, kP k, kV k, kC k, E, kN k, fun e f => if e = e0 then g f else kA k e f, kH k)
theorem ks_ok {k : kT} (ok : k_ok k) {E e0 : Int} {g : Int → Int} (hE : 0 ≤ E ∧ E ≤ 20) (h : ∀ e, 0 ≤ e → e < E → e ≠ e0 → e < kE k) (hg : ed_ok (kh k) (kP k) (kV k) g) : k_ok (ks k E e0 g) := by
  refine ⟨ok.1, ⟨ok.2.1.1, ok.2.1.2.1, ok.2.1.2.2.1, ok.2.1.2.2.2.1, ok.2.1.2.2.2.2.1, ok.2.1.2.2.2.2.2.1, hE.1, hE.2, ok.2.1.2.2.2.2.2.2.2.2.1, ok.2.1.2.2.2.2.2.2.2.2.2⟩, fun e e1 e2 => ?_, ok.2.2.2⟩
  show ed_ok (kh k) (kP k) (kV k) (fun f => if e = e0 then g f else kA k e f)
  by_cases ee : e = e0
  · rw [show (fun f => if e = e0 then g f else kA k e f) = g from funext fun f => if_pos ee]
    exact hg
  · rw [show (fun f => if e = e0 then g f else kA k e f) = kA k e from funext fun f => if_neg ee]
    exact ok.2.2.1 e e1 (h e e1 e2 ee)
theorem xa_u (k : kT) {E e0 : Int} (g : Int → Int) (f : Int) {x : Int32} (h : 0 ≤ e0 ∧ e0 ≤ 1000) (hx : x = iI (g f)) : upd (xA k f) (iI e0).toNatClampNeg x = xA (ks k E e0 g) f := by
  funext j
  show upd (xA k f) (iI e0).toNatClampNeg x j = iI (if (j : Int) = e0 then g f else kA k (j : Int) f)
  unfold upd
  by_cases e : (j : Int) = e0
  · rw [if_pos ((ci_j h j).mpr e), if_pos e, hx]
  · rw [if_neg (fun x => e ((ci_j h j).mp x)), if_neg e]
    rfl
theorem xa_k (k : kT) {E e0 : Int} (g : Int → Int) (f : Int) (hx : g f = kA k e0 f) : xA k f = xA (ks k E e0 g) f := by
  funext j
  show iI (kA k (j : Int) f) = iI (if (j : Int) = e0 then g f else kA k (j : Int) f)
  by_cases e : (j : Int) = e0
  · rw [if_pos e, hx, e]
  · rw [if_neg e]
theorem yp_u (k : kT) {E e0 : Int} (g : Int → Int) {p2 p3 p4 p5 p6 x2 x3 x4 x5 x6 : Int32} (h : 0 ≤ e0 ∧ e0 < 20) (e2 : x2 = iI (e0 * 7 + 2)) (e3 : x3 = iI (e0 * 7 + 3)) (e4 : x4 = iI (e0 * 7 + 4)) (e5 : x5 = iI (e0 * 7 + 5)) (e6 : x6 = iI (e0 * 7 + 6)) (h2 : p2 = iI (g 2)) (h3 : p3 = iI (g 3)) (h4 : p4 = iI (g 4)) (h5 : p5 = iI (g 5)) (h6 : p6 = iI (g 6)) (g0 : g 0 = kA k e0 0) (g1 : g 1 = kA k e0 1) : upd (upd (upd (upd (upd (yP k) x2.toNatClampNeg p2) x3.toNatClampNeg p3) x4.toNatClampNeg p4) x5.toNatClampNeg p5) x6.toNatClampNeg p6 = yP (ks k E e0 g) := by
  subst e2 e3 e4 e5 e6 h2 h3 h4 h5 h6
  funext j
  show _ = iI (if (j : Int) / 7 = e0 then g ((j : Int) % 7) else kA k ((j : Int) / 7) ((j : Int) % 7))
  unfold upd
  rw [ii_clamp (by omega), ii_clamp (by omega), ii_clamp (by omega), ii_clamp (by omega), ii_clamp (by omega)]
  by_cases c6 : j = (e0 * 7 + 6).toNat
  · rw [if_pos c6, if_pos (by omega), show (j : Int) % 7 = 6 by omega]
  rw [if_neg c6]
  by_cases c5 : j = (e0 * 7 + 5).toNat
  · rw [if_pos c5, if_pos (by omega), show (j : Int) % 7 = 5 by omega]
  rw [if_neg c5]
  by_cases c4 : j = (e0 * 7 + 4).toNat
  · rw [if_pos c4, if_pos (by omega), show (j : Int) % 7 = 4 by omega]
  rw [if_neg c4]
  by_cases c3 : j = (e0 * 7 + 3).toNat
  · rw [if_pos c3, if_pos (by omega), show (j : Int) % 7 = 3 by omega]
  rw [if_neg c3]
  by_cases c2 : j = (e0 * 7 + 2).toNat
  · rw [if_pos c2, if_pos (by omega), show (j : Int) % 7 = 2 by omega]
  rw [if_neg c2]
  unfold yP
  by_cases c : (j : Int) / 7 = e0
  · rw [if_pos c, c]
    rcases (by omega : (j : Int) % 7 = 0 ∨ (j : Int) % 7 = 1) with q | q
    · rw [q, g0]
    · rw [q, g1]
  · rw [if_neg c]
theorem yp_v (k : kT) {E e0 : Int} (g : Int → Int) {p0 p1 x0 x1 : Int32} (h : 0 ≤ e0 ∧ e0 < 20) (e0' : x0 = iI (e0 * 7 + 0)) (e1 : x1 = iI (e0 * 7 + 1)) (h0 : p0 = iI (g 0)) (h1 : p1 = iI (g 1)) (hg : ∀ f, 2 ≤ f → g f = kA k e0 f) : upd (upd (yP k) x0.toNatClampNeg p0) x1.toNatClampNeg p1 = yP (ks k E e0 g) := by
  subst e0' e1 h0 h1
  funext j
  show _ = iI (if (j : Int) / 7 = e0 then g ((j : Int) % 7) else kA k ((j : Int) / 7) ((j : Int) % 7))
  unfold upd
  rw [ii_clamp (by omega), ii_clamp (by omega)]
  by_cases c1 : j = (e0 * 7 + 1).toNat
  · rw [if_pos c1, if_pos (by omega), show (j : Int) % 7 = 1 by omega]
  rw [if_neg c1]
  by_cases c0 : j = (e0 * 7 + 0).toNat
  · rw [if_pos c0, if_pos (by omega), show (j : Int) % 7 = 0 by omega]
  rw [if_neg c0]
  unfold yP
  by_cases c : (j : Int) / 7 = e0
  · rw [if_pos c, c, hg _ (by omega)]
  · rw [if_neg c]
def g7 (a0 a1 a2 a3 a4 a5 a6 : Int) : Int → Int := fun f => if f = 0 then a0 else if f = 1 then a1 else if f = 2 then a2 else if f = 3 then a3 else if f = 4 then a4 else if f = 5 then a5 else a6
section
variable {k : kT} {z : zT} {R : rT} {M : mT}
theorem x_rs40 {post : SX → Prop} (ok : k_ok k) {an cp st fe pi : Int32} {va : Nat → Int32} (h : ∀ ce' : Nat → Int32, (∀ j, 0 ≤ j → j < kC k → rd ce' j = 0) → post (XC k (an, cp, st, fe, pi, va, ce') R M)) : ∀ (n : Nat) (i : Int) (ce : Nat → Int32), (∀ j, 0 ≤ j → j < i → rd ce j = 0) → 0 ≤ i → i ≤ kC k → (kC k - i).toNat < n → wX_restart_40 post (iI (kB k)) (iI (kP k)) (iI (kV k)) (iI (kC k)) (iI (-kh k)) (iI (kh k - 1)) (iI (kE k)) (iI (kN k)) (an, cp, st, fe, pi, va, ce).1 40 44 48 49 50 51 (an, cp, st, fe, pi, va, ce).2.1 (an, cp, st, fe, pi, va, ce).2.2.1 (an, cp, st, fe, pi, va, ce).2.2.2.1 (an, cp, st, fe, pi, va, ce).2.2.2.2.1 n (iI i) (xA k 0) (xA k 1) (xA k 2) (xA k 3) (xA k 4) (xA k 5) (xA k 6) (xH k) (xL (M)) (xU (M)) (xS (M)) R.1 R.2.1 R.2.2.1 R.2.2.2 (an, cp, st, fe, pi, va, ce).2.2.2.2.2.1 (an, cp, st, fe, pi, va, ce).2.2.2.2.2.2
  | 0, _, _, _, _, _, hn => by omega
  | n + 1, i, ce, h1, i0, i1, hn => by
    have hV := ok.2.1
    refine ib_le (kC k) i (fun e => h ce (fun j j0 j1 => h1 j j0 (by omega))) (fun e => And.intro (ii_in (by omega) (by omega) (by omega)) (nm_e (nm_r (ii_add i 1) (x_rs40 ok h n (i + 1) (upd ce (iI i).toNatClampNeg 0) (fun j j0 j1 => ?_) (by omega) (by omega) (by omega))))) rfl rfl (by omega)
    by_cases ej : j = i
    · rw [ej, rd_s _ _ (by omega)]
    · rw [rd_n _ _ (by omega) j0 ej]
      exact h1 j j0 (by omega)
theorem x_rs17 {post : SX → Prop} (ok : k_ok k) {an cp st fe pi : Int32} {ce : Nat → Int32} (h : ∀ va' ce' : Nat → Int32, (∀ j, 0 ≤ j → j < kV k → rd va' j = 0) → (∀ j, 0 ≤ j → j < kC k → rd ce' j = 0) → post (XC k (an, cp, st, fe, pi, va', ce') R M)) : ∀ (n : Nat) (i : Int) (va : Nat → Int32), (∀ j, 0 ≤ j → j < i → rd va j = 0) → 0 ≤ i → i ≤ kV k → (kV k - i).toNat < n → wX_restart_17 post (iI (kB k)) (iI (kP k)) (iI (kV k)) (iI (kC k)) (iI (-kh k)) (iI (kh k - 1)) (iI (kE k)) (iI (kN k)) (an, cp, st, fe, pi, va, ce).1 40 44 48 49 50 51 (an, cp, st, fe, pi, va, ce).2.1 (an, cp, st, fe, pi, va, ce).2.2.1 (an, cp, st, fe, pi, va, ce).2.2.2.1 (an, cp, st, fe, pi, va, ce).2.2.2.2.1 n (iI i) (xA k 0) (xA k 1) (xA k 2) (xA k 3) (xA k 4) (xA k 5) (xA k 6) (xH k) (xL (M)) (xU (M)) (xS (M)) R.1 R.2.1 R.2.2.1 R.2.2.2 (an, cp, st, fe, pi, va, ce).2.2.2.2.2.1 (an, cp, st, fe, pi, va, ce).2.2.2.2.2.2
  | 0, _, _, _, _, _, hn => by omega
  | n + 1, i, va, h1, i0, i1, hn => by
    have hV := ok.2.1
    refine ib_le (kV k) i (fun e => Exists.intro 20 (x_rs40 ok (fun ce' hc => h va ce' (fun j j0 j1 => h1 j j0 (by omega)) hc) 20 0 ce (fun j j0 j1 => by omega) (by omega) (by omega) (by omega))) (fun e => And.intro (ii_in (by omega) (by omega) (by omega)) (nm_e (nm_r (ii_add i 1) (x_rs17 ok h n (i + 1) (upd va (iI i).toNatClampNeg 0) (fun j j0 j1 => ?_) (by omega) (by omega) (by omega))))) rfl rfl (by omega)
    by_cases ej : j = i
    · rw [ej, rd_s _ _ (by omega)]
    · rw [rd_n _ _ (by omega) j0 ej]
      exact h1 j j0 (by omega)
theorem x_rst {post : SX → Prop} (ok : k_ok k) (h : ∀ va' ce' : Nat → Int32, (∀ j, 0 ≤ j → j < kV k → rd va' j = 0) → (∀ j, 0 ≤ j → j < kC k → rd ce' j = 0) → post (XC k (z.1, 0, 0, -1, z.2.2.2.2.1, va', ce') R M)) : wpX_restart post (XC k z R M) := by
  have hV := ok.2.1
  exact Exists.intro 20 (x_rs17 (ce := z.2.2.2.2.2.2) ok h 20 0 z.2.2.2.2.2.1 (fun j j0 j1 => by omega) (by omega) (by omega) (by omega))
theorem x_sl {post : Int32 → SX → Prop} (ok : k_ok k) {g : Int → Int} {p0 p1 p2 p3 p4 : Int32} (hE : 1 ≤ kE k) (g0 : g 0 = kA k (kE k - 1) 0) (g1 : g 1 = kA k (kE k - 1) 1) (h0 : p0 = iI (g 2)) (h1 : p1 = iI (g 3)) (h2 : p2 = iI (g 4)) (h3 : p3 = iI (g 5)) (h4 : p4 = iI (g 6)) (ok2 : k_ok (ks k (kE k) (kE k - 1) g)) (h : ∀ va' ce' : Nat → Int32, (∀ j, 0 ≤ j → j < kV k → rd va' j = 0) → (∀ j, 0 ≤ j → j < kC k → rd ce' j = 0) → post 1 (XC (ks k (kE k) (kE k - 1) g) (0, 0, 0, -1, z.2.2.2.2.1, va', ce') R M)) : wpX_setLast post (XC k z R M) p0 p1 p2 p3 p4 := by
  have hV := ok.2.1
  have hin : vp_in (iI (kE k - 1)) 20 := ii_in (by omega) (by omega) (by omega)
  refine nm_r (ii_sub (kE k) 1) (ib_le 0 (kE k - 1) (fun _ => And.intro hin (nm_r (xa_u k (E := kE k) g 2 (by omega) h0) (And.intro hin (nm_r (xa_u k (E := kE k) g 3 (by omega) h1) (And.intro hin (nm_r (xa_u k (E := kE k) g 4 (by omega) h2) (And.intro hin (nm_r (xa_u k (E := kE k) g 5 (by omega) h3) (And.intro hin (nm_r (xa_u k (E := kE k) g 6 (by omega) h4) ?_)))))))))) (fun e => by omega) rfl rfl (by omega))
  dsimp only
  rw [xa_k k (E := kE k) (e0 := kE k - 1) g 0 g0, xa_k k (E := kE k) (e0 := kE k - 1) g 1 g1]
  exact x_rst (z := (0, z.2)) ok2 h
theorem x_var {post : Int32 → Prop} (ok : k_ok k) (v : Int32) (ht : 0 ≤ v.toInt → v.toInt < kV k → post 1) (hf : ¬ (0 ≤ v.toInt ∧ v.toInt < kV k) → post 0) : wpX_isVar post (XC k z R M) v := by
  have hV := ok.2.1
  exact iw_lt v.toInt 0 (fun e => hf (by omega)) (fun e => iw_le (kV k) v.toInt (fun e2 => hf (by omega)) (fun e2 => ht e e2) (ii_toInt (by omega)) rfl)
theorem x_op {post : Int32 → Prop} (v : Int32) (ht : 0 ≤ v.toInt → v.toInt ≤ 3 → post 1) (hf : ¬ (0 ≤ v.toInt ∧ v.toInt ≤ 3) → post 0) : wpX_isOp post (XC k z R M) v := iw_lt v.toInt 0 (fun e => hf (by omega)) (fun e => iw_lt 3 v.toInt (fun e2 => hf (by omega)) (fun e2 => ht e e2))
theorem x_rel {post : Int32 → Prop} (v : Int32) (ht : 0 ≤ v.toInt → v.toInt ≤ 6 → post 1) (hf : ¬ (0 ≤ v.toInt ∧ v.toInt ≤ 6) → post 0) : wpX_isRel post (XC k z R M) v := iw_lt v.toInt 0 (fun e => hf (by omega)) (fun e => iw_lt 6 v.toInt (fun e2 => hf (by omega)) (fun e2 => ht e e2))
end
section
variable {k : kT} {y : yT} {σ α : sT}
theorem y_rs2 {post : SY → Prop} (h : ∀ me' : Nat → Int32, (∀ j, 0 ≤ j → j < 11 → rd me' j = 0) → post (YC k (y.1, 0, 0, -1, y.2.2.2.2.1, me') σ α)) : ∀ (n : Nat) (i : Int) (me : Nat → Int32), (∀ j, 0 ≤ j → j < i → rd me j = 0) → 0 ≤ i → i ≤ 11 → (11 - i).toNat < n → wY_restart_2 post (iI (-kh k)) (iI (kh k - 1)) (iI (kP k)) (iI (kV k)) (iI (kC k)) (iI (kE k)) (iI (kN k)) y.1 y.2.1 y.2.2.1 y.2.2.2.1 y.2.2.2.2.1 n (iI i) (yP k) (xH k) (yB σ) (yB α) me
  | 0, _, _, _, _, _, hn => by omega
  | n + 1, i, me, h1, i0, i1, hn => by
    refine ib_le 11 i (fun e => h me (fun j j0 j1 => h1 j j0 (by omega))) (fun e => And.intro (ii_in (by omega) (by omega) (by omega)) (nm_e (nm_r (ii_add i 1) (y_rs2 h n (i + 1) (upd me (iI i).toNatClampNeg 0) (fun j j0 j1 => ?_) (by omega) (by omega) (by omega))))) rfl rfl (by omega)
    by_cases ej : j = i
    · rw [ej, rd_s _ _ (by omega)]
    · rw [rd_n _ _ (by omega) j0 ej]
      exact h1 j j0 (by omega)
theorem y_rst {post : SY → Prop} (h : ∀ me' : Nat → Int32, (∀ j, 0 ≤ j → j < 11 → rd me' j = 0) → post (YC k (y.1, 0, 0, -1, y.2.2.2.2.1, me') σ α)) : wpY_restart post (YC k y σ α) := by
  exact Exists.intro 20 (y_rs2 h 20 0 y.2.2.2.2.2 (fun j j0 j1 => by omega) (by omega) (by omega) (by omega))
theorem y_set {post : Int32 → SY → Prop} (ok : k_ok k) {g : Int → Int} {p0 p1 p2 p3 p4 : Int32} (hE : 1 ≤ kE k) (g0 : g 0 = kA k (kE k - 1) 0) (g1 : g 1 = kA k (kE k - 1) 1) (h0 : p0 = iI (g 2)) (h1 : p1 = iI (g 3)) (h2 : p2 = iI (g 4)) (h3 : p3 = iI (g 5)) (h4 : p4 = iI (g 6)) (h : ∀ me' : Nat → Int32, (∀ j, 0 ≤ j → j < 11 → rd me' j = 0) → post 1 (YC (ks k (kE k) (kE k - 1) g) (0, 0, 0, -1, y.2.2.2.2.1, me') σ α)) : wpY_set post (YC k y σ α) p0 p1 p2 p3 p4 := by
  have hV := ok.2.1
  have e7 : ∀ (f : Int) (c : Int32), c = iI f → iI ((kE k - 1) * 7) + c = iI ((kE k - 1) * 7 + f) := fun f c hc => by rw [hc, ii_add]
  refine ib_eq (kE k) 0 (fun e => by omega) (fun _ => nm_r (e' := iI ((kE k - 1) * 7)) (by rw [ii_1, ii_sub, ii_7, ii_mul]) (And.intro (yp_in (e7 2 2 rfl) (by omega) (by omega)) (nm_e (And.intro (yp_in (e7 3 3 rfl) (by omega) (by omega)) (nm_e (And.intro (yp_in (e7 4 4 rfl) (by omega) (by omega)) (nm_e (And.intro (yp_in (e7 5 5 rfl) (by omega) (by omega)) (nm_e (And.intro (yp_in (e7 6 6 rfl) (by omega) (by omega)) (nm_r (yp_u k (E := kE k) g (by omega) (e7 2 2 rfl) (e7 3 3 rfl) (e7 4 4 rfl) (e7 5 5 rfl) (e7 6 6 rfl) h0 h1 h2 h3 h4 g0 g1) (y_rst (k := ks k (kE k) (kE k - 1) g) (y := (0, y.2)) h)))))))))))) rfl rfl (by omega)
theorem y_set0 {post : Int32 → SY → Prop} (hE : kE k = 0) (p0 p1 p2 p3 p4 : Int32) (h : post (-1) (YC k y σ α)) : wpY_set post (YC k y σ α) p0 p1 p2 p3 p4 := ib_eq (kE k) 0 (fun _ => h) (fun e => absurd hE e) rfl rfl (by omega)
theorem y_var {post : Int32 → Prop} (ok : k_ok k) (v : Int32) (ht : 0 ≤ v.toInt → v.toInt < kV k → post 1) (hf : ¬ (0 ≤ v.toInt ∧ v.toInt < kV k) → post 0) : wpY_isVar post (YC k y σ α) v := by
  have hV := ok.2.1
  exact iw_lt v.toInt 0 (fun e => hf (by omega)) (fun e => iw_le (kV k) v.toInt (fun e2 => hf (by omega)) (fun e2 => ht e e2) (ii_toInt (by omega)) rfl)
end
/-- the machines after a restart -/
theorem m_z {k : kT} (ok : k_ok k) {an st fe pe : Int32} {va ce me : Nat → Int32} (hp : ∃ pi, -kh k ≤ pi ∧ pi < kh k ∧ pe = iI pi) (h1 : ∀ j, 0 ≤ j → j < kV k → rd va j = 0) (h2 : ∀ j, 0 ≤ j → j < kC k → rd ce j = 0) (h3 : ∀ j, 0 ≤ j → j < 11 → rd me j = 0) : m_ok k (an, 0, st, fe, pe, va, ce) me := by
  have hV := ok.2.1
  have hh := k_h ok
  refine ⟨⟨0, by omega, by omega, rfl⟩, hp, fun i i0 i1 => ⟨0, by omega, by omega, h1 i i0 i1, h3 i i0 (by omega)⟩, fun i i0 i1 => ⟨0, by omega, by omega, h2 i i0 i1, h3 _ (by omega) (by omega)⟩⟩
/-- the last edge set on both sides -/
theorem r_set {n : Nat} {k : kT} (ok : k_ok k) {z : zT} {R : rT} {M : mT} {me : Nat → Int32} {σ α : sT} (mo : m_ok k z me) {g : Int → Int} (ok2 : k_ok (ks k (kE k) (kE k - 1) g)) {va ce me' : Nat → Int32} (h1 : ∀ j, 0 ≤ j → j < kV k → rd va j = 0) (h2 : ∀ j, 0 ≤ j → j < kC k → rd ce j = 0) (h3 : ∀ j, 0 ≤ j → j < 11 → rd me' j = 0) : i_Rel n (XC (ks k (kE k) (kE k - 1) g) (0, 0, 0, -1, z.2.2.2.2.1, va, ce) R M) (YC (ks k (kE k) (kE k - 1) g) (0, 0, 0, -1, z.2.2.2.2.1, me') σ α) :=
  ⟨ks k (kE k) (kE k - 1) g, (0, 0, 0, -1, z.2.2.2.2.1, va, ce), R, M, me', σ, α, rfl, rfl, ok2, m_z ok2 mo.2.1 h1 h2 h3, fun e => absurd rfl e⟩
end
section
/-! ===== the methods that set the last edge (printed by a small program) ===== -/
theorem ed_g {h P V a0 a1 a2 a3 a4 a5 a6 : Int} (H0 : 0 ≤ a0 ∧ a0 < P ∧ 0 ≤ a1 ∧ a1 < P ∧ 0 ≤ a2 ∧ a2 ≤ 8 ∧ 0 ≤ a3 ∧ a3 < V) (H1 : a2 = 1 → 0 ≤ a4 ∧ a4 ≤ 3 ∧ 0 ≤ a5 ∧ a5 < V ∧ 0 ≤ a6 ∧ a6 < V) (H2 : a2 = 2 → 0 ≤ a4 ∧ a4 ≤ 3 ∧ 0 ≤ a5 ∧ a5 < V ∧ -h ≤ a6 ∧ a6 < h) (H3 : a2 = 3 → -h ≤ a4 ∧ a4 ≤ a5 ∧ a5 < h) (H4 : a2 = 4 → 0 ≤ a4 ∧ a4 ≤ 6 ∧ 0 ≤ a5 ∧ a5 < V) (H5 : a2 = 5 → 0 ≤ a4 ∧ a4 ≤ 6 ∧ -h ≤ a5 ∧ a5 < h) (H6 : a2 = 6 → 0 ≤ a4 ∧ a4 < V ∧ 0 ≤ a5 ∧ a5 ≤ 6 ∧ -h ≤ a6 ∧ a6 < h) (H7 : a2 = 7 ∨ a2 = 8 → 0 ≤ a4 ∧ a4 < V) (H9 : -20 ≤ a4 ∧ a4 ≤ 20 ∧ -20 ≤ a5 ∧ a5 ≤ 20 ∧ -20 ≤ a6 ∧ a6 ≤ 20) (H10 : a2 = 4 ∨ a2 = 5 → a6 = 0 ∨ a6 = 1) : ed_ok h P V (g7 a0 a1 a2 a3 a4 a5 a6) := ⟨H0, H1, H2, H3, H4, H5, H6, H7, H9, H10⟩
theorem ks_l {k : kT} (ok : k_ok k) {g : Int → Int} (hE : 1 ≤ kE k) (hg : ed_ok (kh k) (kP k) (kV k) g) : k_ok (ks k (kE k) (kE k - 1) g) := ks_ok ok ⟨ok.2.1.2.2.2.2.2.2.1, ok.2.1.2.2.2.2.2.2.2.1⟩ (fun _ _ q _ => q) hg
theorem lt_b {v : Int32} {a : Int} (h0 : 0 ≤ v.toInt) (h1 : v.toInt ≤ a) (ha : a ≤ 1000) : v = iI v.toInt := ii_of v
theorem ok_assign {k : kT} (ok : k_ok k) (v1 : Int32) (v2 : Int32) (v3 : Int32) (v4 : Int32) (hv : 1 ≤ kE k ∧ (0 ≤ v1.toInt ∧ v1.toInt < kV k) ∧ (0 ≤ v3.toInt ∧ v3.toInt < kV k) ∧ (0 ≤ v4.toInt ∧ v4.toInt < kV k) ∧ (0 ≤ v2.toInt ∧ v2.toInt ≤ 3)) : k_ok (ks k (kE k) (kE k - 1) (g7 (kA k (kE k - 1) 0) (kA k (kE k - 1) 1) (1) (v1.toInt) (v2.toInt) (v3.toInt) (v4.toInt))) := by
  have hV := ok.2.1
  have hh := k_h ok
  have ho := (ok.2.2.1 (kE k - 1) (by omega) (by omega)).1
  exact ks_l ok hv.1 (ed_g (by first | omega | (refine ⟨?_, ?_, ?_, ?_, ?_, ?_⟩ <;> first | omega | (split <;> omega)) | (refine ⟨?_, ?_, ?_, ?_, ?_, ?_, ?_, ?_⟩ <;> first | omega | (split <;> omega))) (fun q => by first | omega | (split at q <;> omega)) (fun q => by first | omega | (split at q <;> omega)) (fun q => by first | omega | (split at q <;> omega)) (fun q => by first | omega | (split at q <;> omega)) (fun q => by first | omega | (split at q <;> omega)) (fun q => by first | omega | (split at q <;> omega)) (fun q => by first | omega | (split at q <;> omega)) (by first | omega | (refine ⟨?_, ?_, ?_, ?_, ?_, ?_⟩ <;> first | omega | (split <;> omega)) | (refine ⟨?_, ?_, ?_, ?_, ?_, ?_, ?_, ?_⟩ <;> first | omega | (split <;> omega))) (fun q => by first | omega | (split <;> omega) | (split at q <;> omega)))
theorem xw_assign {post : Int32 → SX → Prop} {k : kT} {z : zT} {R : rT} {M : mT} (ok : k_ok k) (v1 : Int32) (v2 : Int32) (v3 : Int32) (v4 : Int32) (hg : (1 ≤ kE k ∧ (0 ≤ v1.toInt ∧ v1.toInt < kV k) ∧ (0 ≤ v3.toInt ∧ v3.toInt < kV k) ∧ (0 ≤ v4.toInt ∧ v4.toInt < kV k) ∧ (0 ≤ v2.toInt ∧ v2.toInt ≤ 3)) → ∀ va' ce' : Nat → Int32, (∀ j, 0 ≤ j → j < kV k → rd va' j = 0) → (∀ j, 0 ≤ j → j < kC k → rd ce' j = 0) → post 1 (XC (ks k (kE k) (kE k - 1) (g7 (kA k (kE k - 1) 0) (kA k (kE k - 1) 1) (1) (v1.toInt) (v2.toInt) (v3.toInt) (v4.toInt))) (0, 0, 0, -1, z.2.2.2.2.1, va', ce') R M)) (hb : ¬ (1 ≤ kE k ∧ (0 ≤ v1.toInt ∧ v1.toInt < kV k) ∧ (0 ≤ v3.toInt ∧ v3.toInt < kV k) ∧ (0 ≤ v4.toInt ∧ v4.toInt < kV k) ∧ (0 ≤ v2.toInt ∧ v2.toInt ≤ 3)) → post (-1) (XC k z R M)) : wpX_assign post (XC k z R M) v1 v2 v3 v4 := by
  have hV := ok.2.1
  have hh := k_h ok
  have bad : ¬ (1 ≤ kE k ∧ (0 ≤ v1.toInt ∧ v1.toInt < kV k) ∧ (0 ≤ v3.toInt ∧ v3.toInt < kV k) ∧ (0 ≤ v4.toInt ∧ v4.toInt < kV k) ∧ (0 ≤ v2.toInt ∧ v2.toInt ≤ 3)) → post (-1) (XC k z R M) := hb
  refine ib_eq (kE k) 0 (fun e => bad (by omega)) (fun e => ?_) rfl rfl (by omega)
  exact x_var ok v1 (fun a0 a1 => br_f (by decide) (x_var ok v3 (fun b0 b1 => br_f (by decide) (x_var ok v4 (fun c0 c1 => br_f (by decide) (x_op v2 (fun d0 d1 => br_f (by decide) (x_sl (g := g7 (kA k (kE k - 1) 0) (kA k (kE k - 1) 1) (1) (v1.toInt) (v2.toInt) (v3.toInt) (v4.toInt)) ok (by omega) rfl rfl rfl (ii_of v1) (ii_of v2) (ii_of v3) (ii_of v4) ((fun hv => ok_assign ok v1 v2 v3 v4 hv) (by omega)) (hg (by omega)))) (fun q => br_t rfl (bad (by omega))))) (fun q => br_t rfl (bad (by omega))))) (fun q => br_t rfl (bad (by omega))))) (fun q => br_t rfl (bad (by omega)))
theorem yw_assign {post : Int32 → SY → Prop} {k : kT} {y : yT} {σ α : sT} (ok : k_ok k) (v1 : Int32) (v2 : Int32) (v3 : Int32) (v4 : Int32) (hg : (1 ≤ kE k ∧ (0 ≤ v1.toInt ∧ v1.toInt < kV k) ∧ (0 ≤ v3.toInt ∧ v3.toInt < kV k) ∧ (0 ≤ v4.toInt ∧ v4.toInt < kV k) ∧ (0 ≤ v2.toInt ∧ v2.toInt ≤ 3)) → ∀ me' : Nat → Int32, (∀ j, 0 ≤ j → j < 11 → rd me' j = 0) → post 1 (YC (ks k (kE k) (kE k - 1) (g7 (kA k (kE k - 1) 0) (kA k (kE k - 1) 1) (1) (v1.toInt) (v2.toInt) (v3.toInt) (v4.toInt))) (0, 0, 0, -1, y.2.2.2.2.1, me') σ α)) (hb : ¬ (1 ≤ kE k ∧ (0 ≤ v1.toInt ∧ v1.toInt < kV k) ∧ (0 ≤ v3.toInt ∧ v3.toInt < kV k) ∧ (0 ≤ v4.toInt ∧ v4.toInt < kV k) ∧ (0 ≤ v2.toInt ∧ v2.toInt ≤ 3)) → post (-1) (YC k y σ α)) : wpY_assign post (YC k y σ α) v1 v2 v3 v4 := by
  have hV := ok.2.1
  have hh := k_h ok
  have bad : ¬ (1 ≤ kE k ∧ (0 ≤ v1.toInt ∧ v1.toInt < kV k) ∧ (0 ≤ v3.toInt ∧ v3.toInt < kV k) ∧ (0 ≤ v4.toInt ∧ v4.toInt < kV k) ∧ (0 ≤ v2.toInt ∧ v2.toInt ≤ 3)) → post (-1) (YC k y σ α) := hb
  unfold wpY_assign
  dsimp only [YC]
  exact y_var ok v1 (fun a0 a1 => br_f (by decide) (y_var ok v3 (fun b0 b1 => br_f (by decide) (y_var ok v4 (fun c0 c1 => br_f (by decide) (iw_lt v2.toInt 0 (fun q => bad (by omega)) (fun d0 => iw_le v2.toInt 3 (fun d1 => (by
    by_cases e0 : kE k = 0
    · exact y_set0 e0 _ _ _ _ _ (bad (by omega))
    · exact y_set (g := g7 (kA k (kE k - 1) 0) (kA k (kE k - 1) 1) (1) (v1.toInt) (v2.toInt) (v3.toInt) (v4.toInt)) ok (by omega) rfl rfl rfl (ii_of v1) (ii_of v2) (ii_of v3) (ii_of v4) (hg (by omega)))) (fun q => bad (by omega))))) (fun q => br_t rfl (bad (by omega))))) (fun q => br_t rfl (bad (by omega))))) (fun q => br_t rfl (bad (by omega)))
theorem i_vc_assign {k : Nat} {u : SX} {v : SY} (I : i_Rel k u v) (hk : k + 5 ≤ 2564) (v1 : Int32) (v2 : Int32) (v3 : Int32) (v4 : Int32) : wpX_assign (fun r u' => wpY_assign (fun r' v' => r' = r ∧ i_Rel (k + 5) u' v') v v1 v2 v3 v4) u v1 v2 v3 v4 := by
  obtain ⟨K, z, R, M, me, σ, α, rfl, rfl, ok, mo, hA⟩ := I
  refine xw_assign ok v1 v2 v3 v4 (fun hv va ce h1 h2 => yw_assign ok v1 v2 v3 v4 (fun _ me' h3 => ⟨rfl, r_set ok mo (ok_assign ok v1 v2 v3 v4 hv) h1 h2 h3⟩) (fun hn => absurd hv hn)) (fun hn => yw_assign ok v1 v2 v3 v4 (fun hv => absurd hv hn) (fun _ => ⟨rfl, K, z, R, M, me, σ, α, rfl, rfl, ok, mo, hA⟩))
theorem ok_assignConst {k : kT} (ok : k_ok k) (v1 : Int32) (v2 : Int32) (v3 : Int32) (v4 : Int32) (hv : 1 ≤ kE k ∧ (0 ≤ v1.toInt ∧ v1.toInt < kV k) ∧ (0 ≤ v3.toInt ∧ v3.toInt < kV k) ∧ (0 ≤ v2.toInt ∧ v2.toInt ≤ 3)) : k_ok (ks k (kE k) (kE k - 1) (g7 (kA k (kE k - 1) 0) (kA k (kE k - 1) 1) (2) (v1.toInt) (v2.toInt) (v3.toInt) (wr (kh k) v4.toInt))) := by
  have hV := ok.2.1
  have hh := k_h ok
  have ho := (ok.2.2.1 (kE k - 1) (by omega) (by omega)).1
  have hw := wr_in (h := kh k) v4.toInt hh
  exact ks_l ok hv.1 (ed_g (by first | omega | (refine ⟨?_, ?_, ?_, ?_, ?_, ?_⟩ <;> first | omega | (split <;> omega)) | (refine ⟨?_, ?_, ?_, ?_, ?_, ?_, ?_, ?_⟩ <;> first | omega | (split <;> omega))) (fun q => by first | omega | (split at q <;> omega)) (fun q => by first | omega | (split at q <;> omega)) (fun q => by first | omega | (split at q <;> omega)) (fun q => by first | omega | (split at q <;> omega)) (fun q => by first | omega | (split at q <;> omega)) (fun q => by first | omega | (split at q <;> omega)) (fun q => by first | omega | (split at q <;> omega)) (by first | omega | (refine ⟨?_, ?_, ?_, ?_, ?_, ?_⟩ <;> first | omega | (split <;> omega)) | (refine ⟨?_, ?_, ?_, ?_, ?_, ?_, ?_, ?_⟩ <;> first | omega | (split <;> omega))) (fun q => by first | omega | (split <;> omega) | (split at q <;> omega)))
theorem xw_assignConst {post : Int32 → SX → Prop} {k : kT} {z : zT} {R : rT} {M : mT} (ok : k_ok k) (v1 : Int32) (v2 : Int32) (v3 : Int32) (v4 : Int32) (hg : (1 ≤ kE k ∧ (0 ≤ v1.toInt ∧ v1.toInt < kV k) ∧ (0 ≤ v3.toInt ∧ v3.toInt < kV k) ∧ (0 ≤ v2.toInt ∧ v2.toInt ≤ 3)) → ∀ va' ce' : Nat → Int32, (∀ j, 0 ≤ j → j < kV k → rd va' j = 0) → (∀ j, 0 ≤ j → j < kC k → rd ce' j = 0) → post 1 (XC (ks k (kE k) (kE k - 1) (g7 (kA k (kE k - 1) 0) (kA k (kE k - 1) 1) (2) (v1.toInt) (v2.toInt) (v3.toInt) (wr (kh k) v4.toInt))) (0, 0, 0, -1, z.2.2.2.2.1, va', ce') R M)) (hb : ¬ (1 ≤ kE k ∧ (0 ≤ v1.toInt ∧ v1.toInt < kV k) ∧ (0 ≤ v3.toInt ∧ v3.toInt < kV k) ∧ (0 ≤ v2.toInt ∧ v2.toInt ≤ 3)) → post (-1) (XC k z R M)) : wpX_assignConst post (XC k z R M) v1 v2 v3 v4 := by
  have hV := ok.2.1
  have hh := k_h ok
  have bad : ¬ (1 ≤ kE k ∧ (0 ≤ v1.toInt ∧ v1.toInt < kV k) ∧ (0 ≤ v3.toInt ∧ v3.toInt < kV k) ∧ (0 ≤ v2.toInt ∧ v2.toInt ≤ 3)) → post (-1) (XC k z R M) := hb
  refine ib_eq (kE k) 0 (fun e => bad (by omega)) (fun e => ?_) rfl rfl (by omega)
  exact x_var ok v1 (fun a0 a1 => br_f (by decide) (x_var ok v3 (fun b0 b1 => br_f (by decide) (x_op v2 (fun d0 d1 => br_f (by decide) (x_wrap ok v4 (x_sl (g := g7 (kA k (kE k - 1) 0) (kA k (kE k - 1) 1) (2) (v1.toInt) (v2.toInt) (v3.toInt) (wr (kh k) v4.toInt)) ok (by omega) rfl rfl rfl (ii_of v1) (ii_of v2) (ii_of v3) rfl ((fun hv => ok_assignConst ok v1 v2 v3 v4 hv) (by omega)) (hg (by omega))))) (fun q => br_t rfl (bad (by omega))))) (fun q => br_t rfl (bad (by omega))))) (fun q => br_t rfl (bad (by omega)))
theorem yw_assignConst {post : Int32 → SY → Prop} {k : kT} {y : yT} {σ α : sT} (ok : k_ok k) (v1 : Int32) (v2 : Int32) (v3 : Int32) (v4 : Int32) (hg : (1 ≤ kE k ∧ (0 ≤ v1.toInt ∧ v1.toInt < kV k) ∧ (0 ≤ v3.toInt ∧ v3.toInt < kV k) ∧ (0 ≤ v2.toInt ∧ v2.toInt ≤ 3)) → ∀ me' : Nat → Int32, (∀ j, 0 ≤ j → j < 11 → rd me' j = 0) → post 1 (YC (ks k (kE k) (kE k - 1) (g7 (kA k (kE k - 1) 0) (kA k (kE k - 1) 1) (2) (v1.toInt) (v2.toInt) (v3.toInt) (wr (kh k) v4.toInt))) (0, 0, 0, -1, y.2.2.2.2.1, me') σ α)) (hb : ¬ (1 ≤ kE k ∧ (0 ≤ v1.toInt ∧ v1.toInt < kV k) ∧ (0 ≤ v3.toInt ∧ v3.toInt < kV k) ∧ (0 ≤ v2.toInt ∧ v2.toInt ≤ 3)) → post (-1) (YC k y σ α)) : wpY_assignConst post (YC k y σ α) v1 v2 v3 v4 := by
  have hV := ok.2.1
  have hh := k_h ok
  have bad : ¬ (1 ≤ kE k ∧ (0 ≤ v1.toInt ∧ v1.toInt < kV k) ∧ (0 ≤ v3.toInt ∧ v3.toInt < kV k) ∧ (0 ≤ v2.toInt ∧ v2.toInt ≤ 3)) → post (-1) (YC k y σ α) := hb
  unfold wpY_assignConst
  dsimp only [YC]
  exact y_var ok v1 (fun a0 a1 => br_f (by decide) (y_var ok v3 (fun b0 b1 => br_f (by decide) (iw_lt v2.toInt 0 (fun q => bad (by omega)) (fun d0 => iw_le v2.toInt 3 (fun d1 => y_wrap ok v4 (by
    by_cases e0 : kE k = 0
    · exact y_set0 e0 _ _ _ _ _ (bad (by omega))
    · exact y_set (g := g7 (kA k (kE k - 1) 0) (kA k (kE k - 1) 1) (2) (v1.toInt) (v2.toInt) (v3.toInt) (wr (kh k) v4.toInt)) ok (by omega) rfl rfl rfl (ii_of v1) (ii_of v2) (ii_of v3) rfl (hg (by omega)))) (fun q => bad (by omega))))) (fun q => br_t rfl (bad (by omega))))) (fun q => br_t rfl (bad (by omega)))
theorem i_vc_assignConst {k : Nat} {u : SX} {v : SY} (I : i_Rel k u v) (hk : k + 5 ≤ 2564) (v1 : Int32) (v2 : Int32) (v3 : Int32) (v4 : Int32) : wpX_assignConst (fun r u' => wpY_assignConst (fun r' v' => r' = r ∧ i_Rel (k + 5) u' v') v v1 v2 v3 v4) u v1 v2 v3 v4 := by
  obtain ⟨K, z, R, M, me, σ, α, rfl, rfl, ok, mo, hA⟩ := I
  refine xw_assignConst ok v1 v2 v3 v4 (fun hv va ce h1 h2 => yw_assignConst ok v1 v2 v3 v4 (fun _ me' h3 => ⟨rfl, r_set ok mo (ok_assignConst ok v1 v2 v3 v4 hv) h1 h2 h3⟩) (fun hn => absurd hv hn)) (fun hn => yw_assignConst ok v1 v2 v3 v4 (fun hv => absurd hv hn) (fun _ => ⟨rfl, K, z, R, M, me, σ, α, rfl, rfl, ok, mo, hA⟩))
theorem ok_input {k : kT} (ok : k_ok k) (v1 : Int32) (v2 : Int32) (v3 : Int32) (hv : 1 ≤ kE k ∧ (0 ≤ v1.toInt ∧ v1.toInt < kV k) ∧ wr (kh k) v2.toInt ≤ wr (kh k) v3.toInt) : k_ok (ks k (kE k) (kE k - 1) (g7 (kA k (kE k - 1) 0) (kA k (kE k - 1) 1) (3) (v1.toInt) (wr (kh k) v2.toInt) (wr (kh k) v3.toInt) (0))) := by
  have hV := ok.2.1
  have hh := k_h ok
  have ho := (ok.2.2.1 (kE k - 1) (by omega) (by omega)).1
  have w2 := wr_in (h := kh k) v2.toInt hh
  have w3 := wr_in (h := kh k) v3.toInt hh
  exact ks_l ok hv.1 (ed_g (by first | omega | (refine ⟨?_, ?_, ?_, ?_, ?_, ?_⟩ <;> first | omega | (split <;> omega)) | (refine ⟨?_, ?_, ?_, ?_, ?_, ?_, ?_, ?_⟩ <;> first | omega | (split <;> omega))) (fun q => by first | omega | (split at q <;> omega)) (fun q => by first | omega | (split at q <;> omega)) (fun q => by first | omega | (split at q <;> omega)) (fun q => by first | omega | (split at q <;> omega)) (fun q => by first | omega | (split at q <;> omega)) (fun q => by first | omega | (split at q <;> omega)) (fun q => by first | omega | (split at q <;> omega)) (by first | omega | (refine ⟨?_, ?_, ?_, ?_, ?_, ?_⟩ <;> first | omega | (split <;> omega)) | (refine ⟨?_, ?_, ?_, ?_, ?_, ?_, ?_, ?_⟩ <;> first | omega | (split <;> omega))) (fun q => by first | omega | (split <;> omega) | (split at q <;> omega)))
theorem xw_input {post : Int32 → SX → Prop} {k : kT} {z : zT} {R : rT} {M : mT} (ok : k_ok k) (v1 : Int32) (v2 : Int32) (v3 : Int32) (hg : (1 ≤ kE k ∧ (0 ≤ v1.toInt ∧ v1.toInt < kV k) ∧ wr (kh k) v2.toInt ≤ wr (kh k) v3.toInt) → ∀ va' ce' : Nat → Int32, (∀ j, 0 ≤ j → j < kV k → rd va' j = 0) → (∀ j, 0 ≤ j → j < kC k → rd ce' j = 0) → post 1 (XC (ks k (kE k) (kE k - 1) (g7 (kA k (kE k - 1) 0) (kA k (kE k - 1) 1) (3) (v1.toInt) (wr (kh k) v2.toInt) (wr (kh k) v3.toInt) (0))) (0, 0, 0, -1, z.2.2.2.2.1, va', ce') R M)) (hb : ¬ (1 ≤ kE k ∧ (0 ≤ v1.toInt ∧ v1.toInt < kV k) ∧ wr (kh k) v2.toInt ≤ wr (kh k) v3.toInt) → post (-1) (XC k z R M)) : wpX_input post (XC k z R M) v1 v2 v3 := by
  have hV := ok.2.1
  have hh := k_h ok
  have bad : ¬ (1 ≤ kE k ∧ (0 ≤ v1.toInt ∧ v1.toInt < kV k) ∧ wr (kh k) v2.toInt ≤ wr (kh k) v3.toInt) → post (-1) (XC k z R M) := hb
  have w2 := wr_in (h := kh k) v2.toInt hh
  have w3 := wr_in (h := kh k) v3.toInt hh
  unfold wpX_input
  dsimp only [XC, XD]
  refine x_wrap ok v2 (x_wrap ok v3 (ib_eq (kE k) 0 (fun e => bad (by omega)) (fun e => ?_) rfl rfl (by omega)))
  exact x_var ok v1 (fun a0 a1 => br_f (by decide) (ib_le (wr (kh k) v2.toInt) (wr (kh k) v3.toInt) (fun b0 => x_sl (g := g7 (kA k (kE k - 1) 0) (kA k (kE k - 1) 1) (3) (v1.toInt) (wr (kh k) v2.toInt) (wr (kh k) v3.toInt) (0)) ok (by omega) rfl rfl rfl (ii_of v1) rfl rfl rfl ((fun hv => ok_input ok v1 v2 v3 hv) (by omega)) (hg (by omega))) (fun q => bad (by omega)) rfl rfl (by omega))) (fun q => br_t rfl (bad (by omega)))
theorem yw_input {post : Int32 → SY → Prop} {k : kT} {y : yT} {σ α : sT} (ok : k_ok k) (v1 : Int32) (v2 : Int32) (v3 : Int32) (hg : (1 ≤ kE k ∧ (0 ≤ v1.toInt ∧ v1.toInt < kV k) ∧ wr (kh k) v2.toInt ≤ wr (kh k) v3.toInt) → ∀ me' : Nat → Int32, (∀ j, 0 ≤ j → j < 11 → rd me' j = 0) → post 1 (YC (ks k (kE k) (kE k - 1) (g7 (kA k (kE k - 1) 0) (kA k (kE k - 1) 1) (3) (v1.toInt) (wr (kh k) v2.toInt) (wr (kh k) v3.toInt) (0))) (0, 0, 0, -1, y.2.2.2.2.1, me') σ α)) (hb : ¬ (1 ≤ kE k ∧ (0 ≤ v1.toInt ∧ v1.toInt < kV k) ∧ wr (kh k) v2.toInt ≤ wr (kh k) v3.toInt) → post (-1) (YC k y σ α)) : wpY_input post (YC k y σ α) v1 v2 v3 := by
  have hV := ok.2.1
  have hh := k_h ok
  have bad : ¬ (1 ≤ kE k ∧ (0 ≤ v1.toInt ∧ v1.toInt < kV k) ∧ wr (kh k) v2.toInt ≤ wr (kh k) v3.toInt) → post (-1) (YC k y σ α) := hb
  have w2 := wr_in (h := kh k) v2.toInt hh
  have w3 := wr_in (h := kh k) v3.toInt hh
  unfold wpY_input
  dsimp only [YC]
  exact y_wrap ok v2 (y_wrap ok v3 (y_var ok v1 (fun a0 a1 => br_f (by decide) (ib_le (wr (kh k) v2.toInt) (wr (kh k) v3.toInt) (fun b0 => (by
    by_cases e0 : kE k = 0
    · exact y_set0 e0 _ _ _ _ _ (bad (by omega))
    · exact y_set (g := g7 (kA k (kE k - 1) 0) (kA k (kE k - 1) 1) (3) (v1.toInt) (wr (kh k) v2.toInt) (wr (kh k) v3.toInt) (0)) ok (by omega) rfl rfl rfl (ii_of v1) rfl rfl rfl (hg (by omega)))) (fun q => bad (by omega)) rfl rfl (by omega))) (fun q => br_t rfl (bad (by omega)))))
theorem i_vc_input {k : Nat} {u : SX} {v : SY} (I : i_Rel k u v) (hk : k + 5 ≤ 2564) (v1 : Int32) (v2 : Int32) (v3 : Int32) : wpX_input (fun r u' => wpY_input (fun r' v' => r' = r ∧ i_Rel (k + 5) u' v') v v1 v2 v3) u v1 v2 v3 := by
  obtain ⟨K, z, R, M, me, σ, α, rfl, rfl, ok, mo, hA⟩ := I
  refine xw_input ok v1 v2 v3 (fun hv va ce h1 h2 => yw_input ok v1 v2 v3 (fun _ me' h3 => ⟨rfl, r_set ok mo (ok_input ok v1 v2 v3 hv) h1 h2 h3⟩) (fun hn => absurd hv hn)) (fun hn => yw_input ok v1 v2 v3 (fun hv => absurd hv hn) (fun _ => ⟨rfl, K, z, R, M, me, σ, α, rfl, rfl, ok, mo, hA⟩))
theorem ok_test {k : kT} (ok : k_ok k) (v1 : Int32) (v2 : Int32) (v3 : Int32) (v4 : Int32) (hv : 1 ≤ kE k ∧ (0 ≤ v1.toInt ∧ v1.toInt < kV k) ∧ (0 ≤ v3.toInt ∧ v3.toInt < kV k) ∧ (0 ≤ v2.toInt ∧ v2.toInt ≤ 6)) : k_ok (ks k (kE k) (kE k - 1) (g7 (kA k (kE k - 1) 0) (kA k (kE k - 1) 1) (4) (v1.toInt) (v2.toInt) (v3.toInt) (if v4 = 0 then 0 else 1))) := by
  have hV := ok.2.1
  have hh := k_h ok
  have ho := (ok.2.2.1 (kE k - 1) (by omega) (by omega)).1
  exact ks_l ok hv.1 (ed_g (by first | omega | (refine ⟨?_, ?_, ?_, ?_, ?_, ?_⟩ <;> first | omega | (split <;> omega)) | (refine ⟨?_, ?_, ?_, ?_, ?_, ?_, ?_, ?_⟩ <;> first | omega | (split <;> omega))) (fun q => by first | omega | (split at q <;> omega)) (fun q => by first | omega | (split at q <;> omega)) (fun q => by first | omega | (split at q <;> omega)) (fun q => by first | omega | (split at q <;> omega)) (fun q => by first | omega | (split at q <;> omega)) (fun q => by first | omega | (split at q <;> omega)) (fun q => by first | omega | (split at q <;> omega)) (by first | omega | (refine ⟨?_, ?_, ?_, ?_, ?_, ?_⟩ <;> first | omega | (split <;> omega)) | (refine ⟨?_, ?_, ?_, ?_, ?_, ?_, ?_, ?_⟩ <;> first | omega | (split <;> omega))) (fun q => by first | omega | (split <;> omega) | (split at q <;> omega)))
theorem xw_test {post : Int32 → SX → Prop} {k : kT} {z : zT} {R : rT} {M : mT} (ok : k_ok k) (v1 : Int32) (v2 : Int32) (v3 : Int32) (v4 : Int32) (hg : (1 ≤ kE k ∧ (0 ≤ v1.toInt ∧ v1.toInt < kV k) ∧ (0 ≤ v3.toInt ∧ v3.toInt < kV k) ∧ (0 ≤ v2.toInt ∧ v2.toInt ≤ 6)) → ∀ va' ce' : Nat → Int32, (∀ j, 0 ≤ j → j < kV k → rd va' j = 0) → (∀ j, 0 ≤ j → j < kC k → rd ce' j = 0) → post 1 (XC (ks k (kE k) (kE k - 1) (g7 (kA k (kE k - 1) 0) (kA k (kE k - 1) 1) (4) (v1.toInt) (v2.toInt) (v3.toInt) (if v4 = 0 then 0 else 1))) (0, 0, 0, -1, z.2.2.2.2.1, va', ce') R M)) (hb : ¬ (1 ≤ kE k ∧ (0 ≤ v1.toInt ∧ v1.toInt < kV k) ∧ (0 ≤ v3.toInt ∧ v3.toInt < kV k) ∧ (0 ≤ v2.toInt ∧ v2.toInt ≤ 6)) → post (-1) (XC k z R M)) : wpX_test post (XC k z R M) v1 v2 v3 v4 := by
  have hV := ok.2.1
  have hh := k_h ok
  have bad : ¬ (1 ≤ kE k ∧ (0 ≤ v1.toInt ∧ v1.toInt < kV k) ∧ (0 ≤ v3.toInt ∧ v3.toInt < kV k) ∧ (0 ≤ v2.toInt ∧ v2.toInt ≤ 6)) → post (-1) (XC k z R M) := hb
  refine ib_eq (kE k) 0 (fun e => bad (by omega)) (fun e => ?_) rfl rfl (by omega)
  exact x_var ok v1 (fun a0 a1 => br_f (by decide) (x_var ok v3 (fun b0 b1 => br_f (by decide) (x_rel v2 (fun d0 d1 => br_f (by decide) (And.intro (fun q4 => x_sl (g := g7 (kA k (kE k - 1) 0) (kA k (kE k - 1) 1) (4) (v1.toInt) (v2.toInt) (v3.toInt) (if v4 = 0 then 0 else 1)) ok (by omega) rfl rfl rfl (ii_of v1) (ii_of v2) (ii_of v3) (by rw [show g7 _ _ _ _ _ _ (if v4 = 0 then 0 else 1) 6 = (if v4 = 0 then 0 else 1) from rfl, if_pos q4]; rfl) ((fun hv => ok_test ok v1 v2 v3 v4 hv) (by omega)) (hg (by omega))) (fun q4 => x_sl (g := g7 (kA k (kE k - 1) 0) (kA k (kE k - 1) 1) (4) (v1.toInt) (v2.toInt) (v3.toInt) (if v4 = 0 then 0 else 1)) ok (by omega) rfl rfl rfl (ii_of v1) (ii_of v2) (ii_of v3) (by rw [show g7 _ _ _ _ _ _ (if v4 = 0 then 0 else 1) 6 = (if v4 = 0 then 0 else 1) from rfl, if_neg q4]; rfl) ((fun hv => ok_test ok v1 v2 v3 v4 hv) (by omega)) (hg (by omega))))) (fun q => br_t rfl (bad (by omega))))) (fun q => br_t rfl (bad (by omega))))) (fun q => br_t rfl (bad (by omega)))
theorem yw_test {post : Int32 → SY → Prop} {k : kT} {y : yT} {σ α : sT} (ok : k_ok k) (v1 : Int32) (v2 : Int32) (v3 : Int32) (v4 : Int32) (hg : (1 ≤ kE k ∧ (0 ≤ v1.toInt ∧ v1.toInt < kV k) ∧ (0 ≤ v3.toInt ∧ v3.toInt < kV k) ∧ (0 ≤ v2.toInt ∧ v2.toInt ≤ 6)) → ∀ me' : Nat → Int32, (∀ j, 0 ≤ j → j < 11 → rd me' j = 0) → post 1 (YC (ks k (kE k) (kE k - 1) (g7 (kA k (kE k - 1) 0) (kA k (kE k - 1) 1) (4) (v1.toInt) (v2.toInt) (v3.toInt) (if v4 = 0 then 0 else 1))) (0, 0, 0, -1, y.2.2.2.2.1, me') σ α)) (hb : ¬ (1 ≤ kE k ∧ (0 ≤ v1.toInt ∧ v1.toInt < kV k) ∧ (0 ≤ v3.toInt ∧ v3.toInt < kV k) ∧ (0 ≤ v2.toInt ∧ v2.toInt ≤ 6)) → post (-1) (YC k y σ α)) : wpY_test post (YC k y σ α) v1 v2 v3 v4 := by
  have hV := ok.2.1
  have hh := k_h ok
  have bad : ¬ (1 ≤ kE k ∧ (0 ≤ v1.toInt ∧ v1.toInt < kV k) ∧ (0 ≤ v3.toInt ∧ v3.toInt < kV k) ∧ (0 ≤ v2.toInt ∧ v2.toInt ≤ 6)) → post (-1) (YC k y σ α) := hb
  unfold wpY_test
  dsimp only [YC]
  exact y_var ok v1 (fun a0 a1 => br_f (by decide) (y_var ok v3 (fun b0 b1 => br_f (by decide) (iw_lt v2.toInt 0 (fun q => bad (by omega)) (fun d0 => iw_le v2.toInt 6 (fun d1 => And.intro (fun q4 => (by
    by_cases e0 : kE k = 0
    · exact y_set0 e0 _ _ _ _ _ (bad (by omega))
    · exact y_set (g := g7 (kA k (kE k - 1) 0) (kA k (kE k - 1) 1) (4) (v1.toInt) (v2.toInt) (v3.toInt) (if v4 = 0 then 0 else 1)) ok (by omega) rfl rfl rfl (ii_of v1) (ii_of v2) (ii_of v3) (by rw [show g7 _ _ _ _ _ _ (if v4 = 0 then 0 else 1) 6 = (if v4 = 0 then 0 else 1) from rfl, if_pos q4]; rfl) (hg (by omega)))) (fun q4 => (by
    by_cases e0 : kE k = 0
    · exact y_set0 e0 _ _ _ _ _ (bad (by omega))
    · exact y_set (g := g7 (kA k (kE k - 1) 0) (kA k (kE k - 1) 1) (4) (v1.toInt) (v2.toInt) (v3.toInt) (if v4 = 0 then 0 else 1)) ok (by omega) rfl rfl rfl (ii_of v1) (ii_of v2) (ii_of v3) (by rw [show g7 _ _ _ _ _ _ (if v4 = 0 then 0 else 1) 6 = (if v4 = 0 then 0 else 1) from rfl, if_neg q4]; rfl) (hg (by omega))))) (fun q => bad (by omega))))) (fun q => br_t rfl (bad (by omega))))) (fun q => br_t rfl (bad (by omega)))
theorem i_vc_test {k : Nat} {u : SX} {v : SY} (I : i_Rel k u v) (hk : k + 5 ≤ 2564) (v1 : Int32) (v2 : Int32) (v3 : Int32) (v4 : Int32) : wpX_test (fun r u' => wpY_test (fun r' v' => r' = r ∧ i_Rel (k + 5) u' v') v v1 v2 v3 v4) u v1 v2 v3 v4 := by
  obtain ⟨K, z, R, M, me, σ, α, rfl, rfl, ok, mo, hA⟩ := I
  refine xw_test ok v1 v2 v3 v4 (fun hv va ce h1 h2 => yw_test ok v1 v2 v3 v4 (fun _ me' h3 => ⟨rfl, r_set ok mo (ok_test ok v1 v2 v3 v4 hv) h1 h2 h3⟩) (fun hn => absurd hv hn)) (fun hn => yw_test ok v1 v2 v3 v4 (fun hv => absurd hv hn) (fun _ => ⟨rfl, K, z, R, M, me, σ, α, rfl, rfl, ok, mo, hA⟩))
theorem ok_testConst {k : kT} (ok : k_ok k) (v1 : Int32) (v2 : Int32) (v3 : Int32) (v4 : Int32) (hv : 1 ≤ kE k ∧ (0 ≤ v1.toInt ∧ v1.toInt < kV k) ∧ (0 ≤ v2.toInt ∧ v2.toInt ≤ 6)) : k_ok (ks k (kE k) (kE k - 1) (g7 (kA k (kE k - 1) 0) (kA k (kE k - 1) 1) (5) (v1.toInt) (v2.toInt) (wr (kh k) v3.toInt) (if v4 = 0 then 0 else 1))) := by
  have hV := ok.2.1
  have hh := k_h ok
  have ho := (ok.2.2.1 (kE k - 1) (by omega) (by omega)).1
  have hw := wr_in (h := kh k) v3.toInt hh
  exact ks_l ok hv.1 (ed_g (by first | omega | (refine ⟨?_, ?_, ?_, ?_, ?_, ?_⟩ <;> first | omega | (split <;> omega)) | (refine ⟨?_, ?_, ?_, ?_, ?_, ?_, ?_, ?_⟩ <;> first | omega | (split <;> omega))) (fun q => by first | omega | (split at q <;> omega)) (fun q => by first | omega | (split at q <;> omega)) (fun q => by first | omega | (split at q <;> omega)) (fun q => by first | omega | (split at q <;> omega)) (fun q => by first | omega | (split at q <;> omega)) (fun q => by first | omega | (split at q <;> omega)) (fun q => by first | omega | (split at q <;> omega)) (by first | omega | (refine ⟨?_, ?_, ?_, ?_, ?_, ?_⟩ <;> first | omega | (split <;> omega)) | (refine ⟨?_, ?_, ?_, ?_, ?_, ?_, ?_, ?_⟩ <;> first | omega | (split <;> omega))) (fun q => by first | omega | (split <;> omega) | (split at q <;> omega)))
theorem xw_testConst {post : Int32 → SX → Prop} {k : kT} {z : zT} {R : rT} {M : mT} (ok : k_ok k) (v1 : Int32) (v2 : Int32) (v3 : Int32) (v4 : Int32) (hg : (1 ≤ kE k ∧ (0 ≤ v1.toInt ∧ v1.toInt < kV k) ∧ (0 ≤ v2.toInt ∧ v2.toInt ≤ 6)) → ∀ va' ce' : Nat → Int32, (∀ j, 0 ≤ j → j < kV k → rd va' j = 0) → (∀ j, 0 ≤ j → j < kC k → rd ce' j = 0) → post 1 (XC (ks k (kE k) (kE k - 1) (g7 (kA k (kE k - 1) 0) (kA k (kE k - 1) 1) (5) (v1.toInt) (v2.toInt) (wr (kh k) v3.toInt) (if v4 = 0 then 0 else 1))) (0, 0, 0, -1, z.2.2.2.2.1, va', ce') R M)) (hb : ¬ (1 ≤ kE k ∧ (0 ≤ v1.toInt ∧ v1.toInt < kV k) ∧ (0 ≤ v2.toInt ∧ v2.toInt ≤ 6)) → post (-1) (XC k z R M)) : wpX_testConst post (XC k z R M) v1 v2 v3 v4 := by
  have hV := ok.2.1
  have hh := k_h ok
  have bad : ¬ (1 ≤ kE k ∧ (0 ≤ v1.toInt ∧ v1.toInt < kV k) ∧ (0 ≤ v2.toInt ∧ v2.toInt ≤ 6)) → post (-1) (XC k z R M) := hb
  refine ib_eq (kE k) 0 (fun e => bad (by omega)) (fun e => ?_) rfl rfl (by omega)
  exact x_var ok v1 (fun a0 a1 => br_f (by decide) (x_rel v2 (fun d0 d1 => br_f (by decide) (x_wrap ok v3 (And.intro (fun q4 => x_sl (g := g7 (kA k (kE k - 1) 0) (kA k (kE k - 1) 1) (5) (v1.toInt) (v2.toInt) (wr (kh k) v3.toInt) (if v4 = 0 then 0 else 1)) ok (by omega) rfl rfl rfl (ii_of v1) (ii_of v2) rfl (by rw [show g7 _ _ _ _ _ _ (if v4 = 0 then 0 else 1) 6 = (if v4 = 0 then 0 else 1) from rfl, if_pos q4]; rfl) ((fun hv => ok_testConst ok v1 v2 v3 v4 hv) (by omega)) (hg (by omega))) (fun q4 => x_sl (g := g7 (kA k (kE k - 1) 0) (kA k (kE k - 1) 1) (5) (v1.toInt) (v2.toInt) (wr (kh k) v3.toInt) (if v4 = 0 then 0 else 1)) ok (by omega) rfl rfl rfl (ii_of v1) (ii_of v2) rfl (by rw [show g7 _ _ _ _ _ _ (if v4 = 0 then 0 else 1) 6 = (if v4 = 0 then 0 else 1) from rfl, if_neg q4]; rfl) ((fun hv => ok_testConst ok v1 v2 v3 v4 hv) (by omega)) (hg (by omega)))))) (fun q => br_t rfl (bad (by omega))))) (fun q => br_t rfl (bad (by omega)))
theorem yw_testConst {post : Int32 → SY → Prop} {k : kT} {y : yT} {σ α : sT} (ok : k_ok k) (v1 : Int32) (v2 : Int32) (v3 : Int32) (v4 : Int32) (hg : (1 ≤ kE k ∧ (0 ≤ v1.toInt ∧ v1.toInt < kV k) ∧ (0 ≤ v2.toInt ∧ v2.toInt ≤ 6)) → ∀ me' : Nat → Int32, (∀ j, 0 ≤ j → j < 11 → rd me' j = 0) → post 1 (YC (ks k (kE k) (kE k - 1) (g7 (kA k (kE k - 1) 0) (kA k (kE k - 1) 1) (5) (v1.toInt) (v2.toInt) (wr (kh k) v3.toInt) (if v4 = 0 then 0 else 1))) (0, 0, 0, -1, y.2.2.2.2.1, me') σ α)) (hb : ¬ (1 ≤ kE k ∧ (0 ≤ v1.toInt ∧ v1.toInt < kV k) ∧ (0 ≤ v2.toInt ∧ v2.toInt ≤ 6)) → post (-1) (YC k y σ α)) : wpY_testConst post (YC k y σ α) v1 v2 v3 v4 := by
  have hV := ok.2.1
  have hh := k_h ok
  have bad : ¬ (1 ≤ kE k ∧ (0 ≤ v1.toInt ∧ v1.toInt < kV k) ∧ (0 ≤ v2.toInt ∧ v2.toInt ≤ 6)) → post (-1) (YC k y σ α) := hb
  unfold wpY_testConst
  dsimp only [YC]
  exact y_var ok v1 (fun a0 a1 => br_f (by decide) (iw_lt v2.toInt 0 (fun q => bad (by omega)) (fun d0 => iw_le v2.toInt 6 (fun d1 => y_wrap ok v3 (And.intro (fun q4 => (by
    by_cases e0 : kE k = 0
    · exact y_set0 e0 _ _ _ _ _ (bad (by omega))
    · exact y_set (g := g7 (kA k (kE k - 1) 0) (kA k (kE k - 1) 1) (5) (v1.toInt) (v2.toInt) (wr (kh k) v3.toInt) (if v4 = 0 then 0 else 1)) ok (by omega) rfl rfl rfl (ii_of v1) (ii_of v2) rfl (by rw [show g7 _ _ _ _ _ _ (if v4 = 0 then 0 else 1) 6 = (if v4 = 0 then 0 else 1) from rfl, if_pos q4]; rfl) (hg (by omega)))) (fun q4 => (by
    by_cases e0 : kE k = 0
    · exact y_set0 e0 _ _ _ _ _ (bad (by omega))
    · exact y_set (g := g7 (kA k (kE k - 1) 0) (kA k (kE k - 1) 1) (5) (v1.toInt) (v2.toInt) (wr (kh k) v3.toInt) (if v4 = 0 then 0 else 1)) ok (by omega) rfl rfl rfl (ii_of v1) (ii_of v2) rfl (by rw [show g7 _ _ _ _ _ _ (if v4 = 0 then 0 else 1) 6 = (if v4 = 0 then 0 else 1) from rfl, if_neg q4]; rfl) (hg (by omega)))))) (fun q => bad (by omega))))) (fun q => br_t rfl (bad (by omega)))
theorem i_vc_testConst {k : Nat} {u : SX} {v : SY} (I : i_Rel k u v) (hk : k + 5 ≤ 2564) (v1 : Int32) (v2 : Int32) (v3 : Int32) (v4 : Int32) : wpX_testConst (fun r u' => wpY_testConst (fun r' v' => r' = r ∧ i_Rel (k + 5) u' v') v v1 v2 v3 v4) u v1 v2 v3 v4 := by
  obtain ⟨K, z, R, M, me, σ, α, rfl, rfl, ok, mo, hA⟩ := I
  refine xw_testConst ok v1 v2 v3 v4 (fun hv va ce h1 h2 => yw_testConst ok v1 v2 v3 v4 (fun _ me' h3 => ⟨rfl, r_set ok mo (ok_testConst ok v1 v2 v3 v4 hv) h1 h2 h3⟩) (fun hn => absurd hv hn)) (fun hn => yw_testConst ok v1 v2 v3 v4 (fun hv => absurd hv hn) (fun _ => ⟨rfl, K, z, R, M, me, σ, α, rfl, rfl, ok, mo, hA⟩))
theorem ok_testSum {k : kT} (ok : k_ok k) (v1 : Int32) (v2 : Int32) (v3 : Int32) (v4 : Int32) (hv : 1 ≤ kE k ∧ (0 ≤ v1.toInt ∧ v1.toInt < kV k) ∧ (0 ≤ v2.toInt ∧ v2.toInt < kV k) ∧ (0 ≤ v3.toInt ∧ v3.toInt ≤ 6)) : k_ok (ks k (kE k) (kE k - 1) (g7 (kA k (kE k - 1) 0) (kA k (kE k - 1) 1) (6) (v1.toInt) (v2.toInt) (v3.toInt) (wr (kh k) v4.toInt))) := by
  have hV := ok.2.1
  have hh := k_h ok
  have ho := (ok.2.2.1 (kE k - 1) (by omega) (by omega)).1
  have hw := wr_in (h := kh k) v4.toInt hh
  exact ks_l ok hv.1 (ed_g (by first | omega | (refine ⟨?_, ?_, ?_, ?_, ?_, ?_⟩ <;> first | omega | (split <;> omega)) | (refine ⟨?_, ?_, ?_, ?_, ?_, ?_, ?_, ?_⟩ <;> first | omega | (split <;> omega))) (fun q => by first | omega | (split at q <;> omega)) (fun q => by first | omega | (split at q <;> omega)) (fun q => by first | omega | (split at q <;> omega)) (fun q => by first | omega | (split at q <;> omega)) (fun q => by first | omega | (split at q <;> omega)) (fun q => by first | omega | (split at q <;> omega)) (fun q => by first | omega | (split at q <;> omega)) (by first | omega | (refine ⟨?_, ?_, ?_, ?_, ?_, ?_⟩ <;> first | omega | (split <;> omega)) | (refine ⟨?_, ?_, ?_, ?_, ?_, ?_, ?_, ?_⟩ <;> first | omega | (split <;> omega))) (fun q => by first | omega | (split <;> omega) | (split at q <;> omega)))
theorem xw_testSum {post : Int32 → SX → Prop} {k : kT} {z : zT} {R : rT} {M : mT} (ok : k_ok k) (v1 : Int32) (v2 : Int32) (v3 : Int32) (v4 : Int32) (hg : (1 ≤ kE k ∧ (0 ≤ v1.toInt ∧ v1.toInt < kV k) ∧ (0 ≤ v2.toInt ∧ v2.toInt < kV k) ∧ (0 ≤ v3.toInt ∧ v3.toInt ≤ 6)) → ∀ va' ce' : Nat → Int32, (∀ j, 0 ≤ j → j < kV k → rd va' j = 0) → (∀ j, 0 ≤ j → j < kC k → rd ce' j = 0) → post 1 (XC (ks k (kE k) (kE k - 1) (g7 (kA k (kE k - 1) 0) (kA k (kE k - 1) 1) (6) (v1.toInt) (v2.toInt) (v3.toInt) (wr (kh k) v4.toInt))) (0, 0, 0, -1, z.2.2.2.2.1, va', ce') R M)) (hb : ¬ (1 ≤ kE k ∧ (0 ≤ v1.toInt ∧ v1.toInt < kV k) ∧ (0 ≤ v2.toInt ∧ v2.toInt < kV k) ∧ (0 ≤ v3.toInt ∧ v3.toInt ≤ 6)) → post (-1) (XC k z R M)) : wpX_testSum post (XC k z R M) v1 v2 v3 v4 := by
  have hV := ok.2.1
  have hh := k_h ok
  have bad : ¬ (1 ≤ kE k ∧ (0 ≤ v1.toInt ∧ v1.toInt < kV k) ∧ (0 ≤ v2.toInt ∧ v2.toInt < kV k) ∧ (0 ≤ v3.toInt ∧ v3.toInt ≤ 6)) → post (-1) (XC k z R M) := hb
  refine ib_eq (kE k) 0 (fun e => bad (by omega)) (fun e => ?_) rfl rfl (by omega)
  exact x_var ok v1 (fun a0 a1 => br_f (by decide) (x_var ok v2 (fun b0 b1 => br_f (by decide) (x_rel v3 (fun d0 d1 => br_f (by decide) (x_wrap ok v4 (x_sl (g := g7 (kA k (kE k - 1) 0) (kA k (kE k - 1) 1) (6) (v1.toInt) (v2.toInt) (v3.toInt) (wr (kh k) v4.toInt)) ok (by omega) rfl rfl rfl (ii_of v1) (ii_of v2) (ii_of v3) rfl ((fun hv => ok_testSum ok v1 v2 v3 v4 hv) (by omega)) (hg (by omega))))) (fun q => br_t rfl (bad (by omega))))) (fun q => br_t rfl (bad (by omega))))) (fun q => br_t rfl (bad (by omega)))
theorem yw_testSum {post : Int32 → SY → Prop} {k : kT} {y : yT} {σ α : sT} (ok : k_ok k) (v1 : Int32) (v2 : Int32) (v3 : Int32) (v4 : Int32) (hg : (1 ≤ kE k ∧ (0 ≤ v1.toInt ∧ v1.toInt < kV k) ∧ (0 ≤ v2.toInt ∧ v2.toInt < kV k) ∧ (0 ≤ v3.toInt ∧ v3.toInt ≤ 6)) → ∀ me' : Nat → Int32, (∀ j, 0 ≤ j → j < 11 → rd me' j = 0) → post 1 (YC (ks k (kE k) (kE k - 1) (g7 (kA k (kE k - 1) 0) (kA k (kE k - 1) 1) (6) (v1.toInt) (v2.toInt) (v3.toInt) (wr (kh k) v4.toInt))) (0, 0, 0, -1, y.2.2.2.2.1, me') σ α)) (hb : ¬ (1 ≤ kE k ∧ (0 ≤ v1.toInt ∧ v1.toInt < kV k) ∧ (0 ≤ v2.toInt ∧ v2.toInt < kV k) ∧ (0 ≤ v3.toInt ∧ v3.toInt ≤ 6)) → post (-1) (YC k y σ α)) : wpY_testSum post (YC k y σ α) v1 v2 v3 v4 := by
  have hV := ok.2.1
  have hh := k_h ok
  have bad : ¬ (1 ≤ kE k ∧ (0 ≤ v1.toInt ∧ v1.toInt < kV k) ∧ (0 ≤ v2.toInt ∧ v2.toInt < kV k) ∧ (0 ≤ v3.toInt ∧ v3.toInt ≤ 6)) → post (-1) (YC k y σ α) := hb
  unfold wpY_testSum
  dsimp only [YC]
  exact y_var ok v1 (fun a0 a1 => br_f (by decide) (y_var ok v2 (fun b0 b1 => br_f (by decide) (iw_lt v3.toInt 0 (fun q => bad (by omega)) (fun d0 => iw_le v3.toInt 6 (fun d1 => y_wrap ok v4 (by
    by_cases e0 : kE k = 0
    · exact y_set0 e0 _ _ _ _ _ (bad (by omega))
    · exact y_set (g := g7 (kA k (kE k - 1) 0) (kA k (kE k - 1) 1) (6) (v1.toInt) (v2.toInt) (v3.toInt) (wr (kh k) v4.toInt)) ok (by omega) rfl rfl rfl (ii_of v1) (ii_of v2) (ii_of v3) rfl (hg (by omega)))) (fun q => bad (by omega))))) (fun q => br_t rfl (bad (by omega))))) (fun q => br_t rfl (bad (by omega)))
theorem i_vc_testSum {k : Nat} {u : SX} {v : SY} (I : i_Rel k u v) (hk : k + 5 ≤ 2564) (v1 : Int32) (v2 : Int32) (v3 : Int32) (v4 : Int32) : wpX_testSum (fun r u' => wpY_testSum (fun r' v' => r' = r ∧ i_Rel (k + 5) u' v') v v1 v2 v3 v4) u v1 v2 v3 v4 := by
  obtain ⟨K, z, R, M, me, σ, α, rfl, rfl, ok, mo, hA⟩ := I
  refine xw_testSum ok v1 v2 v3 v4 (fun hv va ce h1 h2 => yw_testSum ok v1 v2 v3 v4 (fun _ me' h3 => ⟨rfl, r_set ok mo (ok_testSum ok v1 v2 v3 v4 hv) h1 h2 h3⟩) (fun hn => absurd hv hn)) (fun hn => yw_testSum ok v1 v2 v3 v4 (fun hv => absurd hv hn) (fun _ => ⟨rfl, K, z, R, M, me, σ, α, rfl, rfl, ok, mo, hA⟩))
theorem ok_access {k : kT} (ok : k_ok k) (v1 : Int32) (v2 : Int32) (v3 : Int32) (hv : 1 ≤ kE k ∧ (0 ≤ v1.toInt ∧ v1.toInt < kV k) ∧ (0 ≤ v2.toInt ∧ v2.toInt < kV k)) : k_ok (ks k (kE k) (kE k - 1) (g7 (kA k (kE k - 1) 0) (kA k (kE k - 1) 1) (if v3 = 0 then 7 else 8) (v1.toInt) (v2.toInt) (0) (0))) := by
  have hV := ok.2.1
  have hh := k_h ok
  have ho := (ok.2.2.1 (kE k - 1) (by omega) (by omega)).1
  exact ks_l ok hv.1 (ed_g (by first | omega | (refine ⟨?_, ?_, ?_, ?_, ?_, ?_⟩ <;> first | omega | (split <;> omega)) | (refine ⟨?_, ?_, ?_, ?_, ?_, ?_, ?_, ?_⟩ <;> first | omega | (split <;> omega))) (fun q => by first | omega | (split at q <;> omega)) (fun q => by first | omega | (split at q <;> omega)) (fun q => by first | omega | (split at q <;> omega)) (fun q => by first | omega | (split at q <;> omega)) (fun q => by first | omega | (split at q <;> omega)) (fun q => by first | omega | (split at q <;> omega)) (fun q => by first | omega | (split at q <;> omega)) (by first | omega | (refine ⟨?_, ?_, ?_, ?_, ?_, ?_⟩ <;> first | omega | (split <;> omega)) | (refine ⟨?_, ?_, ?_, ?_, ?_, ?_, ?_, ?_⟩ <;> first | omega | (split <;> omega))) (fun q => by first | omega | (split <;> omega) | (split at q <;> omega)))
theorem xw_access {post : Int32 → SX → Prop} {k : kT} {z : zT} {R : rT} {M : mT} (ok : k_ok k) (v1 : Int32) (v2 : Int32) (v3 : Int32) (hg : (1 ≤ kE k ∧ (0 ≤ v1.toInt ∧ v1.toInt < kV k) ∧ (0 ≤ v2.toInt ∧ v2.toInt < kV k)) → ∀ va' ce' : Nat → Int32, (∀ j, 0 ≤ j → j < kV k → rd va' j = 0) → (∀ j, 0 ≤ j → j < kC k → rd ce' j = 0) → post 1 (XC (ks k (kE k) (kE k - 1) (g7 (kA k (kE k - 1) 0) (kA k (kE k - 1) 1) (if v3 = 0 then 7 else 8) (v1.toInt) (v2.toInt) (0) (0))) (0, 0, 0, -1, z.2.2.2.2.1, va', ce') R M)) (hb : ¬ (1 ≤ kE k ∧ (0 ≤ v1.toInt ∧ v1.toInt < kV k) ∧ (0 ≤ v2.toInt ∧ v2.toInt < kV k)) → post (-1) (XC k z R M)) : wpX_access post (XC k z R M) v1 v2 v3 := by
  have hV := ok.2.1
  have hh := k_h ok
  have bad : ¬ (1 ≤ kE k ∧ (0 ≤ v1.toInt ∧ v1.toInt < kV k) ∧ (0 ≤ v2.toInt ∧ v2.toInt < kV k)) → post (-1) (XC k z R M) := hb
  refine ib_eq (kE k) 0 (fun e => bad (by omega)) (fun e => ?_) rfl rfl (by omega)
  exact x_var ok v1 (fun a0 a1 => br_f (by decide) (x_var ok v2 (fun b0 b1 => br_f (by decide) (And.intro (fun q3 => x_sl (g := g7 (kA k (kE k - 1) 0) (kA k (kE k - 1) 1) (if v3 = 0 then 7 else 8) (v1.toInt) (v2.toInt) (0) (0)) ok (by omega) rfl rfl (by rw [show g7 _ _ (if v3 = 0 then 7 else 8) _ _ _ _ 2 = (if v3 = 0 then 7 else 8) from rfl, if_pos q3]; rfl) (ii_of v1) (ii_of v2) rfl rfl ((fun hv => ok_access ok v1 v2 v3 hv) (by omega)) (hg (by omega))) (fun q3 => x_sl (g := g7 (kA k (kE k - 1) 0) (kA k (kE k - 1) 1) (if v3 = 0 then 7 else 8) (v1.toInt) (v2.toInt) (0) (0)) ok (by omega) rfl rfl (by rw [show g7 _ _ (if v3 = 0 then 7 else 8) _ _ _ _ 2 = (if v3 = 0 then 7 else 8) from rfl, if_neg q3]; rfl) (ii_of v1) (ii_of v2) rfl rfl ((fun hv => ok_access ok v1 v2 v3 hv) (by omega)) (hg (by omega))))) (fun q => br_t rfl (bad (by omega))))) (fun q => br_t rfl (bad (by omega)))
theorem yw_access {post : Int32 → SY → Prop} {k : kT} {y : yT} {σ α : sT} (ok : k_ok k) (v1 : Int32) (v2 : Int32) (v3 : Int32) (hg : (1 ≤ kE k ∧ (0 ≤ v1.toInt ∧ v1.toInt < kV k) ∧ (0 ≤ v2.toInt ∧ v2.toInt < kV k)) → ∀ me' : Nat → Int32, (∀ j, 0 ≤ j → j < 11 → rd me' j = 0) → post 1 (YC (ks k (kE k) (kE k - 1) (g7 (kA k (kE k - 1) 0) (kA k (kE k - 1) 1) (if v3 = 0 then 7 else 8) (v1.toInt) (v2.toInt) (0) (0))) (0, 0, 0, -1, y.2.2.2.2.1, me') σ α)) (hb : ¬ (1 ≤ kE k ∧ (0 ≤ v1.toInt ∧ v1.toInt < kV k) ∧ (0 ≤ v2.toInt ∧ v2.toInt < kV k)) → post (-1) (YC k y σ α)) : wpY_access post (YC k y σ α) v1 v2 v3 := by
  have hV := ok.2.1
  have hh := k_h ok
  have bad : ¬ (1 ≤ kE k ∧ (0 ≤ v1.toInt ∧ v1.toInt < kV k) ∧ (0 ≤ v2.toInt ∧ v2.toInt < kV k)) → post (-1) (YC k y σ α) := hb
  unfold wpY_access
  dsimp only [YC]
  exact y_var ok v1 (fun a0 a1 => br_f (by decide) (y_var ok v2 (fun b0 b1 => br_f (by decide) (And.intro (fun q3 => (by
    by_cases e0 : kE k = 0
    · exact y_set0 e0 _ _ _ _ _ (bad (by omega))
    · exact y_set (g := g7 (kA k (kE k - 1) 0) (kA k (kE k - 1) 1) (if v3 = 0 then 7 else 8) (v1.toInt) (v2.toInt) (0) (0)) ok (by omega) rfl rfl (by rw [show g7 _ _ (if v3 = 0 then 7 else 8) _ _ _ _ 2 = (if v3 = 0 then 7 else 8) from rfl, if_pos q3]; rfl) (ii_of v1) (ii_of v2) rfl rfl (hg (by omega)))) (fun q3 => (by
    by_cases e0 : kE k = 0
    · exact y_set0 e0 _ _ _ _ _ (bad (by omega))
    · exact y_set (g := g7 (kA k (kE k - 1) 0) (kA k (kE k - 1) 1) (if v3 = 0 then 7 else 8) (v1.toInt) (v2.toInt) (0) (0)) ok (by omega) rfl rfl (by rw [show g7 _ _ (if v3 = 0 then 7 else 8) _ _ _ _ 2 = (if v3 = 0 then 7 else 8) from rfl, if_neg q3]; rfl) (ii_of v1) (ii_of v2) rfl rfl (hg (by omega)))))) (fun q => br_t rfl (bad (by omega))))) (fun q => br_t rfl (bad (by omega)))
theorem i_vc_access {k : Nat} {u : SX} {v : SY} (I : i_Rel k u v) (hk : k + 5 ≤ 2564) (v1 : Int32) (v2 : Int32) (v3 : Int32) : wpX_access (fun r u' => wpY_access (fun r' v' => r' = r ∧ i_Rel (k + 5) u' v') v v1 v2 v3) u v1 v2 v3 := by
  obtain ⟨K, z, R, M, me, σ, α, rfl, rfl, ok, mo, hA⟩ := I
  refine xw_access ok v1 v2 v3 (fun hv va ce h1 h2 => yw_access ok v1 v2 v3 (fun _ me' h3 => ⟨rfl, r_set ok mo (ok_access ok v1 v2 v3 hv) h1 h2 h3⟩) (fun hn => absurd hv hn)) (fun hn => yw_access ok v1 v2 v3 (fun hv => absurd hv hn) (fun _ => ⟨rfl, K, z, R, M, me, σ, α, rfl, rfl, ok, mo, hA⟩))
end
section
/-! ===== edge, dropEdge, thresholds, fields, restart, verdict, analyse ===== -/
section
variable {k : kT} {z : zT} {R : rT} {M : mT}
theorem x_sl2 {post : Int32 → SX → Prop} {g : Int → Int} {p0 p1 p2 p3 p4 : Int32} (hE : 1 ≤ kE k ∧ kE k ≤ 20) (g0 : g 0 = kA k (kE k - 1) 0) (g1 : g 1 = kA k (kE k - 1) 1) (h0 : p0 = iI (g 2)) (h1 : p1 = iI (g 3)) (h2 : p2 = iI (g 4)) (h3 : p3 = iI (g 5)) (h4 : p4 = iI (g 6)) (ok2 : k_ok (ks k (kE k) (kE k - 1) g)) (h : ∀ va' ce' : Nat → Int32, (∀ j, 0 ≤ j → j < kV k → rd va' j = 0) → (∀ j, 0 ≤ j → j < kC k → rd ce' j = 0) → post 1 (XC (ks k (kE k) (kE k - 1) g) (0, 0, 0, -1, z.2.2.2.2.1, va', ce') R M)) : wpX_setLast post (XC k z R M) p0 p1 p2 p3 p4 := by
  have hin : vp_in (iI (kE k - 1)) 20 := ii_in (by omega) (by omega) (by omega)
  refine nm_r (ii_sub (kE k) 1) (ib_le 0 (kE k - 1) (fun _ => And.intro hin (nm_r (xa_u k (E := kE k) g 2 (by omega) h0) (And.intro hin (nm_r (xa_u k (E := kE k) g 3 (by omega) h1) (And.intro hin (nm_r (xa_u k (E := kE k) g 4 (by omega) h2) (And.intro hin (nm_r (xa_u k (E := kE k) g 5 (by omega) h3) (And.intro hin (nm_r (xa_u k (E := kE k) g 6 (by omega) h4) ?_)))))))))) (fun e => by omega) rfl rfl (by omega))
  dsimp only
  rw [xa_k k (E := kE k) (e0 := kE k - 1) g 0 g0, xa_k k (E := kE k) (e0 := kE k - 1) g 1 g1]
  exact x_rst (z := (0, z.2)) ok2 h
end
section
variable {k : kT} {y : yT} {σ α : sT}
theorem y_set2 {post : Int32 → SY → Prop} {g : Int → Int} {p0 p1 p2 p3 p4 : Int32} (hE : 1 ≤ kE k ∧ kE k ≤ 20) (g0 : g 0 = kA k (kE k - 1) 0) (g1 : g 1 = kA k (kE k - 1) 1) (h0 : p0 = iI (g 2)) (h1 : p1 = iI (g 3)) (h2 : p2 = iI (g 4)) (h3 : p3 = iI (g 5)) (h4 : p4 = iI (g 6)) (h : ∀ me' : Nat → Int32, (∀ j, 0 ≤ j → j < 11 → rd me' j = 0) → post 1 (YC (ks k (kE k) (kE k - 1) g) (0, 0, 0, -1, y.2.2.2.2.1, me') σ α)) : wpY_set post (YC k y σ α) p0 p1 p2 p3 p4 := by
  have e7 : ∀ (f : Int) (c : Int32), c = iI f → iI ((kE k - 1) * 7) + c = iI ((kE k - 1) * 7 + f) := fun f c hc => by rw [hc, ii_add]
  refine ib_eq (kE k) 0 (fun e => by omega) (fun _ => nm_r (e' := iI ((kE k - 1) * 7)) (by rw [ii_1, ii_sub, ii_7, ii_mul]) (And.intro (yp_in (e7 2 2 rfl) (by omega) (by omega)) (nm_e (And.intro (yp_in (e7 3 3 rfl) (by omega) (by omega)) (nm_e (And.intro (yp_in (e7 4 4 rfl) (by omega) (by omega)) (nm_e (And.intro (yp_in (e7 5 5 rfl) (by omega) (by omega)) (nm_e (And.intro (yp_in (e7 6 6 rfl) (by omega) (by omega)) (nm_r (yp_u k (E := kE k) g (by omega) (e7 2 2 rfl) (e7 3 3 rfl) (e7 4 4 rfl) (e7 5 5 rfl) (e7 6 6 rfl) h0 h1 h2 h3 h4 g0 g1) (y_rst (k := ks k (kE k) (kE k - 1) g) (y := (0, y.2)) h)))))))))))) rfl rfl (by omega)
end
/-- a new edge from f to t -/
def kn (k : kT) (f t : Int) : kT := ks k (kE k + 1) (kE k) (fun i => if i = 0 then f else if i = 1 then t else kA k (kE k) i)
theorem kn_ok {k : kT} (ok : k_ok k) {f t : Int} (hE : kE k < 20) (hf : 0 ≤ f ∧ f < kP k) (ht : 0 ≤ t ∧ t < kP k) : k_ok (ks (kn k f t) (kE (kn k f t)) (kE (kn k f t) - 1) (g7 f t 0 0 0 0 0)) := by
  have hV := ok.2.1
  have e1 : kE (kn k f t) = kE k + 1 := rfl
  refine ⟨ok.1, ⟨ok.2.1.1, ok.2.1.2.1, ok.2.1.2.2.1, ok.2.1.2.2.2.1, ok.2.1.2.2.2.2.1, ok.2.1.2.2.2.2.2.1, by show 0 ≤ kE k + 1; omega, by show kE k + 1 ≤ 20; omega, ok.2.1.2.2.2.2.2.2.2.2.1, ok.2.1.2.2.2.2.2.2.2.2.2⟩, fun e a b => ?_, ok.2.2.2⟩
  show ed_ok (kh k) (kP k) (kV k) (fun i => if e = kE k + 1 - 1 then g7 f t 0 0 0 0 0 i else if e = kE k then (if i = 0 then f else if i = 1 then t else kA k (kE k) i) else kA k e i)
  have b' : e < kE k + 1 := b
  by_cases ee : e = kE k
  · rw [show (fun i => if e = kE k + 1 - 1 then g7 f t 0 0 0 0 0 i else if e = kE k then (if i = 0 then f else if i = 1 then t else kA k (kE k) i) else kA k e i) = g7 f t 0 0 0 0 0 from funext fun i => if_pos (by omega)]
    exact ed_g (by omega) (fun q => by omega) (fun q => by omega) (fun q => by omega) (fun q => by omega) (fun q => by omega) (fun q => by omega) (fun q => by omega) (by omega) (fun q => by omega)
  · rw [show (fun i => if e = kE k + 1 - 1 then g7 f t 0 0 0 0 0 i else if e = kE k then (if i = 0 then f else if i = 1 then t else kA k (kE k) i) else kA k e i) = kA k e from funext fun i => by rw [if_neg (by omega), if_neg ee]]
    exact ok.2.2.1 e a (by omega)
theorem i_vc_edge {k : Nat} {u : SX} {v : SY} (I : i_Rel k u v) (hk : k + 5 ≤ 2564) (v1 : Int32) (v2 : Int32) : wpX_edge (fun r u' => wpY_edge (fun r' v' => r' = r ∧ i_Rel (k + 5) u' v') v v1 v2) u v1 v2 := by
  obtain ⟨K, z, R, M, me, σ, α, rfl, rfl, ok, mo, hA⟩ := I
  have hV := ok.2.1
  have stay : ∀ r : Int32, r = r ∧ i_Rel (k + 5) (XC K z R M) (YC K (yZ z me) σ α) := fun r => ⟨rfl, K, z, R, M, me, σ, α, rfl, rfl, ok, mo, hA⟩
  have tP := ii_toInt (a := kP K) (by omega)
  have tE := ii_toInt (a := kE K) (by omega)
  refine iw_lt v1.toInt 0 (fun q => ?_) (fun a0 => iw_le (kP K) v1.toInt (fun q => ?_) (fun a1 => iw_lt v2.toInt 0 (fun q => ?_) (fun b0 => iw_lt v2.toInt (kP K) (fun b1 => ?_) (fun q => ?_) rfl tP)) tP rfl)
  · exact iw_lt v1.toInt 0 (fun _ => stay _) (fun q2 => by omega)
  · exact iw_lt v1.toInt 0 (fun q2 => by omega) (fun _ => iw_le (kP K) v1.toInt (fun _ => stay _) (fun q2 => by omega) tP rfl)
  · exact iw_lt v1.toInt 0 (fun q2 => by omega) (fun _ => iw_le (kP K) v1.toInt (fun q2 => by omega) (fun _ => iw_lt v2.toInt 0 (fun _ => stay _) (fun q2 => by omega)) tP rfl)
  · refine ib_lt (kE K) 20 (fun e => ?_) (fun e => ?_) rfl rfl (by omega)
    · have hin : vp_in (iI (kE K)) 20 := ii_in (by omega) (by omega) (by omega)
      have e1 : kE (kn K v1.toInt v2.toInt) = kE K + 1 := rfl
      have hg0 : ∀ i, (kA (kn K v1.toInt v2.toInt) (kE (kn K v1.toInt v2.toInt) - 1) i) = (if i = 0 then v1.toInt else if i = 1 then v2.toInt else kA K (kE K) i) := fun i => if_pos (by omega)
      have ok2 := kn_ok ok e ⟨a0, a1⟩ ⟨b0, b1⟩
      refine And.intro hin (nm_r (xa_u K (E := kE K + 1) (fun i => if i = 0 then v1.toInt else if i = 1 then v2.toInt else kA K (kE K) i) 0 (by omega) (ii_of v1)) (And.intro hin (nm_r (xa_u K (E := kE K + 1) (fun i => if i = 0 then v1.toInt else if i = 1 then v2.toInt else kA K (kE K) i) 1 (by omega) (ii_of v2)) (nm_r (ii_add (kE K) 1) ?_))))
      rw [xa_k K (E := kE K + 1) (e0 := kE K) (fun i => if i = 0 then v1.toInt else if i = 1 then v2.toInt else kA K (kE K) i) 2 rfl, xa_k K (E := kE K + 1) (e0 := kE K) (fun i => if i = 0 then v1.toInt else if i = 1 then v2.toInt else kA K (kE K) i) 3 rfl, xa_k K (E := kE K + 1) (e0 := kE K) (fun i => if i = 0 then v1.toInt else if i = 1 then v2.toInt else kA K (kE K) i) 4 rfl, xa_k K (E := kE K + 1) (e0 := kE K) (fun i => if i = 0 then v1.toInt else if i = 1 then v2.toInt else kA K (kE K) i) 5 rfl, xa_k K (E := kE K + 1) (e0 := kE K) (fun i => if i = 0 then v1.toInt else if i = 1 then v2.toInt else kA K (kE K) i) 6 rfl]
      refine x_sl2 (k := kn K v1.toInt v2.toInt) (z := z) (R := R) (M := M) (g := g7 v1.toInt v2.toInt 0 0 0 0 0) (by omega) (hg0 0).symm (hg0 1).symm rfl rfl rfl rfl rfl ok2 (fun va ce h1 h2 => ?_)
      refine iw_lt v1.toInt 0 (fun q2 => by omega) (fun _ => iw_le (kP K) v1.toInt (fun q2 => by omega) (fun _ => iw_lt v2.toInt 0 (fun q2 => by omega) (fun _ => iw_lt v2.toInt (kP K) (fun _ => ib_lt (kE K) 20 (fun _ => ?_) (fun q2 => by omega) rfl rfl (by omega)) (fun q2 => by omega) rfl tP)) tP rfl)
      refine And.intro (yp_in (y70 (kE K)) (by omega) (by omega)) (nm_e (And.intro (yp_in (y7 (kE K) 1 rfl) (by omega) (by omega)) (nm_r (yp_v K (E := kE K + 1) (fun i => if i = 0 then v1.toInt else if i = 1 then v2.toInt else kA K (kE K) i) (by omega) (y70 (kE K)) (y7 (kE K) 1 rfl) (ii_of v1) (ii_of v2) (fun f hf => by rw [if_neg (by omega), if_neg (by omega)])) (nm_r (ii_add (kE K) 1) ?_))))
      exact y_set2 (k := kn K v1.toInt v2.toInt) (y := yZ z me) (σ := σ) (α := α) (g := g7 v1.toInt v2.toInt 0 0 0 0 0) (by omega) (hg0 0).symm (hg0 1).symm rfl rfl rfl rfl rfl (fun me' h3 => ⟨rfl, _, (0, 0, 0, -1, z.2.2.2.2.1, va, ce), R, M, me', σ, α, rfl, rfl, ok2, m_z ok2 mo.2.1 h1 h2 h3, fun q => absurd rfl q⟩)
    · exact iw_lt v1.toInt 0 (fun q2 => by omega) (fun _ => iw_le (kP K) v1.toInt (fun q2 => by omega) (fun _ => iw_lt v2.toInt 0 (fun q2 => by omega) (fun _ => iw_lt v2.toInt (kP K) (fun _ => ib_lt (kE K) 20 (fun q2 => by omega) (fun _ => stay _) rfl rfl (by omega)) (fun q2 => by omega) rfl tP)) tP rfl)
  · exact iw_lt v1.toInt 0 (fun q2 => by omega) (fun _ => iw_le (kP K) v1.toInt (fun q2 => by omega) (fun _ => iw_lt v2.toInt 0 (fun q2 => by omega) (fun _ => iw_lt v2.toInt (kP K) (fun q2 => by omega) (fun _ => stay _) rfl tP)) tP rfl)
/-- one edge less -/
def kd (k : kT) : kT := (kB k, kP k, kV k, kC k, kE k - 1, kN k, kA k, kH k)
theorem kd_ok {k : kT} (ok : k_ok k) (h : 1 ≤ kE k) : k_ok (kd k) := by
  have hV := ok.2.1
  refine ⟨ok.1, ⟨ok.2.1.1, ok.2.1.2.1, ok.2.1.2.2.1, ok.2.1.2.2.2.1, ok.2.1.2.2.2.2.1, ok.2.1.2.2.2.2.2.1, by show 0 ≤ kE k - 1; omega, by show kE k - 1 ≤ 20; omega, ok.2.1.2.2.2.2.2.2.2.2.1, ok.2.1.2.2.2.2.2.2.2.2.2⟩, fun e a b => ?_, ok.2.2.2⟩
  have b' : e < kE k - 1 := b
  exact ok.2.2.1 e a (by omega)
theorem i_vc_dropEdge {k : Nat} {u : SX} {v : SY} (I : i_Rel k u v) (hk : k + 5 ≤ 2564) : wpX_dropEdge (fun r u' => wpY_dropEdge (fun r' v' => r' = r ∧ i_Rel (k + 5) u' v') v) u := by
  obtain ⟨K, z, R, M, me, σ, α, rfl, rfl, ok, mo, hA⟩ := I
  have hV := ok.2.1
  refine ib_eq (kE K) 0 (fun e => ib_eq (kE K) 0 (fun _ => ⟨rfl, K, z, R, M, me, σ, α, rfl, rfl, ok, mo, hA⟩) (fun q => absurd e q) rfl rfl (by omega)) (fun e => nm_r (ii_sub (kE K) 1) ?_) rfl rfl (by omega)
  have ok2 := kd_ok ok (by omega)
  refine x_rst (k := kd K) (z := (0, z.2)) (R := R) (M := M) ok2 (fun va ce h1 h2 => ib_eq (kE K) 0 (fun q => absurd q e) (fun _ => nm_r (ii_sub (kE K) 1) ?_) rfl rfl (by omega))
  exact y_rst (k := kd K) (y := (0, (yZ z me).2)) (σ := σ) (α := α) (fun me' h3 => ⟨rfl, kd K, (0, 0, 0, -1, z.2.2.2.2.1, va, ce), R, M, me', σ, α, rfl, rfl, ok2, m_z ok2 mo.2.1 h1 h2 h3, fun q => absurd rfl q⟩)
/-- one more threshold -/
def kt (k : kT) (w : Int) : kT := (kB k, kP k, kV k, kC k, kE k, kN k + 1, kA k, fun i => if i = kN k then w else kH k i)
theorem kt_ok {k : kT} (ok : k_ok k) {w : Int} (hN : kN k < 6) (hw : -kh k ≤ w ∧ w < kh k) : k_ok (kt k w) := by
  have hV := ok.2.1
  refine ⟨ok.1, ⟨ok.2.1.1, ok.2.1.2.1, ok.2.1.2.2.1, ok.2.1.2.2.2.1, ok.2.1.2.2.2.2.1, ok.2.1.2.2.2.2.2.1, ok.2.1.2.2.2.2.2.2.1, ok.2.1.2.2.2.2.2.2.2.1, by show 0 ≤ kN k + 1; omega, by show kN k + 1 ≤ 6; omega⟩, ok.2.2.1, fun i a b => ?_⟩
  show -kh k ≤ (if i = kN k then w else kH k i) ∧ (if i = kN k then w else kH k i) < kh k
  have b' : i < kN k + 1 := b
  by_cases e : i = kN k
  · rw [if_pos e]
    exact hw
  · rw [if_neg e]
    exact ok.2.2.2 i a (by omega)
theorem kt_u (k : kT) {w : Int} (h : 0 ≤ kN k ∧ kN k ≤ 1000) : upd (xH k) (iI (kN k)).toNatClampNeg (iI w) = xH (kt k w) := by
  funext j
  show upd (xH k) (iI (kN k)).toNatClampNeg (iI w) j = iI (if (j : Int) = kN k then w else kH k (j : Int))
  unfold upd
  by_cases e : (j : Int) = kN k
  · rw [if_pos ((ci_j h j).mpr e), if_pos e]
  · rw [if_neg (fun x => e ((ci_j h j).mp x)), if_neg e]
    rfl
theorem i_vc_threshold {k : Nat} {u : SX} {v : SY} (I : i_Rel k u v) (hk : k + 5 ≤ 2564) (v1 : Int32) : wpX_threshold (fun r u' => wpY_threshold (fun r' v' => r' = r ∧ i_Rel (k + 5) u' v') v v1) u v1 := by
  obtain ⟨K, z, R, M, me, σ, α, rfl, rfl, ok, mo, hA⟩ := I
  have hV := ok.2.1
  have hh := k_h ok
  have stay : ∀ r : Int32, r = r ∧ i_Rel (k + 5) (XC K z R M) (YC K (yZ z me) σ α) := fun r => ⟨rfl, K, z, R, M, me, σ, α, rfl, rfl, ok, mo, hA⟩
  have wb := wr_in (h := kh K) v1.toInt hh
  generalize hw : wr (kh K) v1.toInt = w at wb
  have tw := ii_toInt (a := w) (by omega)
  unfold wpX_threshold
  dsimp only [XC, XD]
  refine x_wrap ok v1 ?_
  rw [hw]
  refine x_thr ok (iI w) (fun ht => br_t rfl ?_) (fun hn => br_f (by decide) (ib_lt (kN K) 6 (fun e => And.intro (ii_in (by omega) (by omega) (by omega)) (nm_r (kt_u K (by omega)) (nm_r (ii_add (kN K) 1) ?_))) (fun e => ?_) rfl rfl (by omega)))
  · unfold wpY_threshold
    dsimp only [YC]
    refine y_wrap (y := yZ z me) (σ := σ) (α := α) ok v1 ?_
    rw [hw]
    exact y_thr (y := yZ z me) (σ := σ) (α := α) ok (iI w) (fun _ => br_t rfl (stay _)) (fun q => absurd ht q)
  · unfold wpY_threshold
    dsimp only [YC]
    refine y_wrap (y := yZ z me) (σ := σ) (α := α) ok v1 ?_
    rw [hw]
    refine y_thr (y := yZ z me) (σ := σ) (α := α) ok (iI w) (fun q => absurd q hn) (fun _ => br_f (by decide) (ib_lt (kN K) 6 (fun _ => And.intro (ii_in (by omega) (by omega) (by omega)) (nm_r (kt_u K (by omega)) (nm_r (ii_add (kN K) 1) ?_))) (fun q => by omega) rfl rfl (by omega)))
    exact ⟨rfl, kt K w, (0, z.2), R, M, me, σ, α, rfl, rfl, kt_ok ok e wb, mo, fun q => absurd rfl q⟩
  · unfold wpY_threshold
    dsimp only [YC]
    refine y_wrap (y := yZ z me) (σ := σ) (α := α) ok v1 ?_
    rw [hw]
    exact y_thr (y := yZ z me) (σ := σ) (α := α) ok (iI w) (fun q => absurd q hn) (fun _ => br_f (by decide) (ib_lt (kN K) 6 (fun q => by omega) (fun _ => stay _) rfl rfl (by omega)))
theorem i_vc_isThreshold {k : Nat} {u : SX} {v : SY} (I : i_Rel k u v) (hk : k + 5 ≤ 2564) (v1 : Int32) : wpX_isThreshold (fun r => wpY_isThreshold (fun r' => r' = r ∧ i_Rel (k + 5) u v) v v1) u v1 := by
  obtain ⟨K, z, R, M, me, σ, α, rfl, rfl, ok, mo, hA⟩ := I
  have stay : ∀ r : Int32, r = r ∧ i_Rel (k + 5) (XC K z R M) (YC K (yZ z me) σ α) := fun r => ⟨rfl, K, z, R, M, me, σ, α, rfl, rfl, ok, mo, hA⟩
  exact x_thr ok v1 (fun ht => y_thr ok v1 (fun _ => stay _) (fun q => absurd ht q)) (fun hn => y_thr ok v1 (fun q => absurd q hn) (fun _ => stay _))
theorem i_vc_edgeField {k : Nat} {u : SX} {v : SY} (I : i_Rel k u v) (hk : k + 5 ≤ 2564) (v1 : Int32) (v2 : Int32) : wpX_edgeField (fun r => wpY_edgeField (fun r' => r' = r ∧ i_Rel (k + 5) u v) v v1 v2) u v1 v2 := by
  obtain ⟨K, z, R, M, me, σ, α, rfl, rfl, ok, mo, hA⟩ := I
  have hV := ok.2.1
  have stay : ∀ r : Int32, r = r ∧ i_Rel (k + 5) (XC K z R M) (YC K (yZ z me) σ α) := fun r => ⟨rfl, K, z, R, M, me, σ, α, rfl, rfl, ok, mo, hA⟩
  have tE := ii_toInt (a := kE K) (by omega)
  have bad : ¬ ((0 ≤ v1.toInt ∧ v1.toInt < kE K) ∧ 0 ≤ v2.toInt ∧ v2.toInt ≤ 6) → wpY_edgeField (fun r' => r' = -1000 ∧ i_Rel (k + 5) (XC K z R M) (YC K (yZ z me) σ α)) (YC K (yZ z me) σ α) v1 v2 := fun hn => iw_lt v1.toInt 0 (fun _ => stay _) (fun a0 => iw_le (kE K) v1.toInt (fun _ => stay _) (fun a1 => iw_lt v2.toInt 0 (fun _ => stay _) (fun b0 => iw_le v2.toInt 6 (fun b1 => by omega) (fun _ => stay _))) tE rfl)
  unfold wpX_edgeField
  dsimp only [XC, XD]
  refine x_ie ok v1 (fun a0 a1 => br_f (by decide) (iw_lt v2.toInt 0 (fun q => bad (by omega)) (fun b0 => iw_lt 6 v2.toInt (fun q => bad (by omega)) (fun b1 => ?_)))) (fun q => br_t rfl (bad (by omega)))
  have hin : vp_in v1 20 := by
    rw [ii_of v1]
    exact ii_in a0 (by omega) (by omega)
  have good : ∀ f : Int, v2.toInt = f → ∀ r : Int32, r = xA K f v1.toNatClampNeg → wpY_edgeField (fun r' => r' = r ∧ i_Rel (k + 5) (XC K z R M) (YC K (yZ z me) σ α)) (YC K (yZ z me) σ α) v1 v2 := fun f hf r hr => by
    refine iw_lt v1.toInt 0 (fun q => by omega) (fun _ => iw_le (kE K) v1.toInt (fun q => by omega) (fun _ => iw_lt v2.toInt 0 (fun q => by omega) (fun _ => iw_le v2.toInt 6 (fun _ => ?_) (fun q => by omega))) tE rfl)
    have e1 : v1 * 7 + v2 = iI (v1.toInt * 7 + f) := by
      rw [ii_of v1, ii_of v2, hf, ii_toInt (by omega)]
      exact y7 _ _ rfl
    refine And.intro (yp_in e1 (by omega) (by omega)) ⟨?_, (stay 0).2⟩
    have e3 : xA K f v1.toNatClampNeg = iI (kA K v1.toInt f) := by
      have := xa_g K f (e := v1.toInt) (by omega)
      rw [← ii_of v1] at this
      exact this
    rw [hr, e3]
    exact yp_g K e1 (by omega) (by omega)
  refine iw_eq v2.toInt 0 (fun q => And.intro hin (good 0 q _ rfl)) (fun q0 => iw_eq v2.toInt 1 (fun q => And.intro hin (good 1 q _ rfl)) (fun q1 => iw_eq v2.toInt 2 (fun q => And.intro hin (good 2 q _ rfl)) (fun q2 => iw_eq v2.toInt 3 (fun q => And.intro hin (good 3 q _ rfl)) (fun q3 => iw_eq v2.toInt 4 (fun q => And.intro hin (good 4 q _ rfl)) (fun q4 => iw_eq v2.toInt 5 (fun q => And.intro hin (good 5 q _ rfl)) (fun q5 => iw_eq v2.toInt 6 (fun q => And.intro hin (good 6 q _ rfl)) (fun q6 => trivial)))))))
theorem i_vc_setInput {k : Nat} {u : SX} {v : SY} (I : i_Rel k u v) (hk : k + 5 ≤ 2564) (v1 : Int32) : wpX_setInput (fun u' => wpY_setInput (fun v' => i_Rel (k + 5) u' v') v v1) u v1 := by
  obtain ⟨K, z, R, M, me, σ, α, rfl, rfl, ok, mo, hA⟩ := I
  have hh := k_h ok
  have wb := wr_in (h := kh K) v1.toInt hh
  unfold wpX_setInput
  dsimp only [XC, XD]
  refine x_wrap ok v1 ?_
  unfold wpY_setInput
  dsimp only [YC]
  refine y_wrap (y := yZ z me) (σ := σ) (α := α) ok v1 ?_
  exact ⟨K, (z.1, z.2.1, z.2.2.1, z.2.2.2.1, iI (wr (kh K) v1.toInt), z.2.2.2.2.2), R, M, me, σ, α, rfl, rfl, ok, ⟨mo.1, ⟨_, wb.1, wb.2, rfl⟩, mo.2.2.1, mo.2.2.2⟩, hA⟩
theorem i_vc_restart {k : Nat} {u : SX} {v : SY} (I : i_Rel k u v) (hk : k + 5 ≤ 2564) : wpX_restart (fun u' => wpY_restart (fun v' => i_Rel (k + 5) u' v') v) u := by
  obtain ⟨K, z, R, M, me, σ, α, rfl, rfl, ok, mo, hA⟩ := I
  exact x_rst ok (fun va ce h1 h2 => y_rst (fun me' h3 => ⟨K, (z.1, 0, 0, -1, z.2.2.2.2.1, va, ce), R, M, me', σ, α, rfl, rfl, ok, m_z ok mo.2.1 h1 h2 h3, hA⟩))
theorem i_vc_verdict {k : Nat} {u : SX} {v : SY} (I : i_Rel k u v) (hk : k + 5 ≤ 2564) (v1 : Int32) : wpX_verdict (fun r u' => wpY_verdict (fun r' => r' = r ∧ i_Rel (k + 5) u' v) v v1) u v1 := by
  obtain ⟨K, z, R, M, me, σ, α, rfl, rfl, ok, mo, hA⟩ := I
  refine x_ver ok (fun e => (hA e).1) v1 (fun r M' hq hM => y_ver ok v1 (fun r' hq' => ⟨congrArg iI ?_, K, z, R, M', me, σ, α, rfl, rfl, ok, mo, fun e => ⟨xo_f ok hM (hA e).1, (hA e).2.1, (xM_e ok hM).trans (hA e).2.2⟩⟩))
  by_cases e : z.1 = 0
  · have n1 : ∀ (A : aT) (r : Int), vq_ K A (¬ z.1 = 0) v1.toInt r → r = -1000 := fun A r h => by
      rcases h with h | h
      · exact absurd e h.1.1
      · exact h.2
    rw [n1 _ r hq, n1 _ r' hq']
  · rw [(hA e).2.2] at hq
    exact vq_u hq' hq
theorem i_vc_analyse {k : Nat} {u : SX} {v : SY} (I : i_Rel k u v) (hk : k + 5 ≤ 2564) (v1 : Int32) : wpX_analyse (fun r u' => wpY_analyse (fun r' v' => r' = r ∧ i_Rel (k + 5) u' v') v v1) u v1 := by
  obtain ⟨K, z, R, M, me, σ, α, rfl, rfl, ok, mo, hA⟩ := I
  refine x_ana ok v1 (fun R' M' hx fx => y_ana ok v1 (fun σ' α' hy fy => ?_))
  have e := fx_u fx fy
  exact ⟨by rw [e], K, (1, z.2), R', M', me, σ', α', rfl, rfl, ok, mo, fun _ => ⟨hx, hy, e⟩⟩
theorem i_vc_machineInfo {k : Nat} {u : SX} {v : SY} (I : i_Rel k u v) (hk : k + 5 ≤ 2564) (v1 : Int32) : wpX_machineInfo (fun r => wpY_machineInfo (fun r' => r' = r ∧ i_Rel (k + 5) u v) v v1) u v1 := by
  obtain ⟨K, z, R, M, me, σ, α, rfl, rfl, ok, mo, hA⟩ := I
  have stay : ∀ r : Int32, r = r ∧ i_Rel (k + 5) (XC K z R M) (YC K (yZ z me) σ α) := fun r => ⟨rfl, K, z, R, M, me, σ, α, rfl, rfl, ok, mo, hA⟩
  have bad : ¬ (0 ≤ v1.toInt ∧ v1.toInt ≤ 3) → wpY_machineInfo (fun r' => r' = -1000 ∧ i_Rel (k + 5) (XC K z R M) (YC K (yZ z me) σ α)) (YC K (yZ z me) σ α) v1 := fun hn => iw_eq v1.toInt 0 (fun q => by omega) (fun _ => iw_eq v1.toInt 1 (fun q => by omega) (fun _ => iw_eq v1.toInt 2 (fun q => by omega) (fun _ => iw_eq v1.toInt 3 (fun q => by omega) (fun _ => stay _))))
  refine iw_lt v1.toInt 0 (fun q => bad (by omega)) (fun a0 => iw_lt 3 v1.toInt (fun q => bad (by omega)) (fun a1 => iw_eq v1.toInt 0 (fun q => ?_) (fun _ => iw_eq v1.toInt 1 (fun q => ?_) (fun _ => iw_eq v1.toInt 2 (fun q => ?_) (fun _ => iw_eq v1.toInt 3 (fun q => ?_) (fun _ => trivial))))))
  · exact iw_eq v1.toInt 0 (fun _ => stay _) (fun q2 => absurd q q2)
  · exact iw_eq v1.toInt 0 (fun q2 => by omega) (fun _ => iw_eq v1.toInt 1 (fun _ => stay _) (fun q2 => absurd q q2))
  · exact iw_eq v1.toInt 0 (fun q2 => by omega) (fun _ => iw_eq v1.toInt 1 (fun q2 => by omega) (fun _ => iw_eq v1.toInt 2 (fun _ => stay _) (fun q2 => absurd q q2)))
  · exact iw_eq v1.toInt 0 (fun q2 => by omega) (fun _ => iw_eq v1.toInt 1 (fun q2 => by omega) (fun _ => iw_eq v1.toInt 2 (fun q2 => by omega) (fun _ => iw_eq v1.toInt 3 (fun _ => stay _) (fun q2 => absurd q q2))))
theorem i_vc_machineSlot {k : Nat} {u : SX} {v : SY} (I : i_Rel k u v) (hk : k + 5 ≤ 2564) (v1 : Int32) : wpX_machineSlot (fun r => wpY_machineSlot (fun r' => r' = r ∧ i_Rel (k + 5) u v) v v1) u v1 := by
  obtain ⟨K, z, R, M, me, σ, α, rfl, rfl, ok, mo, hA⟩ := I
  have hV := ok.2.1
  have st : i_Rel (k + 5) (XC K z R M) (YC K (yZ z me) σ α) := ⟨K, z, R, M, me, σ, α, rfl, rfl, ok, mo, hA⟩
  have tVC : (iI (kV K) + iI (kC K)).toInt = kV K + kC K := by rw [ii_add, ii_toInt (by omega)]
  have tV := ii_toInt (a := kV K) (by omega)
  refine iw_lt v1.toInt 0 (fun q => ?_) (fun a0 => iw_lt v1.toInt (kV K + kC K) (fun a1 => iw_le (kV K) v1.toInt (fun b => ?_) (fun b => ?_) tV rfl) (fun q => ?_) rfl tVC)
  · exact iw_lt v1.toInt 0 (fun _ => ⟨rfl, st⟩) (fun q2 => by omega)
  · have ev := ii_of v1
    generalize v1.toInt = i at *
    subst ev
    have es : iI i - iI (kV K) = iI (i - kV K) := ii_sub _ _
    refine And.intro (by rw [es]; exact ii_in (by omega) (by omega) (by omega)) (iw_lt i 0 (fun q2 => by omega) (fun _ => iw_le (kV K + kC K) i (fun q2 => by omega) (fun _ => And.intro (ii_in (by omega) (by omega) (by omega)) ⟨?_, st⟩) tVC (ii_toInt (by omega))) (ii_toInt (by omega)) rfl)
    obtain ⟨a, _, _, e1, e2⟩ := mo.2.2.2 (i - kV K) (by omega) (by omega)
    rw [es]
    show me (iI i).toNatClampNeg = z.2.2.2.2.2.2 (iI (i - kV K)).toNatClampNeg
    rw [rd_g me (by omega), rd_g z.2.2.2.2.2.2 (by omega), e1, ← e2]
    exact congrArg (rd me) (by omega)
  · have ev := ii_of v1
    generalize v1.toInt = i at *
    subst ev
    refine And.intro (ii_in (by omega) (by omega) (by omega)) (iw_lt i 0 (fun q2 => by omega) (fun _ => iw_le (kV K + kC K) i (fun q2 => by omega) (fun _ => And.intro (ii_in (by omega) (by omega) (by omega)) ⟨?_, st⟩) tVC (ii_toInt (by omega))) (ii_toInt (by omega)) rfl)
    obtain ⟨a, _, _, e1, e2⟩ := mo.2.2.1 i (by omega) (by omega)
    show me (iI i).toNatClampNeg = z.2.2.2.2.2.1 (iI i).toNatClampNeg
    rw [rd_g me (by omega), rd_g z.2.2.2.2.2.1 (by omega), e1, e2]
  · exact iw_lt v1.toInt 0 (fun q2 => by omega) (fun _ => iw_le (kV K + kC K) v1.toInt (fun _ => ⟨rfl, st⟩) (fun q2 => by omega) tVC rfl)
end
section
/-! ===== the constructors, classPart, covered ===== -/
def clp (x lo hi : Int) : Int := if x < lo then lo else if hi < x then hi else x
theorem clp_b {x lo hi : Int} (h : lo ≤ hi) : lo ≤ clp x lo hi ∧ clp x lo hi ≤ hi := by
  unfold clp
  split
  · omega
  · split <;> omega
theorem x_clp {post : Int32 → Prop} (u : SX) (v : Int32) {lo hi : Int} {a b : Int32} (ha : a = iI lo) (hb : b = iI hi) (hl : -1000 ≤ lo ∧ lo ≤ hi ∧ hi ≤ 1000) (h : post (iI (clp v.toInt lo hi))) : wpX_clamp post u v a b := by
  subst ha hb
  obtain ⟨_, _, _, _, _, _, _, _, _, _, _, _, _, _, _, _, _, _, _, _, _, _, _, _, _, _, _, _, _, _, _, _, _, _, _, _⟩ := u
  unfold clp at h
  refine iw_le lo v.toInt (fun e => iw_le v.toInt hi (fun e2 => ?_) (fun e2 => ?_) rfl (ii_toInt (by omega))) (fun e => ?_) (ii_toInt (by omega)) rfl
  · rw [if_neg (by omega), if_neg (by omega), ← ii_of] at h
    exact h
  · rw [if_neg (by omega), if_pos e2] at h
    exact h
  · rw [if_pos e] at h
    exact h
theorem y_clp {post : Int32 → Prop} (u : SY) (v : Int32) {lo hi : Int} {a b : Int32} (ha : a = iI lo) (hb : b = iI hi) (hl : -1000 ≤ lo ∧ lo ≤ hi ∧ hi ≤ 1000) (h : post (iI (clp v.toInt lo hi))) : wpY_clamp post u v a b := by
  subst ha hb
  obtain ⟨_, _, _, _, _, _, _, _, _, _, _, _, _, _, _, _, _⟩ := u
  unfold clp at h
  refine iw_le lo v.toInt (fun e => iw_le v.toInt hi (fun e2 => ?_) (fun e2 => ?_) rfl (ii_toInt (by omega))) (fun e => ?_) (ii_toInt (by omega)) rfl
  · rw [if_neg (by omega), if_neg (by omega), ← ii_of] at h
    exact h
  · rw [if_neg (by omega), if_pos e2] at h
    exact h
  · rw [if_pos e] at h
    exact h
theorem mn_c {b : Int} (hb : b = 3 ∨ b = 4 ∨ b = 5) : -((1 : Int32) <<< ((iI b - 1) &&& 31)) = iI (-hf b) := by
  rcases hb with rfl | rfl | rfl <;> decide
theorem mx_c {b : Int} (hb : b = 3 ∨ b = 4 ∨ b = 5) : ((1 : Int32) <<< ((iI b - 1) &&& 31)) - 1 = iI (hf b - 1) := by
  rcases hb with rfl | rfl | rfl <;> decide
theorem my_c {b : Int} (hb : b = 3 ∨ b = 4 ∨ b = 5) : -(iI (-hf b)) - 1 = iI (hf b - 1) := by
  rcases hb with rfl | rfl | rfl <;> decide
theorem i_vc0 (k0 : Int32) (k1 : Int32) (k2 : Int32) (k3 : Int32) : wpX_init (fun u => wpY_init (fun v => i_Rel 4 u v) k0 k1 k2 k3) k0 k1 k2 k3 := by
  have b0 := clp_b (x := k0.toInt) (lo := 3) (hi := 5) (by omega)
  have b1 := clp_b (x := k1.toInt) (lo := 2) (hi := 10) (by omega)
  have b2 := clp_b (x := k2.toInt) (lo := 1) (hi := 3) (by omega)
  have b3 := clp_b (x := k3.toInt) (lo := 1) (hi := 8) (by omega)
  have hb : clp k0.toInt 3 5 = 3 ∨ clp k0.toInt 3 5 = 4 ∨ clp k0.toInt 3 5 = 5 := by omega
  unfold wpX_init
  refine x_clp (lo := 3) (hi := 5) _ k0 rfl rfl (by omega) (x_clp (lo := 2) (hi := 10) _ k1 rfl rfl (by omega) (x_clp (lo := 1) (hi := 3) _ k2 rfl rfl (by omega) (x_clp (lo := 1) (hi := 8) _ k3 rfl rfl (by omega) (nm_r (mn_c hb) (nm_r (mx_c hb) ?_)))))
  unfold wpY_init
  refine y_clp (lo := 3) (hi := 5) _ k0 rfl rfl (by omega) (nm_r (mn_c hb) (nm_r (my_c hb) (y_clp (lo := 2) (hi := 10) _ k1 rfl rfl (by omega) (y_clp (lo := 1) (hi := 3) _ k2 rfl rfl (by omega) (y_clp (lo := 1) (hi := 8) _ k3 rfl rfl (by omega) ?_)))))
  have ok : k_ok (clp k0.toInt 3 5, clp k1.toInt 2 10, clp k2.toInt 1 3, clp k3.toInt 1 8, 0, 0, fun _ _ => 0, fun _ => 0) := by
    refine ⟨hb, ⟨b1.1, b1.2, b2.1, b2.2, b3.1, b3.2, Int.le_refl _, by show (0 : Int) ≤ 20; omega, Int.le_refl _, by show (0 : Int) ≤ 6; omega⟩, fun e e0 e1 => ?_, fun e e0 e1 => ?_⟩
    · have : e < 0 := e1
      omega
    · have : e < 0 := e1
      omega
  refine y_rst (k := (clp k0.toInt 3 5, clp k1.toInt 2 10, clp k2.toInt 1 3, clp k3.toInt 1 8, 0, 0, fun _ _ => 0, fun _ => 0)) (y := (0, 0, 0, 0, 0, fun _ => 0)) (σ := fun _ => false) (α := fun _ => false) (fun me' h3 => ?_)
  exact ⟨(clp k0.toInt 3 5, clp k1.toInt 2 10, clp k2.toInt 1 3, clp k3.toInt 1 8, 0, 0, fun _ _ => 0, fun _ => 0), (0, 0, 0, -1, 0, fun _ => 0, fun _ => 0), (fun _ => 0, fun _ => 0, fun _ => 0, fun _ => 0), fun _ => (0, 0, 0), me', fun _ => false, fun _ => false, rfl, rfl, ok, m_z ok ⟨0, by have := k_h ok; omega, by have := k_h ok; omega, rfl⟩ (fun _ _ _ => rfl) (fun _ _ _ => rfl) h3, fun q => absurd rfl q⟩
theorem ii_m1001 : (-1001 : Int32) = iI (-1001) := by decide
/-- a part of a class -/
def cpv (c : cT) (t : Int) : Int := if c.2.1 < c.1 then -1001 else if t = 0 then c.1 else if t = 1 then c.2.1 else c.2.2
/-- what the scan from above has seen -/
def sc_ (c : cT) (lo nx hi v : Int) : Prop := (lo = -1001 ∧ nx = -1001 ∧ hi = -1001 ∧ ∀ u, v < u → ¬ cl_m c u) ∨ (cl_m c lo ∧ v < lo ∧ (∀ u, v < u → cl_m c u → lo ≤ u) ∧ hi = c.2.1 ∧ ((lo = c.2.1 ∧ nx = -1001) ∨ (lo < c.2.1 ∧ nx = lo + c.2.2)))
section
variable {k : kT} {y : yT} {σ α : sT}
theorem y_cp65 {post : Int32 → Prop} (ok : k_ok k) {p s t : Int} {c : cT} (hp : 0 ≤ p ∧ p < kP k) (hs : 0 ≤ s ∧ s ≤ kV k) (ht : 0 ≤ t ∧ t ≤ 2) (hn : cl_n c) (hr : ∀ v, cl_m c v → -kh k ≤ v ∧ v < kh k) (hc : ∀ v, -kh k ≤ v → v < kh k → (σ (p * 128 + s * 32 + v + 16) = true ↔ cl_m c v)) (h : post (iI (cpv c t))) : ∀ (n : Nat) (lo nx hi v : Int), sc_ c lo nx hi v → -1001 ≤ lo ∧ lo ≤ 100 ∧ -1001 ≤ nx ∧ nx ≤ 100 ∧ -1001 ≤ hi ∧ hi ≤ 100 → -kh k - 1 ≤ v → v < kh k → (v + kh k + 1).toNat < n → wY_classPart_65 post (iI p) (iI s) (iI t) (iI (-kh k)) (iI (kh k - 1)) (iI (kP k)) (iI (kV k)) (iI (kC k)) (iI (kE k)) (iI (kN k)) y.1 y.2.1 y.2.2.1 y.2.2.2.1 y.2.2.2.2.1 (yP k) (xH k) (yB (σ)) (yB (α)) y.2.2.2.2.2 n (iI lo) (iI nx) (iI hi) (iI v)
  | 0, _, _, _, _, _, _, _, _, hn => by omega
  | n + 1, lo, nx, hi, v, hsc, hb, v0, v1, hfu => by
    have hV := ok.2.1
    have hh := k_h ok
    refine ib_lt v (-kh k) (fun e => ?_) (fun e => ?_) rfl rfl (by omega)
    · -- the scan is over
      have fin : (lo = -1001 ∧ c.2.1 < c.1) ∨ (lo = c.1 ∧ hi = c.2.1 ∧ c.1 ≤ c.2.1 ∧ ((lo = c.2.1 ∧ nx = -1001) ∨ (lo < c.2.1 ∧ nx = lo + c.2.2))) := by
        rcases hsc with ⟨q1, q2, q3, q4⟩ | ⟨q1, q2, q3, q4, q5⟩
        · refine Or.inl ⟨q1, ?_⟩
          rcases hn with e1 | e1
          · rw [e1]
            dsimp only
            omega
          · exact absurd (cl_lo e1) (q4 _ (by have := hr _ (cl_lo e1); omega))
        · have e1 := cl_ne hn (by have := q1.1; have := q1.2.1; omega)
          have e2 := q3 c.1 (by have := hr _ (cl_lo e1); omega) (cl_lo e1)
          have e3 := q1.1
          exact Or.inr ⟨by omega, q4, cl_pl e1, q5⟩
      rcases fin with ⟨f1, f2⟩ | ⟨f1, f2, f3, f4⟩
      · have ev : cpv c t = -1001 := if_pos f2
        rw [ev] at h
        rw [f1]
        exact ib_eq t 0 (fun _ => h) (fun _ => ib_eq (-1001) (-1001) (fun _ => h) (fun q => absurd rfl q) rfl ii_m1001 (by omega)) rfl rfl (by omega)
      · have ev : cpv c t = if t = 0 then c.1 else if t = 1 then c.2.1 else c.2.2 := if_neg (by omega)
        rw [ev] at h
        have l0 : cl_n c := hn
        have e1 := cl_ne hn f3
        have r0 := hr _ (cl_lo e1)
        refine ib_eq t 0 (fun q => ?_) (fun q => ib_eq lo (-1001) (fun q2 => by omega) (fun _ => ib_eq t 1 (fun q1 => ?_) (fun q1 => ?_) rfl rfl (by omega)) rfl ii_m1001 (by omega)) rfl rfl (by omega)
        · rw [if_pos q] at h
          rw [f1]
          exact h
        · rw [if_neg q, if_pos q1] at h
          rw [f2]
          exact h
        · rw [if_neg q, if_neg q1] at h
          rcases e1 with e1 | e1
          · refine ib_eq nx (-1001) (fun _ => ?_) (fun q2 => by omega) rfl ii_m1001 (by omega)
            rw [e1.2] at h
            exact h
          · refine ib_eq nx (-1001) (fun q2 => by omega) (fun _ => ?_) rfl ii_m1001 (by omega)
            show post (iI nx - iI lo)
            rw [ii_sub, show nx - lo = c.2.2 by omega]
            exact h
    · have hcv := hc v (by omega) (by omega)
      refine y_has rfl rfl rfl (by omega) (by omega) (by omega) (ib_b _ (fun eb => nm_r (e' := iI (v - 1)) (by rw [ii_m1, ii_add]; rfl) (y_cp65 ok hp hs ht hn hr hc h n lo nx hi (v - 1) ?_ hb (by omega) (by omega) (by omega))) (fun eb => ?_))
      · have hno : ¬ cl_m c v := fun q => by
          rw [hcv.mpr q] at eb
          exact absurd eb (by decide)
        rcases hsc with ⟨q1, q2, q3, q4⟩ | ⟨q1, q2, q3, q4, q5⟩
        · refine Or.inl ⟨q1, q2, q3, fun u hu => ?_⟩
          by_cases eu : u = v
          · rw [eu]
            exact hno
          · exact q4 u (by omega)
        · refine Or.inr ⟨q1, by omega, fun u hu hm => ?_, q4, q5⟩
          by_cases eu : u = v
          · rw [eu] at hm
            exact absurd hm hno
          · exact q3 u (by omega) hm
      · have hm := hcv.mp eb
        have hcl := cl_ne hn (by have := hm.1; have := hm.2.1; omega)
        rcases hsc with ⟨q1, q2, q3, q4⟩ | ⟨q1, q2, q3, q4, q5⟩
        · have ev : v = c.2.1 := by
            by_cases e3 : v < c.2.1
            · exact absurd (cl_hi hcl) (q4 _ e3)
            · have := hm.2.1
              omega
          refine ib_eq hi (-1001) (fun _ => nm_r (e' := iI (v - 1)) (by rw [ii_m1, ii_add]; rfl) (y_cp65 ok hp hs ht hn hr hc h n v lo v (v - 1) (Or.inr ⟨hm, by omega, fun u hu _ => by omega, ev, Or.inl ⟨ev, q1⟩⟩) (by omega) (by omega) (by omega) (by omega))) (fun q => absurd q3 q) rfl ii_m1001 (by omega)
        · have hhi := hr _ (cl_hi hcl)
          have hlo := hr _ q1
          refine ib_eq hi (-1001) (fun q => by omega) (fun _ => nm_r (e' := iI (v - 1)) (by rw [ii_m1, ii_add]; rfl) (y_cp65 ok hp hs ht hn hr hc h n v lo hi (v - 1) (Or.inr ⟨hm, by omega, fun u hu _ => by omega, q4, Or.inr ⟨by have := q1.2.1; omega, ?_⟩⟩) (by omega) (by omega) (by omega) (by omega))) rfl ii_m1001 (by omega)
          have hlt : v < c.2.1 := by have := q1.2.1; omega
          rcases hcl with e3 | ⟨e3, e4, e5⟩
          · have := hm.1
            omega
          · have d1 := Int.le_of_dvd (by omega) (dv_s q1.2.2 hm.2.2)
            have hcl2 : cl_p c := Or.inr ⟨e3, e4, e5⟩
            have sd : sd_ c = c.2.2 := if_pos e4
            have m2 := en_2 hcl2 hm (by
              rw [sd]
              have := q1.2.1
              omega)
            rw [sd] at m2
            have := q3 _ (by omega) m2
            omega
end
theorem i_vc_classPart {k : Nat} {u : SX} {v : SY} (I : i_Rel k u v) (hk : k + 5 ≤ 2564) (v1 : Int32) (v2 : Int32) (v3 : Int32) : wpX_classPart (fun r => wpY_classPart (fun r' => r' = r ∧ i_Rel (k + 5) u v) v v1 v2 v3) u v1 v2 v3 := by
  obtain ⟨K, z, R, M, me, σ, α, rfl, rfl, ok, mo, hA⟩ := I
  have hV := ok.2.1
  have hh := k_h ok
  have st : i_Rel (k + 5) (XC K z R M) (YC K (yZ z me) σ α) := ⟨K, z, R, M, me, σ, α, rfl, rfl, ok, mo, hA⟩
  have tP := ii_toInt (a := kP K) (by omega)
  have tV := ii_toInt (a := kV K) (by omega)
  have bad : ¬ (¬ z.1 = 0 ∧ (0 ≤ v1.toInt ∧ v1.toInt < kP K) ∧ (0 ≤ v2.toInt ∧ v2.toInt ≤ kV K) ∧ 0 ≤ v3.toInt ∧ v3.toInt ≤ 2) → wpY_classPart (fun r' => r' = -1000 ∧ i_Rel (k + 5) (XC K z R M) (YC K (yZ z me) σ α)) (YC K (yZ z me) σ α) v1 v2 v3 := fun hn => And.intro (fun _ => ⟨rfl, st⟩) (fun ez => iw_lt v1.toInt 0 (fun _ => ⟨rfl, st⟩) (fun a0 => iw_le (kP K) v1.toInt (fun _ => ⟨rfl, st⟩) (fun a1 => iw_lt v2.toInt 0 (fun _ => ⟨rfl, st⟩) (fun b0 => iw_lt (kV K) v2.toInt (fun _ => ⟨rfl, st⟩) (fun b1 => iw_lt v3.toInt 0 (fun _ => ⟨rfl, st⟩) (fun c0 => iw_le v3.toInt 2 (fun c1 => absurd ⟨ez, ⟨a0, a1⟩, ⟨b0, b1⟩, c0, c1⟩ hn) (fun _ => ⟨rfl, st⟩))) tV rfl)) tP rfl))
  refine And.intro (fun ez => bad (fun q => q.1 ez)) (fun ez => iw_lt v1.toInt 0 (fun q => bad (by omega)) (fun a0 => iw_lt v1.toInt (kP K) (fun a1 => iw_lt v2.toInt 0 (fun q => bad (by omega)) (fun b0 => iw_lt (kV K) v2.toInt (fun q => bad (by omega)) (fun b1 => iw_lt v3.toInt 0 (fun q => bad (by omega)) (fun c0 => iw_le v3.toInt 2 (fun c1 => ?_) (fun q => bad (by omega)))) tV rfl)) (fun q => bad (by omega)) rfl tP))
  obtain ⟨hx, hy, hM⟩ := hA ez
  have e1 := ii_of v1
  have e2 := ii_of v2
  have e3 := ii_of v3
  clear bad
  generalize v1.toInt = p at *
  generalize v2.toInt = s at *
  generalize v3.toInt = t at *
  subst e1 e2 e3
  have d : k_d K p s := ⟨a0, a1, b0, b1⟩
  have hcn := hx.1 p s d
  have hrg : ∀ v, cl_m (M (4 * p + s)) v → -kh K ≤ v ∧ v < kh K := fun v hv => (hx.2.1 p s v ⟨d, hv⟩).2
  have hcv : ∀ v, -kh K ≤ v → v < kh K → (σ (p * 128 + s * 32 + v + 16) = true ↔ cl_m (M (4 * p + s)) v) := fun v r0 r1 => by
    have : xM K M p s v ↔ sM K σ p s v := by rw [hM]
    constructor
    · intro q
      exact (this.mpr ⟨d, ⟨r0, r1⟩, q⟩).2
    · intro q
      exact (this.mp ⟨d, q⟩).2.2
  have cs := xo_s hx ok d
  have cs2 := cs
  unfold cs_ at cs2
  -- Y's answer
  have Y : ∀ r : Int32, r = iI (cpv (M (4 * p + s)) t) → wpY_classPart (fun r' => r' = r ∧ i_Rel (k + 5) (XC K z R M) (YC K (yZ z me) σ α)) (YC K (yZ z me) σ α) (iI p) (iI s) (iI t) := fun r hr => by
    subst hr
    refine And.intro (fun q => absurd q ez) (fun _ => ib_lt p 0 (fun q => by omega) (fun _ => ib_le (kP K) p (fun q => by omega) (fun _ => ib_lt s 0 (fun q => by omega) (fun _ => ib_lt (kV K) s (fun q => by omega) (fun _ => ib_lt t 0 (fun q => by omega) (fun _ => ib_le t 2 (fun _ => Exists.intro 100 ?_) (fun q => by omega)))))))
    have := y_cp65 (post := fun r' => r' = iI (cpv (M (4 * p + s)) t) ∧ i_Rel (k + 5) (XC K z R M) (YC K (yZ z me) σ α)) (y := yZ z me) (σ := σ) (α := α) ok ⟨a0, a1⟩ ⟨b0, b1⟩ ⟨c0, c1⟩ hcn hrg hcv ⟨rfl, st⟩ 100 (-1001) (-1001) (-1001) (kh K - 1) (Or.inl ⟨rfl, rfl, rfl, fun u hu hm => by have := hrg u hm; omega⟩) (by omega) (by omega) (by omega) (by omega)
    rw [← ii_m1001] at this
    exact this
  have hin : vp_in (iI (4 * p + s)) 52 := ii_in (by omega) (by omega) (by omega)
  refine nm_r (e' := iI (4 * p + s)) (by rw [ii_4, ii_mul, ii_add]) (x_emp rfl (by omega) cs (fun el => br_t rfl (ib_eq t 0 (fun q => And.intro hin (Y _ ?_)) (fun q => ib_eq t 1 (fun q1 => And.intro hin (Y _ ?_)) (fun q1 => And.intro hin (Y _ ?_))))) (fun el => br_f (by decide) (Y _ ?_)))
  · rw [show cpv (M (4 * p + s)) t = (M (4 * p + s)).1 by unfold cpv; rw [if_neg (by omega), if_pos q]]
    exact xl_g M (by omega)
  · rw [show cpv (M (4 * p + s)) t = (M (4 * p + s)).2.1 by unfold cpv; rw [if_neg (by omega), if_neg q, if_pos q1]]
    exact xu_g M (by omega)
  · rw [show cpv (M (4 * p + s)) t = (M (4 * p + s)).2.2 by unfold cpv; rw [if_neg (by omega), if_neg q, if_neg q1]]
    exact xs_g M (by omega)
  · rw [show cpv (M (4 * p + s)) t = -1001 from if_pos el]
    exact ii_m1001
end
section
/-! ===== covered ===== -/
def cv_ (k : kT) (A : aT) (cp : Int) (me : Nat → Int32) : Prop := ∀ i, 0 ≤ i → i < kV k + kC k → A cp (if i < kV k then i else kV k) (rd me i).toInt
theorem mo_v {k : kT} {z : zT} {me : Nat → Int32} (ok : k_ok k) (mo : m_ok k z me) {i : Int} (h0 : 0 ≤ i) (h1 : i < kV k) : (-kh k ≤ (rd me i).toInt ∧ (rd me i).toInt < kh k) ∧ z.2.2.2.2.2.1 (iI i).toNatClampNeg = iI (rd me i).toInt := by
  have hV := ok.2.1
  have hh := k_h ok
  obtain ⟨a, a0, a1, e1, e2⟩ := mo.2.2.1 i h0 h1
  have e3 : (rd me i).toInt = a := by rw [e2, ii_toInt (by omega)]
  rw [e3]
  exact ⟨⟨a0, a1⟩, (rd_g _ (by omega)).trans e1⟩
theorem mo_c {k : kT} {z : zT} {me : Nat → Int32} (ok : k_ok k) (mo : m_ok k z me) {i : Int} (h0 : 0 ≤ i) (h1 : i < kC k) : (-kh k ≤ (rd me (kV k + i)).toInt ∧ (rd me (kV k + i)).toInt < kh k) ∧ z.2.2.2.2.2.2 (iI i).toNatClampNeg = iI (rd me (kV k + i)).toInt := by
  have hV := ok.2.1
  have hh := k_h ok
  obtain ⟨a, a0, a1, e1, e2⟩ := mo.2.2.2 i h0 h1
  have e3 : (rd me (kV k + i)).toInt = a := by rw [e2, ii_toInt (by omega)]
  rw [e3]
  exact ⟨⟨a0, a1⟩, (rd_g _ (by omega)).trans e1⟩
section
variable {k : kT} {z : zT} {R : rT} {M : mT}
theorem x_cv90 {post : Int32 → Prop} (ok : k_ok k) {me : Nat → Int32} (mo : m_ok k z me) (hx : x_ok k M) {cp : Int} (hcp : 0 ≤ cp ∧ cp < kP k) (ht : cv_ k (xM k M) cp me → post 1) (hf : ¬ cv_ k (xM k M) cp me → post 0) (hv : ∀ i, 0 ≤ i → i < kV k → cl_m (M (4 * cp + i)) (rd me i).toInt) : ∀ (n : Nat) (i : Int), (∀ j, 0 ≤ j → j < i → cl_m (M (4 * cp + kV k)) (rd me (kV k + j)).toInt) → 0 ≤ i → i ≤ kC k → (kC k - i).toNat < n → wX_covered_90 post (iI (4 * cp + kV k)) (iI (kB k)) (iI (kP k)) (iI (kV k)) (iI (kC k)) (iI (-kh k)) (iI (kh k - 1)) (iI (kE k)) (iI (kN k)) z.1 40 44 48 49 50 51 z.2.1 z.2.2.1 z.2.2.2.1 z.2.2.2.2.1 (xA k 0) (xA k 1) (xA k 2) (xA k 3) (xA k 4) (xA k 5) (xA k 6) (xH k) (xL (M)) (xU (M)) (xS (M)) R.1 R.2.1 R.2.2.1 R.2.2.2 z.2.2.2.2.2.1 z.2.2.2.2.2.2 n (iI i)
  | 0, _, _, _, _, hn => by omega
  | n + 1, i, h1, i0, i1, hn => by
    have hV := ok.2.1
    have hh := k_h ok
    have d : k_d k cp (kV k) := ⟨hcp.1, hcp.2, by omega, by omega⟩
    refine ib_le (kC k) i (fun e => ht (fun j j0 j1 => ?_)) (fun e => ?_) rfl rfl (by omega)
    · by_cases q : j < kV k
      · rw [if_pos q]
        exact ⟨⟨hcp.1, hcp.2, j0, by omega⟩, hv j j0 q⟩
      · rw [if_neg q]
        have := h1 (j - kV k) (by omega) (by omega)
        rw [show kV k + (j - kV k) = j by omega] at this
        exact ⟨d, this⟩
    · have hin : vp_in (iI (4 * cp + kV k)) 52 := ii_in (by omega) (by omega) (by omega)
      obtain ⟨r, ev⟩ := mo_c ok mo i0 e
      have cs := xo_s hx ok d
      refine And.intro hin (And.intro hin (And.intro hin (And.intro (ii_in (by omega) (by omega) (by omega)) (x_mem (lo := (M (4 * cp + kV k)).1) (hi := (M (4 * cp + kV k)).2.1) (st := (M (4 * cp + kV k)).2.2) (n := (rd me (kV k + i)).toInt) (xl_g M (by omega)) (xu_g M (by omega)) (xs_g M (by omega)) ev (hx.1 cp (kV k) d) cs (by omega) (fun hm => br_f (by decide) (nm_r (ii_add i 1) (x_cv90 ok mo hx hcp ht hf hv n (i + 1) (fun j j0 j1 => ?_) (by omega) (by omega) (by omega)))) (fun hm => br_t rfl (hf (fun q => ?_)))))))
      · by_cases ej : j = i
        · rw [ej]
          exact hm
        · exact h1 j j0 (by omega)
      · have := (q (kV k + i) (by omega) (by omega)).2
        rw [if_neg (by omega)] at this
        exact hm this
theorem x_cv30 {post : Int32 → Prop} (ok : k_ok k) {me : Nat → Int32} (mo : m_ok k z me) (hx : x_ok k M) {cp : Int} (hcp : 0 ≤ cp ∧ cp < kP k) (ht : cv_ k (xM k M) cp me → post 1) (hf : ¬ cv_ k (xM k M) cp me → post 0) : ∀ (n : Nat) (i : Int), (∀ j, 0 ≤ j → j < i → cl_m (M (4 * cp + j)) (rd me j).toInt) → 0 ≤ i → i ≤ kV k → (kV k - i).toNat < n → wX_covered_30 post (iI (4 * cp)) (iI (kB k)) (iI (kP k)) (iI (kV k)) (iI (kC k)) (iI (-kh k)) (iI (kh k - 1)) (iI (kE k)) (iI (kN k)) z.1 40 44 48 49 50 51 z.2.1 z.2.2.1 z.2.2.2.1 z.2.2.2.2.1 (xA k 0) (xA k 1) (xA k 2) (xA k 3) (xA k 4) (xA k 5) (xA k 6) (xH k) (xL (M)) (xU (M)) (xS (M)) R.1 R.2.1 R.2.2.1 R.2.2.2 z.2.2.2.2.2.1 z.2.2.2.2.2.2 n (iI i)
  | 0, _, _, _, _, hn => by omega
  | n + 1, i, h1, i0, i1, hn => by
    have hV := ok.2.1
    have hh := k_h ok
    refine ib_le (kV k) i (fun e => nm_r (ii_add _ _) (Exists.intro 20 (x_cv90 ok mo hx hcp ht hf (fun j j0 j1 => h1 j j0 (by omega)) 20 0 (fun j j0 j1 => by omega) (by omega) (by omega) (by omega)))) (fun e => nm_r (ii_add _ _) ?_) rfl rfl (by omega)
    have d : k_d k cp i := ⟨hcp.1, hcp.2, i0, by omega⟩
    have hin : vp_in (iI (4 * cp + i)) 52 := ii_in (by omega) (by omega) (by omega)
    obtain ⟨r, ev⟩ := mo_v ok mo i0 e
    have cs := xo_s hx ok d
    refine And.intro hin (And.intro hin (And.intro hin (And.intro (ii_in (by omega) (by omega) (by omega)) (x_mem (lo := (M (4 * cp + i)).1) (hi := (M (4 * cp + i)).2.1) (st := (M (4 * cp + i)).2.2) (n := (rd me i).toInt) (xl_g M (by omega)) (xu_g M (by omega)) (xs_g M (by omega)) ev (hx.1 cp i d) cs (by omega) (fun hm => br_f (by decide) (nm_r (ii_add i 1) (x_cv30 ok mo hx hcp ht hf n (i + 1) (fun j j0 j1 => ?_) (by omega) (by omega) (by omega)))) (fun hm => br_t rfl (hf (fun q => ?_)))))))
    · by_cases ej : j = i
      · rw [ej]
        exact hm
      · exact h1 j j0 (by omega)
    · have := (q i (by omega) (by omega)).2
      rw [if_pos (by omega)] at this
      exact hm this
end
section
variable {k : kT} {y : yT} {σ α : sT}
theorem y_cv13 {post : Int32 → Prop} (ok : k_ok k) {cp : Int} (hcp : 0 ≤ cp ∧ cp < kP k) (hy : y.2.1 = iI cp) (hr : ∀ i, 0 ≤ i → i < kV k + kC k → -kh k ≤ (rd y.2.2.2.2.2 i).toInt ∧ (rd y.2.2.2.2.2 i).toInt < kh k) (ht : cv_ k (sM k σ) cp y.2.2.2.2.2 → post 1) (hf : ¬ cv_ k (sM k σ) cp y.2.2.2.2.2 → post 0) : ∀ (n : Nat) (i : Int), (∀ j, 0 ≤ j → j < i → sM k σ cp (if j < kV k then j else kV k) (rd y.2.2.2.2.2 j).toInt) → 0 ≤ i → i ≤ kV k + kC k → (kV k + kC k - i).toNat < n → wY_covered_13 post (iI (-kh k)) (iI (kh k - 1)) (iI (kP k)) (iI (kV k)) (iI (kC k)) (iI (kE k)) (iI (kN k)) y.1 y.2.1 y.2.2.1 y.2.2.2.1 y.2.2.2.2.1 (yP k) (xH k) (yB (σ)) (yB (α)) y.2.2.2.2.2 n (iI i)
  | 0, _, _, _, _, hn => by omega
  | n + 1, i, h1, i0, i1, hn => by
    have hV := ok.2.1
    have hh := k_h ok
    refine ib_le (kV k + kC k) i (fun e => ht (fun j j0 j1 => h1 j j0 (by omega))) (fun e => ?_) (ii_add _ _) rfl (by omega)
    have r := hr i i0 e
    have em : y.2.2.2.2.2 (iI i).toNatClampNeg = iI (rd y.2.2.2.2.2 i).toInt := (rd_g _ (by omega)).trans (ii_of _)
    have go : ∀ s : Int, s = (if i < kV k then i else kV k) → 0 ≤ s → s ≤ kV k → wY_covered_47 post (wY_covered_13 post (iI (-kh k)) (iI (kh k - 1)) (iI (kP k)) (iI (kV k)) (iI (kC k)) (iI (kE k)) (iI (kN k)) y.1 y.2.1 y.2.2.1 y.2.2.2.1 y.2.2.2.2.1 (yP k) (xH k) (yB (σ)) (yB (α)) y.2.2.2.2.2 n) (iI i) (iI s) y.2.1 (iI (-kh k)) (iI (kh k - 1)) (iI (kP k)) (iI (kV k)) (iI (kC k)) (iI (kE k)) (iI (kN k)) y.1 y.2.1 y.2.2.1 y.2.2.2.1 y.2.2.2.2.1 (yP k) (xH k) (yB (σ)) (yB (α)) y.2.2.2.2.2 := fun s hs s0 s1 => by
      refine And.intro (ii_in (by omega) (by omega) (by omega)) (y_has (p := cp) (s := s) (v := (rd y.2.2.2.2.2 i).toInt) hy rfl em (by omega) (by omega) (by omega) (ib_b _ (fun eb => hf (fun q => ?_)) (fun eb => nm_r (ii_add i 1) (y_cv13 ok hcp hy hr ht hf n (i + 1) (fun j j0 j1 => ?_) (by omega) (by omega) (by omega)))))
      · have := (q i i0 e).2.2
        rw [← hs, eb] at this
        exact absurd this (by decide)
      · by_cases ej : j = i
        · rw [ej, ← hs]
          exact ⟨⟨hcp.1, hcp.2, s0, s1⟩, r, eb⟩
        · exact h1 j j0 (by omega)
    exact ib_le (kV k) i (fun q => go (kV k) (by rw [if_neg (by omega)]) (by omega) (by omega)) (fun q => go i (by rw [if_pos q]) i0 (by omega)) rfl rfl (by omega)
end
theorem i_vc_covered {k : Nat} {u : SX} {v : SY} (I : i_Rel k u v) (hk : k + 5 ≤ 2564) : wpX_covered (fun r => wpY_covered (fun r' => r' = r ∧ i_Rel (k + 5) u v) v) u := by
  obtain ⟨K, z, R, M, me, σ, α, rfl, rfl, ok, mo, hA⟩ := I
  have hV := ok.2.1
  have hh := k_h ok
  have st : i_Rel (k + 5) (XC K z R M) (YC K (yZ z me) σ α) := ⟨K, z, R, M, me, σ, α, rfl, rfl, ok, mo, hA⟩
  refine And.intro (fun ez => And.intro (fun _ => ⟨rfl, st⟩) (fun q => absurd ez q)) (fun ez => ?_)
  obtain ⟨hx, hy, hM⟩ := hA ez
  obtain ⟨cp, c0, c1, ecp⟩ := mo.1
  have hr : ∀ i, 0 ≤ i → i < kV K + kC K → -kh K ≤ (rd me i).toInt ∧ (rd me i).toInt < kh K := fun i i0 i1 => by
    by_cases q : i < kV K
    · exact (mo_v ok mo i0 q).1
    · have := (mo_c ok mo (i := i - kV K) (by omega) (by omega)).1
      rw [show kV K + (i - kV K) = i by omega] at this
      exact this
  have Y1 : cv_ K (xM K M) cp me → wpY_covered (fun r' => r' = 1 ∧ i_Rel (k + 5) (XC K z R M) (YC K (yZ z me) σ α)) (YC K (yZ z me) σ α) := fun hc => And.intro (fun q => absurd q ez) (fun _ => Exists.intro 20 (y_cv13 (y := yZ z me) (σ := σ) (α := α) ok ⟨c0, c1⟩ ecp hr (fun _ => ⟨rfl, st⟩) (fun q => absurd (by rw [← hM]; exact hc) q) 20 0 (fun j j0 j1 => by omega) (by omega) (by omega) (by omega)))
  have Y0 : ¬ cv_ K (xM K M) cp me → wpY_covered (fun r' => r' = 0 ∧ i_Rel (k + 5) (XC K z R M) (YC K (yZ z me) σ α)) (YC K (yZ z me) σ α) := fun hc => And.intro (fun q => absurd q ez) (fun _ => Exists.intro 20 (y_cv13 (y := yZ z me) (σ := σ) (α := α) ok ⟨c0, c1⟩ ecp hr (fun q => absurd (by rw [hM]; exact q) hc) (fun _ => ⟨rfl, st⟩) 20 0 (fun j j0 j1 => by omega) (by omega) (by omega) (by omega)))
  refine nm_r (e' := iI (4 * cp)) (by rw [ecp]; exact ii_mul 4 cp) (x_emp rfl (by omega) (by have := xo_s hx ok (p := cp) (s := 0) ⟨c0, c1, by omega, by omega⟩; rw [Int.add_zero] at this; exact this) (fun el => br_t rfl (Exists.intro 20 (x_cv30 ok mo hx ⟨c0, c1⟩ Y1 Y0 20 0 (fun j j0 j1 => by omega) (by omega) (by omega) (by omega)))) (fun el => br_f (by decide) (Y0 (fun q => ?_))))
  have := (q 0 (by omega) (by omega)).2
  rw [if_pos (by omega), Int.add_zero] at this
  have h1 := this.1
  have h2 := this.2.1
  omega
end
section
/-! ===== the machine: step ===== -/
def ma_ (me : Nat → Int32) (g : Int → Int) : Int := (rd me (fl_1 g)).toInt
def mw_ (k : kT) (me : Nat → Int32) (g : Int → Int) : Int := if fl_2 (kV k) g < kV k then (rd me (fl_2 (kV k) g)).toInt else if 0 ≤ ma_ me g ∧ ma_ me g < kC k then (rd me (kV k + ma_ me g)).toInt else 0
def pa_ (k : kT) (me : Nat → Int32) (g : Int → Int) : Prop := fl_p (kh k) (kC k) g (ma_ me g) (mw_ k me g)
/-- blocked -/
def bl_ (k : kT) (me : Nat → Int32) (pi : Int) (g : Int → Int) : Prop := (g 2 = 3 ∧ ¬ (g 4 ≤ pi ∧ pi ≤ g 5)) ∨ (¬ pa_ k me g ∧ ¬ ob_ g)
/-- the value written -/
def nv_ (k : kT) (me : Nat → Int32) (pi : Int) (g : Int → Int) : Int := if g 2 = 3 then pi else fl_r (kh k) g (ma_ me g) (mw_ k me g)
def nw_ (g : Int → Int) : Prop := g 2 = 1 ∨ g 2 = 2 ∨ g 2 = 3 ∨ g 2 = 7
theorem mw_r {k : kT} {z : zT} {me : Nat → Int32} (ok : k_ok k) (mo : m_ok k z me) {g : Int → Int} (ho : ed_ok (kh k) (kP k) (kV k) g) : (-kh k ≤ ma_ me g ∧ ma_ me g < kh k) ∧ -kh k ≤ mw_ k me g ∧ mw_ k me g < kh k := by
  have hV := ok.2.1
  have hh := k_h ok
  have h12 := ed_12 ho (by omega)
  refine ⟨(mo_v ok mo h12.1 h12.2.1).1, ?_⟩
  unfold mw_
  split
  · rename_i q
    exact (mo_v ok mo h12.2.2.1 q).1
  · split
    · rename_i q
      exact (mo_c ok mo q.1 q.2).1
    · omega
section
variable {k : kT} {z : zT} {R : rT} {M : mT} {me : Nat → Int32}
theorem x_comp {post : Int32 → Prop} (ok : k_ok k) {op a b : Int} {x0 x1 x2 : Int32} (h0 : x0 = iI op) (h1 : x1 = iI a) (h2 : x2 = iI b) (ho : 0 ≤ op ∧ op ≤ 3) (ha : -16 ≤ a ∧ a ≤ 16) (hb : -16 ≤ b ∧ b ≤ 16) (h : post (iI (fl_c (kh k) op a b))) : wpX_compute post (XC k z R M) x0 x1 x2 := by
  subst h0 h1 h2
  have mb := mb_ ha hb
  unfold fl_c at h
  refine ib_lt op 0 (fun q => by omega) (fun _ => ib_lt 2 op (fun q => ?_) (fun _ => ib_eq op 0 (fun e => ?_) (fun e0 => ib_eq op 1 (fun e => ?_) (fun e1 => ib_eq op 2 (fun e => ?_) (fun e2 => trivial)))))
  · rw [if_neg (by omega), if_neg (by omega), if_neg (by omega)] at h
    exact h
  · rw [if_pos e] at h
    exact x_wrapI ok (ii_add a b) (by omega) h
  · rw [if_neg e0, if_pos e] at h
    exact x_wrapI ok (ii_sub a b) (by omega) h
  · rw [if_neg e0, if_neg e1, if_pos e] at h
    exact x_wrapI ok (ii_mul a b) (by omega) h
theorem x_cnd {post : Int32 → Prop} (ok : k_ok k) (mo : m_ok k z me) {e : Int} (he : 0 ≤ e ∧ e < kE k) (hk : kA k e 2 = 4 ∨ kA k e 2 = 5 ∨ kA k e 2 = 6) (ht : pa_ k me (kA k e) → post 1) (hf : ¬ pa_ k me (kA k e) → post 0) : wpX_conditionHolds post (XC k z R M) (iI e) := by
  have hV := ok.2.1
  have hh := k_h ok
  have ho := ok.2.2.1 e he.1 he.2
  have o0 := ho.1
  have hin : vp_in (iI e) 20 := ii_in (by omega) (by omega) (by omega)
  have xg : ∀ f, xA k f (iI e).toNatClampNeg = iI (kA k e f) := fun f => xa_g k f (by omega)
  have h12 := ed_12 ho (by omega)
  obtain ⟨ra, rb⟩ := mw_r ok mo ho
  generalize kA k e = g at *
  have e1 : fl_1 g = g 3 := by rcases hk with q | q | q <;> simp [fl_1, q]
  have vin : ∀ f, 0 ≤ g f ∧ g f < kV k → vp_in (xA k f (iI e).toNatClampNeg) 3 := fun f hf => by
    rw [xg f]
    exact ii_in hf.1 (by omega) (by omega)
  have vg : ∀ f, 0 ≤ g f ∧ g f < kV k → z.2.2.2.2.2.1 (xA k f (iI e).toNatClampNeg).toNatClampNeg = iI (rd me (g f)).toInt := fun f hf => by
    rw [xg f]
    exact (mo_v ok mo hf.1 hf.2).2
  have ea : ma_ me g = (rd me (g 3)).toInt := by unfold ma_; rw [e1]
  have v3 := vg 3 (by omega)
  rw [← ea] at v3
  refine And.intro hin (And.intro (vin 3 (by omega)) (nm_r v3 (And.intro hin (ib_eq (g 2) 4 (fun q => And.intro hin (And.intro hin ?_)) (fun q4 => And.intro hin (ib_eq (g 2) 5 (fun q => And.intro hin (And.intro hin ?_)) (fun q5 => And.intro hin ?_) (xg 2) rfl (by omega))) (xg 2) rfl (by omega)))))
  · have o4 := ho.2.2.2.2.1 q
    have e2 : fl_2 (kV k) g = g 5 := by simp [fl_2, q]
    have eb : mw_ k me g = (rd me (g 5)).toInt := by unfold mw_; rw [e2, if_pos o4.2.2.2]
    have v5 := vg 5 (by omega)
    rw [← eb] at v5
    have fp : pa_ k me g ↔ rl_h (g 4) (ma_ me g) (mw_ k me g) := ⟨fun w => w.1 q, fun w => ⟨fun _ => w, fun y => by omega, fun y => by omega, fun y => by omega⟩⟩
    exact And.intro (vin 5 (by omega)) (x_holds rfl (xg 4) v5 (by omega) (by omega) (by omega) (fun w => And.intro narrow_b1 (ht (fp.mpr w))) (fun w => And.intro narrow_b0 (hf (fun y => w (fp.mp y)))))
  · have o5 := ho.2.2.2.2.2.1 q
    have fp : pa_ k me g ↔ rl_h (g 4) (ma_ me g) (g 5) := ⟨fun w => w.2.1 q, fun w => ⟨fun y => by omega, fun _ => w, fun y => by omega, fun y => by omega⟩⟩
    exact x_holds rfl (xg 4) (xg 5) (by omega) (by omega) (by omega) (fun w => And.intro narrow_b1 (ht (fp.mpr w))) (fun w => And.intro narrow_b0 (hf (fun y => w (fp.mp y))))
  · have q : g 2 = 6 := by omega
    have o6 := ho.2.2.2.2.2.2.1 q
    have e2 : fl_2 (kV k) g = g 4 := by simp [fl_2, q]
    have eb : mw_ k me g = (rd me (g 4)).toInt := by unfold mw_; rw [e2, if_pos o6.2.1]
    have v4 := vg 4 (by omega)
    rw [← eb] at v4
    have fp : pa_ k me g ↔ rl_h (g 5) (wr (kh k) (ma_ me g + mw_ k me g)) (g 6) := ⟨fun w => w.2.2.1 q, fun w => ⟨fun y => by omega, fun y => by omega, fun _ => w, fun y => by omega⟩⟩
    have wb := wr_in (h := kh k) (ma_ me g + mw_ k me g) hh
    exact And.intro (vin 4 (by omega)) (x_wrapI ok (x := ma_ me g + mw_ k me g) (by rw [v4, ii_add]) (by omega) (And.intro hin (And.intro hin (x_holds rfl (xg 5) (xg 6) (by omega) (by omega) (by omega) (fun w => And.intro narrow_b1 (ht (fp.mpr w))) (fun w => And.intro narrow_b0 (hf (fun y => w (fp.mp y))))))))
theorem x_blk {post : Int32 → Prop} (ok : k_ok k) (mo : m_ok k z me) {e pi : Int} (he : 0 ≤ e ∧ e < kE k) (hpi : z.2.2.2.2.1 = iI pi) (rpi : -kh k ≤ pi ∧ pi < kh k) (ht : bl_ k me pi (kA k e) → post 1) (hf : ¬ bl_ k me pi (kA k e) → post 0) : wpX_isBlocked post (XC k z R M) (iI e) := by
  have hV := ok.2.1
  have hh := k_h ok
  have ho := ok.2.2.1 e he.1 he.2
  have o0 := ho.1
  have o9 := ho.2.2.2.2.2.2.2.2
  have hin : vp_in (iI e) 20 := ii_in (by omega) (by omega) (by omega)
  have xg : ∀ f, xA k f (iI e).toNatClampNeg = iI (kA k e f) := fun f => xa_g k f (by omega)
  have cnd := fun (P : Int32 → Prop) hk t f => x_cnd (post := P) (R := R) (M := M) ok mo he hk t f
  generalize kA k e = g at *
  have pt : (g 2 = 0 ∨ g 2 = 1 ∨ g 2 = 2 ∨ g 2 = 3) → pa_ k me g := fun q => fp_t q _ _
  have j68 : (g 2 = 4 ∨ g 2 = 5) → wX_isBlocked_68 post (iI e) (iI (kB k)) (iI (kP k)) (iI (kV k)) (iI (kC k)) (iI (-kh k)) (iI (kh k - 1)) (iI (kE k)) (iI (kN k)) z.1 40 44 48 49 50 51 z.2.1 z.2.2.1 z.2.2.2.1 z.2.2.2.2.1 (xA k 0) (xA k 1) (xA k 2) (xA k 3) (xA k 4) (xA k 5) (xA k 6) (xH k) (xL (M)) (xU (M)) (xS (M)) R.1 R.2.1 R.2.2.1 R.2.2.2 z.2.2.2.2.2.1 z.2.2.2.2.2.2 := fun hk => by
    refine And.intro hin (ib_eq (g 6) 0 (fun q => cnd _ (by omega) (fun w => br_f (by decide) (hf (fun y => ?_))) (fun w => br_t rfl (ht (Or.inr ⟨w, fun y => ?_⟩)))) (fun q => hf (fun y => ?_)) (xg 6) rfl (by omega))
    · rcases y with y | y
      · omega
      · exact y.1 w
    · unfold ob_ at y
      omega
    · rcases y with y | y
      · omega
      · exact y.2 (Or.inr (Or.inr ⟨hk, by omega⟩))
  refine And.intro hin (nm_r (xg 2) (ib_lt (g 2) 3 (fun q => hf (fun y => ?_)) (fun q => ib_lt 6 (g 2) (fun q2 => hf (fun y => ?_)) (fun q2 => ib_eq (g 2) 3 (fun q3 => And.intro hin (ib_lt pi (g 4) (fun w => ht (Or.inl ⟨q3, by omega⟩)) (fun w => And.intro hin (ib_le pi (g 5) (fun w2 => hf (fun y => ?_)) (fun w2 => ht (Or.inl ⟨q3, by omega⟩)) hpi (xg 5) (by omega))) hpi (xg 4) (by omega))) (fun q3 => ib_eq (g 2) 4 (fun q4 => j68 (Or.inl q4)) (fun q4 => ib_eq (g 2) 5 (fun q5 => j68 (Or.inr q5)) (fun q5 => ib_eq (g 2) 6 (fun q6 => cnd _ (by omega) (fun w => br_f (by decide) (hf (fun y => ?_))) (fun w => br_t rfl (ht (Or.inr ⟨w, fun y => ?_⟩)))) (fun q6 => trivial))))))))
  · rcases y with y | y
    · omega
    · exact y.1 (pt (by omega))
  · rcases y with y | y
    · omega
    · refine y.2 ?_
      unfold ob_
      omega
  · rcases y with y | y
    · omega
    · exact y.1 (pt (by omega))
  · rcases y with y | y
    · omega
    · exact y.1 w
  · unfold ob_ at y
    omega
noncomputable def nva_ (k : kT) (me : Nat → Int32) (pi : Int) (g : Int → Int) (va : Nat → Int32) : Nat → Int32 := @ite _ (nw_ g) (Classical.propDecidable _) (upd va (iI (g 3)).toNatClampNeg (iI (nv_ k me pi g))) va
def nce_ (k : kT) (me : Nat → Int32) (pi : Int) (g : Int → Int) (ce : Nat → Int32) : Nat → Int32 := if g 2 = 8 then upd ce (iI (ma_ me g)).toNatClampNeg (iI (nv_ k me pi g)) else ce
noncomputable def nme_ (k : kT) (me : Nat → Int32) (pi : Int) (g : Int → Int) : Nat → Int32 := if g 2 = 8 then upd me (iI (kV k + ma_ me g)).toNatClampNeg (iI (nv_ k me pi g)) else @ite _ (nw_ g) (Classical.propDecidable _) (upd me (iI (g 3)).toNatClampNeg (iI (nv_ k me pi g))) me
def tr_ (g : Int → Int) : Int := if g 2 = 7 ∨ g 2 = 8 then 3 else 2
theorem x_perf {post : Int32 → SX → Prop} (ok : k_ok k) (mo : m_ok k z me) {e pi : Int} (he : 0 ≤ e ∧ e < kE k) (hpi : z.2.2.2.2.1 = iI pi) (rpi : -kh k ≤ pi ∧ pi < kh k) (hb : ¬ bl_ k me pi (kA k e)) (hT : ¬ pa_ k me (kA k e) → ob_ (kA k e) → post (iI (tr_ (kA k e))) (XC k (z.1, z.2.1, iI (tr_ (kA k e)), iI e, z.2.2.2.2.1, z.2.2.2.2.2) R M)) (hS : pa_ k me (kA k e) → post 1 (XC k (z.1, iI (kA k e 1), z.2.2.1, z.2.2.2.1, z.2.2.2.2.1, nva_ k me pi (kA k e) z.2.2.2.2.2.1, nce_ k me pi (kA k e) z.2.2.2.2.2.2) R M)) : wpX_perform post (XC k z R M) (iI e) := by
  have hV := ok.2.1
  have hh := k_h ok
  have ho := ok.2.2.1 e he.1 he.2
  have o0 := ho.1
  have hin : vp_in (iI e) 20 := ii_in (by omega) (by omega) (by omega)
  have xg : ∀ f, xA k f (iI e).toNatClampNeg = iI (kA k e f) := fun f => xa_g k f (by omega)
  have cnd := fun (P : Int32 → Prop) hk t f => x_cnd (post := P) (R := R) (M := M) ok mo he hk t f
  have h12 := ed_12 ho (by omega)
  obtain ⟨ra, rb⟩ := mw_r ok mo ho
  generalize kA k e = g at *
  have vin : ∀ f, 0 ≤ g f ∧ g f < kV k → vp_in (xA k f (iI e).toNatClampNeg) 3 := fun f hf => by
    rw [xg f]
    exact ii_in hf.1 (by omega) (by omega)
  have vg : ∀ f, 0 ≤ g f ∧ g f < kV k → z.2.2.2.2.2.1 (xA k f (iI e).toNatClampNeg).toNatClampNeg = iI (rd me (g f)).toInt := fun f hf => by
    rw [xg f]
    exact (mo_v ok mo hf.1 hf.2).2
  -- the end: the current point moves
  have fin : ∀ va ce, va = nva_ k me pi g z.2.2.2.2.2.1 → ce = nce_ k me pi g z.2.2.2.2.2.2 → pa_ k me g → wX_perform_238 post (iI e) (iI (kB k)) (iI (kP k)) (iI (kV k)) (iI (kC k)) (iI (-kh k)) (iI (kh k - 1)) (iI (kE k)) (iI (kN k)) z.1 40 44 48 49 50 51 z.2.1 z.2.2.1 z.2.2.2.1 z.2.2.2.2.1 (xA k 0) (xA k 1) (xA k 2) (xA k 3) (xA k 4) (xA k 5) (xA k 6) (xH k) (xL M) (xU M) (xS M) R.1 R.2.1 R.2.2.1 R.2.2.2 va ce := fun va ce hva hce hp => by
    subst hva hce
    exact And.intro hin (nm_r (xg 1) (hS hp))
  have nce0 : g 2 ≠ 8 → nce_ k me pi g z.2.2.2.2.2.2 = z.2.2.2.2.2.2 := fun q => if_neg q
  have nva0 : ¬ nw_ g → nva_ k me pi g z.2.2.2.2.2.1 = z.2.2.2.2.2.1 := fun q => if_neg q
  have nva1 : nw_ g → nva_ k me pi g z.2.2.2.2.2.1 = upd z.2.2.2.2.2.1 (iI (g 3)).toNatClampNeg (iI (nv_ k me pi g)) := fun q => if_pos q
  have j32 : ((g 2 = 4 ∨ g 2 = 5) → pa_ k me g) → wX_perform_32 post (iI e) (iI (g 2)) (iI (kB k)) (iI (kP k)) (iI (kV k)) (iI (kC k)) (iI (-kh k)) (iI (kh k - 1)) (iI (kE k)) (iI (kN k)) z.1 40 44 48 49 50 51 z.2.1 z.2.2.1 z.2.2.2.1 z.2.2.2.2.1 (xA k 0) (xA k 1) (xA k 2) (xA k 3) (xA k 4) (xA k 5) (xA k 6) (xH k) (xL (M)) (xU (M)) (xS (M)) R.1 R.2.1 R.2.2.1 R.2.2.2 z.2.2.2.2.2.1 z.2.2.2.2.2.2 := fun hp45 => by
    have j44 : (g 2 = 7 ∨ g 2 = 8) → wX_perform_44 post (iI e) (iI (g 2)) (iI (kB k)) (iI (kP k)) (iI (kV k)) (iI (kC k)) (iI (-kh k)) (iI (kh k - 1)) (iI (kE k)) (iI (kN k)) z.1 40 44 48 49 50 51 z.2.1 z.2.2.1 z.2.2.2.1 z.2.2.2.2.1 (xA k 0) (xA k 1) (xA k 2) (xA k 3) (xA k 4) (xA k 5) (xA k 6) (xH k) (xL (M)) (xU (M)) (xS (M)) R.1 R.2.1 R.2.2.1 R.2.2.2 z.2.2.2.2.2.1 z.2.2.2.2.2.2 := fun hk => by
      have o7 := ho.2.2.2.2.2.2.2.1 hk
      have e1 : fl_1 g = g 4 := by rcases hk with q | q <;> simp [fl_1, q]
      have ea : ma_ me g = (rd me (g 4)).toInt := by unfold ma_; rw [e1]
      have v4 := vg 4 (by omega)
      rw [← ea] at v4
      have pp : pa_ k me g ↔ (0 ≤ ma_ me g ∧ ma_ me g < kC k) := ⟨fun w => w.2.2.2 hk, fun w => ⟨fun y => by omega, fun y => by omega, fun y => by omega, fun _ => w⟩⟩
      have hob : ob_ g := by unfold ob_; omega
      have et : tr_ g = 3 := if_pos hk
      have hlt : ¬ pa_ k me g → wX_perform_68 post (iI e) (iI (kB k)) (iI (kP k)) (iI (kV k)) (iI (kC k)) (iI (-kh k)) (iI (kh k - 1)) (iI (kE k)) (iI (kN k)) z.1 40 44 48 49 50 51 z.2.1 z.2.2.1 z.2.2.2.1 z.2.2.2.2.1 (xA k 0) (xA k 1) (xA k 2) (xA k 3) (xA k 4) (xA k 5) (xA k 6) (xH k) (xL (M)) (xU (M)) (xS (M)) R.1 R.2.1 R.2.2.1 R.2.2.2 z.2.2.2.2.2.1 z.2.2.2.2.2.2 := fun q => by
        have := hT q hob
        rw [et] at this
        exact this
      refine And.intro hin (And.intro (vin 4 (by omega)) (nm_r v4 (ib_lt (ma_ me g) 0 (fun q => hlt (fun w => by have := pp.mp w; omega)) (fun q0 => ib_lt (ma_ me g) (kC k) (fun q1 => ib_eq (g 2) 7 (fun q7 => And.intro hin (And.intro (ii_in q0 (by omega) (by omega)) (And.intro (vin 3 (by omega)) (nm_e ?_)))) (fun q7 => And.intro hin (And.intro (vin 3 (by omega)) (And.intro (ii_in q0 (by omega) (by omega)) (nm_e ?_)))) rfl rfl (by omega)) (fun q => hlt (fun w => by have := pp.mp w; omega)) rfl rfl (by omega)) rfl rfl (by omega))))
      · have en : nv_ k me pi g = (rd me (kV k + ma_ me g)).toInt := by
          unfold nv_ mw_
          rw [if_neg (by omega)]
          simp [fl_r, fl_2, q7, q0, q1]
        refine fin _ _ ?_ (nce0 (by omega)).symm (pp.mpr ⟨q0, q1⟩)
        rw [nva1 (Or.inr (Or.inr (Or.inr q7))), en, xg 3]
        exact congrArg (upd _ _) (mo_c ok mo q0 q1).2
      · have q8 : g 2 = 8 := by omega
        have en : nv_ k me pi g = (rd me (g 3)).toInt := by
          unfold nv_ mw_
          rw [if_neg (by omega)]
          simp [fl_r, fl_2, q8, o0.2.2.2.2.2.2.2]
        refine fin _ _ (nva0 (by unfold nw_; omega)).symm ?_ (pp.mpr ⟨q0, q1⟩)
        rw [show nce_ k me pi g z.2.2.2.2.2.2 = upd z.2.2.2.2.2.2 (iI (ma_ me g)).toNatClampNeg (iI (nv_ k me pi g)) from if_pos q8, en]
        exact congrArg (upd _ _) (vg 3 (by omega))
    refine ib_eq (g 2) 7 (fun q => j44 (Or.inl q)) (fun q7 => ib_eq (g 2) 8 (fun q => j44 (Or.inr q)) (fun q8 => ib_eq (g 2) 1 (fun q1 => ?_) (fun q1 => ib_eq (g 2) 2 (fun q2 => ?_) (fun q2 => ib_eq (g 2) 3 (fun q3 => And.intro hin (And.intro (vin 3 (by omega)) (nm_e ?_))) (fun q3 => ?_)))))
    · have o1 := ho.2.1 q1
      have e1 : fl_1 g = g 5 := by simp [fl_1, q1]
      have e2 : fl_2 (kV k) g = g 6 := by simp [fl_2, q1]
      have ea : ma_ me g = (rd me (g 5)).toInt := by unfold ma_; rw [e1]
      have eb : mw_ k me g = (rd me (g 6)).toInt := by unfold mw_; rw [e2, if_pos o1.2.2.2.2.2]
      have v5 := vg 5 (by omega)
      have v6 := vg 6 (by omega)
      rw [← ea] at v5
      rw [← eb] at v6
      have en : nv_ k me pi g = fl_c (kh k) (g 4) (ma_ me g) (mw_ k me g) := by
        unfold nv_
        rw [if_neg (by omega)]
        simp [fl_r, q1]
      refine And.intro hin (And.intro hin (And.intro hin (And.intro (vin 5 (by omega)) (And.intro hin (And.intro (vin 6 (by omega)) (x_comp ok (xg 4) v5 v6 (by omega) (by omega) (by omega) (And.intro (vin 3 (by omega)) (nm_e (fin _ _ ?_ (nce0 (by omega)).symm (fp_t (by omega) _ _))))))))))
      rw [nva1 (Or.inl q1), en, xg 3]
    · have o2 := ho.2.2.1 q2
      have e1 : fl_1 g = g 5 := by simp [fl_1, q2]
      have ea : ma_ me g = (rd me (g 5)).toInt := by unfold ma_; rw [e1]
      have v5 := vg 5 (by omega)
      rw [← ea] at v5
      have en : nv_ k me pi g = fl_c (kh k) (g 4) (ma_ me g) (g 6) := by
        unfold nv_
        rw [if_neg (by omega)]
        simp [fl_r, q2]
      refine And.intro hin (And.intro hin (And.intro hin (And.intro (vin 5 (by omega)) (And.intro hin (x_comp ok (xg 4) v5 (xg 6) (by omega) (by omega) (by omega) (And.intro (vin 3 (by omega)) (nm_e (fin _ _ ?_ (nce0 (by omega)).symm (fp_t (by omega) _ _)))))))))
      rw [nva1 (Or.inr (Or.inl q2)), en, xg 3]
    · have en : nv_ k me pi g = pi := if_pos q3
      refine fin _ _ ?_ (nce0 (by omega)).symm (fp_t (by omega) _ _)
      rw [nva1 (Or.inr (Or.inr (Or.inl q3))), en, xg 3, hpi]
    · have hp : pa_ k me g := by
        by_cases q45 : g 2 = 4 ∨ g 2 = 5
        · exact hp45 q45
        · by_cases q6 : g 2 = 6
          · by_cases w : pa_ k me g
            · exact w
            · exact absurd (Or.inr ⟨w, fun y => by unfold ob_ at y; omega⟩) hb
          · exact fp_t (by omega) _ _
      exact fin _ _ (nva0 (by unfold nw_; omega)).symm (nce0 (by omega)).symm hp
  have j17 : (g 2 = 4 ∨ g 2 = 5) → wX_perform_17 post (iI e) (iI (g 2)) (iI (kB k)) (iI (kP k)) (iI (kV k)) (iI (kC k)) (iI (-kh k)) (iI (kh k - 1)) (iI (kE k)) (iI (kN k)) z.1 40 44 48 49 50 51 z.2.1 z.2.2.1 z.2.2.2.1 z.2.2.2.2.1 (xA k 0) (xA k 1) (xA k 2) (xA k 3) (xA k 4) (xA k 5) (xA k 6) (xH k) (xL (M)) (xU (M)) (xS (M)) R.1 R.2.1 R.2.2.1 R.2.2.2 z.2.2.2.2.2.1 z.2.2.2.2.2.2 := fun hk => by
    refine cnd _ (by omega) (fun w => br_f (by decide) (j32 (fun _ => w))) (fun w => br_t rfl ?_)
    have hob : ob_ g := by
      by_cases q : ob_ g
      · exact q
      · exact absurd (Or.inr ⟨w, q⟩) hb
    have := hT w hob
    rw [show tr_ g = 2 from if_neg (by omega)] at this
    exact this
  exact And.intro hin (nm_r (xg 2) (ib_eq (g 2) 4 (fun q => j17 (Or.inl q)) (fun q4 => ib_eq (g 2) 5 (fun q => j17 (Or.inr q)) (fun q5 => j32 (fun y => by omega)))))
end
end
section
/-! ===== the machine: Y's step; step ===== -/
theorem nv_r {k : kT} {z : zT} {me : Nat → Int32} (ok : k_ok k) (mo : m_ok k z me) {g : Int → Int} (ho : ed_ok (kh k) (kP k) (kV k) g) {pi : Int} (rpi : -kh k ≤ pi ∧ pi < kh k) : -kh k ≤ nv_ k me pi g ∧ nv_ k me pi g < kh k := by
  obtain ⟨ra, rb⟩ := mw_r ok mo ho
  unfold nv_
  split
  · exact rpi
  · exact fl_rr (k_h ok) ho ra rb
/-- the machines stay alike -/
theorem m_go {k : kT} {z : zT} {me : Nat → Int32} (ok : k_ok k) (mo : m_ok k z me) {g : Int → Int} (ho : ed_ok (kh k) (kP k) (kV k) g) {pi : Int} (rpi : -kh k ≤ pi ∧ pi < kh k) (hp : pa_ k me g) : m_ok k (z.1, iI (g 1), z.2.2.1, z.2.2.2.1, z.2.2.2.2.1, nva_ k me pi g z.2.2.2.2.2.1, nce_ k me pi g z.2.2.2.2.2.2) (nme_ k me pi g) := by
  have hV := ok.2.1
  have hh := k_h ok
  have o0 := ho.1
  have rn := nv_r ok mo ho rpi
  have e1 : (g 2 = 7 ∨ g 2 = 8) → fl_1 g = g 4 := fun q => by rcases q with q | q <;> simp [fl_1, q]
  have a8 : g 2 = 8 → 0 ≤ ma_ me g ∧ ma_ me g < kC k := fun q => hp.2.2.2 (Or.inr q)
  refine ⟨⟨g 1, by omega, by omega, rfl⟩, mo.2.1, fun i i0 i1 => ?_, fun i i0 i1 => ?_⟩
  · obtain ⟨a, a0, a1, e2, e3⟩ := mo.2.2.1 i i0 i1
    by_cases q8 : g 2 = 8
    · have hnw : ¬ nw_ g := by unfold nw_; omega
      have ha := a8 q8
      refine ⟨a, a0, a1, ?_, ?_⟩
      · show rd (nva_ k me pi g z.2.2.2.2.2.1) i = iI a
        rw [show nva_ k me pi g z.2.2.2.2.2.1 = z.2.2.2.2.2.1 from if_neg hnw]
        exact e2
      · rw [show nme_ k me pi g = upd me (iI (kV k + ma_ me g)).toNatClampNeg (iI (nv_ k me pi g)) from if_pos q8, rd_n _ _ (by omega) i0 (by omega)]
        exact e3
    · by_cases hnw : nw_ g
      · have en : nme_ k me pi g = upd me (iI (g 3)).toNatClampNeg (iI (nv_ k me pi g)) := by
          unfold nme_
          rw [if_neg q8]
          exact if_pos hnw
        have ev : nva_ k me pi g z.2.2.2.2.2.1 = upd z.2.2.2.2.2.1 (iI (g 3)).toNatClampNeg (iI (nv_ k me pi g)) := if_pos hnw
        by_cases ei : i = g 3
        · refine ⟨nv_ k me pi g, rn.1, rn.2, ?_, ?_⟩
          · show rd (nva_ k me pi g z.2.2.2.2.2.1) i = _
            rw [ev, ei, rd_s _ _ (by omega)]
          · rw [en, ei, rd_s _ _ (by omega)]
        · refine ⟨a, a0, a1, ?_, ?_⟩
          · show rd (nva_ k me pi g z.2.2.2.2.2.1) i = _
            rw [ev, rd_n _ _ (by omega) i0 ei]
            exact e2
          · rw [en, rd_n _ _ (by omega) i0 ei]
            exact e3
      · refine ⟨a, a0, a1, ?_, ?_⟩
        · show rd (nva_ k me pi g z.2.2.2.2.2.1) i = _
          rw [show nva_ k me pi g z.2.2.2.2.2.1 = z.2.2.2.2.2.1 from if_neg hnw]
          exact e2
        · rw [show nme_ k me pi g = me by unfold nme_; rw [if_neg q8]; exact if_neg hnw]
          exact e3
  · obtain ⟨a, a0, a1, e2, e3⟩ := mo.2.2.2 i i0 i1
    by_cases q8 : g 2 = 8
    · have ha := a8 q8
      have en : nme_ k me pi g = upd me (iI (kV k + ma_ me g)).toNatClampNeg (iI (nv_ k me pi g)) := if_pos q8
      have ec : nce_ k me pi g z.2.2.2.2.2.2 = upd z.2.2.2.2.2.2 (iI (ma_ me g)).toNatClampNeg (iI (nv_ k me pi g)) := if_pos q8
      by_cases ei : i = ma_ me g
      · refine ⟨nv_ k me pi g, rn.1, rn.2, ?_, ?_⟩
        · show rd (nce_ k me pi g z.2.2.2.2.2.2) i = _
          rw [ec, ei, rd_s _ _ (by omega)]
        · rw [en, ei, rd_s _ _ (by omega)]
      · refine ⟨a, a0, a1, ?_, ?_⟩
        · show rd (nce_ k me pi g z.2.2.2.2.2.2) i = _
          rw [ec, rd_n _ _ (by omega) i0 ei]
          exact e2
        · rw [en, rd_n _ _ (by omega) (by omega) (by omega)]
          exact e3
    · refine ⟨a, a0, a1, ?_, ?_⟩
      · show rd (nce_ k me pi g z.2.2.2.2.2.2) i = _
        rw [show nce_ k me pi g z.2.2.2.2.2.2 = z.2.2.2.2.2.2 from if_neg q8]
        exact e2
      · by_cases hnw : nw_ g
        · rw [show nme_ k me pi g = upd me (iI (g 3)).toNatClampNeg (iI (nv_ k me pi g)) by unfold nme_; rw [if_neg q8]; exact if_pos hnw, rd_n _ _ (by omega) (by omega) (by omega)]
          exact e3
        · rw [show nme_ k me pi g = me by unfold nme_; rw [if_neg q8]; exact if_neg hnw]
          exact e3
section
variable {k : kT} {z : zT} {me : Nat → Int32} {σ α : sT}
theorem y_stp {post : Int32 → SY → Prop} (ok : k_ok k) (mo : m_ok k z me) {e pi : Int} (he : 0 ≤ e ∧ e < kE k) (hpi : z.2.2.2.2.1 = iI pi) (rpi : -kh k ≤ pi ∧ pi < kh k) (hst : z.2.2.1 = 0) (hcur : z.2.1 = iI (kA k e 0)) (hB : bl_ k me pi (kA k e) → post (-5) (YC k (yZ z me) σ α)) (hT : ¬ bl_ k me pi (kA k e) → ¬ pa_ k me (kA k e) → ob_ (kA k e) → post (iI (tr_ (kA k e))) (YC k (z.1, z.2.1, iI (tr_ (kA k e)), iI e, z.2.2.2.2.1, me) σ α)) (hS : ¬ bl_ k me pi (kA k e) → pa_ k me (kA k e) → post 1 (YC k (z.1, iI (kA k e 1), z.2.2.1, z.2.2.2.1, z.2.2.2.2.1, nme_ k me pi (kA k e)) σ α)) : wpY_step post (YC k (yZ z me) σ α) (iI e) := by
  have hV := ok.2.1
  have hh := k_h ok
  have ho := ok.2.2.1 e he.1 he.2
  have o0 := ho.1
  have o9 := ho.2.2.2.2.2.2.2.2
  have h12 := ed_12 ho (by omega)
  obtain ⟨ra, rb⟩ := mw_r ok mo ho
  have R : ∀ (f : Int) (c : Int32), c = iI f → 0 ≤ f ∧ f < 7 → vp_in (iI e * 7 + c) 140 ∧ yP k (iI e * 7 + c).toNatClampNeg = iI (kA k e f) := fun f c hc hf => ⟨yp_in (y7 e f hc) (by omega) hf, yp_g k (y7 e f hc) (by omega) hf⟩
  have r1 := R 1 1 rfl (by omega)
  have r2 := R 2 2 rfl (by omega)
  have r4 := R 4 4 rfl (by omega)
  have r5 := R 5 5 rfl (by omega)
  have mg : ∀ i, 0 ≤ i ∧ i < 11 → me (iI i).toNatClampNeg = iI (rd me i).toInt := fun i hi => (rd_g me (by omega)).trans (ii_of _)
  -- the write and the move
  have j292 : ∀ me', me' = nme_ k me pi (kA k e) → ¬ bl_ k me pi (kA k e) → pa_ k me (kA k e) → wY_step_292 post (iI e) (iI (-kh k)) (iI (kh k - 1)) (iI (kP k)) (iI (kV k)) (iI (kC k)) (iI (kE k)) (iI (kN k)) (yZ z me).1 (yZ z me).2.1 (yZ z me).2.2.1 (yZ z me).2.2.2.1 (yZ z me).2.2.2.2.1 (yP k) (xH k) (yB σ) (yB α) me' := fun me' hme hb hp => by
    subst hme
    exact And.intro r1.1 (nm_r r1.2 (hS hb hp))
  have j253 : ∀ x0 : Int32, x0 = iI (nv_ k me pi (kA k e)) → ¬ bl_ k me pi (kA k e) → pa_ k me (kA k e) → wY_step_253 post (iI e) (iI (kA k e 2)) (iI (fl_t (kV k) (kA k e))) (iI (ma_ me (kA k e))) x0 (iI (-kh k)) (iI (kh k - 1)) (iI (kP k)) (iI (kV k)) (iI (kC k)) (iI (kE k)) (iI (kN k)) (yZ z me).1 (yZ z me).2.1 (yZ z me).2.2.1 (yZ z me).2.2.2.1 (yZ z me).2.2.2.2.1 (yP k) (xH k) (yB (σ)) (yB (α)) (yZ z me).2.2.2.2.2 := fun x0 hx0 hb hp => by
    subst hx0
    refine ib_eq (kA k e 2) 8 (fun q8 => ?_) (fun q8 => ib_lt (fl_t (kV k) (kA k e)) 0 (fun q => j292 me ?_ hb hp) (fun q => And.intro (ii_in q (by omega) (by omega)) (nm_e (j292 _ ?_ hb hp))))
    · have ha := hp.2.2.2 (Or.inr q8)
      have es : iI (kV k) + iI (ma_ me (kA k e)) = iI (kV k + ma_ me (kA k e)) := ii_add _ _
      refine And.intro (by rw [es]; exact ii_in (by omega) (by omega) (by omega)) (nm_e (j292 _ ?_ hb hp))
      rw [show nme_ k me pi (kA k e) = upd me (iI (kV k + ma_ me (kA k e))).toNatClampNeg (iI (nv_ k me pi (kA k e))) from if_pos q8, ← es]
    · have hnw : ¬ nw_ (kA k e) := fun w => by
        have : fl_t (kV k) (kA k e) = kA k e 3 := by
          unfold fl_t
          rw [if_neg q8]
          exact if_pos w
        omega
      unfold nme_
      rw [if_neg q8]
      exact (if_neg hnw).symm
    · have hnw : nw_ (kA k e) := by
        by_cases w : nw_ (kA k e)
        · exact w
        · have : fl_t (kV k) (kA k e) = -1 := by
            unfold fl_t
            rw [if_neg q8]
            exact if_neg w
          omega
      have et : fl_t (kV k) (kA k e) = kA k e 3 := by
        unfold fl_t
        rw [if_neg q8]
        exact if_pos hnw
      unfold nme_
      rw [if_neg q8, et]
      exact (if_pos hnw).symm
  have j178 : ¬ (kA k e 2 = 3 ∧ ¬ (kA k e 4 ≤ pi ∧ pi ≤ kA k e 5)) → wY_step_178 post (iI e) (iI (kA k e 2)) (iI (fl_t (kV k) (kA k e))) (iI (ma_ me (kA k e))) (iI (mw_ k me (kA k e))) (iI (-kh k)) (iI (kh k - 1)) (iI (kP k)) (iI (kV k)) (iI (kC k)) (iI (kE k)) (iI (kN k)) (yZ z me).1 (yZ z me).2.1 (yZ z me).2.2.1 (yZ z me).2.2.2.1 (yZ z me).2.2.2.2.1 (yP k) (xH k) (yB (σ)) (yB (α)) (yZ z me).2.2.2.2.2 := fun h3 => by
    refine y_pass ok rfl rfl rfl he (by omega) (by omega) (fun hp => br_f (by decide) ?_) (fun hn => br_t rfl (y_obl ok rfl he (fun hob => br_f (by decide) ?_) (fun hno => br_t rfl (hB (Or.inr ⟨hn, hno⟩)))))
    · have hb : ¬ bl_ k me pi (kA k e) := fun w => w.elim h3 (fun w => w.1 hp)
      refine ib_eq (kA k e 2) 3 (fun q => j253 _ ?_ hb hp) (fun q => y_res ok rfl rfl rfl he (by omega) (by omega) (j253 _ ?_ hb hp))
      · rw [show nv_ k me pi (kA k e) = pi from if_pos q]
        exact hpi
      · rw [show nv_ k me pi (kA k e) = fl_r (kh k) (kA k e) (ma_ me (kA k e)) (mw_ k me (kA k e)) from if_neg q]
    · have hb : ¬ bl_ k me pi (kA k e) := fun w => w.elim h3 (fun w => w.2 hob)
      have ht := hT hb hn hob
      have j214 : (kA k e 2 = 7 ∨ kA k e 2 = 8) → wY_step_214 post (iI e) (iI (-kh k)) (iI (kh k - 1)) (iI (kP k)) (iI (kV k)) (iI (kC k)) (iI (kE k)) (iI (kN k)) (yZ z me).1 (yZ z me).2.1 (yZ z me).2.2.1 (yZ z me).2.2.2.1 (yZ z me).2.2.2.2.1 (yP k) (xH k) (yB (σ)) (yB (α)) (yZ z me).2.2.2.2.2 := fun q => by
        rw [show tr_ (kA k e) = 3 from if_pos q] at ht
        exact ht
      refine ib_eq (kA k e 2) 7 (fun q => j214 (Or.inl q)) (fun q7 => ib_eq (kA k e 2) 8 (fun q => j214 (Or.inr q)) (fun q8 => ?_))
      rw [show tr_ (kA k e) = 2 from if_neg (by omega)] at ht
      exact ht
  have j132 : wY_step_132 post (iI e) (iI (kA k e 2)) (iI (fl_t (kV k) (kA k e))) (iI (ma_ me (kA k e))) (iI (mw_ k me (kA k e))) (iI (-kh k)) (iI (kh k - 1)) (iI (kP k)) (iI (kV k)) (iI (kC k)) (iI (kE k)) (iI (kN k)) (yZ z me).1 (yZ z me).2.1 (yZ z me).2.2.1 (yZ z me).2.2.2.1 (yZ z me).2.2.2.2.1 (yP k) (xH k) (yB (σ)) (yB (α)) (yZ z me).2.2.2.2.2 := by
    refine ib_eq (kA k e 2) 3 (fun q => And.intro r4.1 (ib_lt pi (kA k e 4) (fun w => hB (Or.inl ⟨q, by omega⟩)) (fun w => And.intro r5.1 (ib_le pi (kA k e 5) (fun w2 => j178 (by omega)) (fun w2 => hB (Or.inl ⟨q, by omega⟩)) hpi r5.2 (by omega))) hpi r4.2 (by omega))) (fun q => j178 (by omega))
  refine ib_lt e 0 (fun q => by omega) (fun _ => ib_lt e (kE k) (fun _ => And.intro (fun _ => And.intro (yp_in (y70 e) (by omega) (by omega)) (ib_eq (kA k e 0) (kA k e 0) (fun _ => And.intro r2.1 (nm_r r2.2 (y_first ok rfl he (y_second ok rfl he (y_writ ok rfl he (And.intro (ii_in h12.1 (by omega) (by omega)) (nm_r (e' := iI (ma_ me (kA k e))) (mg _ (by omega)) ?_))))))) (fun q => absurd rfl q) (yp_g k (y70 e) (by omega) (by omega)) hcur (by omega))) (fun q => absurd hst q)) (fun q => by omega))
  refine ib_le (kV k) (fl_2 (kV k) (kA k e)) (fun q => ?_) (fun q => And.intro (ii_in h12.2.2.1 (by omega) (by omega)) ?_) rfl rfl (by omega)
  · have ew : mw_ k me (kA k e) = if 0 ≤ ma_ me (kA k e) ∧ ma_ me (kA k e) < kC k then (rd me (kV k + ma_ me (kA k e))).toInt else 0 := if_neg (by omega)
    refine ib_lt (ma_ me (kA k e)) 0 (fun q1 => ?_) (fun q1 => ib_le (kC k) (ma_ me (kA k e)) (fun q2 => ?_) (fun q2 => ?_) rfl rfl (by omega)) rfl rfl (by omega)
    · rw [show mw_ k me (kA k e) = 0 by rw [ew, if_neg (by omega)]] at j132
      exact j132
    · rw [show mw_ k me (kA k e) = 0 by rw [ew, if_neg (by omega)]] at j132
      exact j132
    · have es : iI (kV k) + iI (ma_ me (kA k e)) = iI (kV k + ma_ me (kA k e)) := ii_add _ _
      refine And.intro (by rw [es]; exact ii_in (by omega) (by omega) (by omega)) ?_
      rw [show mw_ k me (kA k e) = (rd me (kV k + ma_ me (kA k e))).toInt by rw [ew, if_pos ⟨q1, q2⟩], ← mg _ (by omega), ← es] at j132
      exact j132
  · rw [show mw_ k me (kA k e) = (rd me (fl_2 (kV k) (kA k e))).toInt from if_pos q, ← mg _ (by omega)] at j132
    exact j132
/-- an edge that doesn't leave the current point -/
theorem y_awy {post : Int32 → SY → Prop} (ok : k_ok k) {e cp : Int} (he : 0 ≤ e ∧ e < kE k) (hst : z.2.2.1 = 0) (hcur : z.2.1 = iI cp) (hcp : 0 ≤ cp ∧ cp < kP k) (hne : kA k e 0 ≠ cp) (h : post (-4) (YC k (yZ z me) σ α)) : wpY_step post (YC k (yZ z me) σ α) (iI e) := by
  have hV := ok.2.1
  have o0 := (ok.2.2.1 e he.1 he.2).1
  exact ib_lt e 0 (fun q => by omega) (fun _ => ib_lt e (kE k) (fun _ => And.intro (fun _ => And.intro (yp_in (y70 e) (by omega) (by omega)) (ib_eq (kA k e 0) cp (fun q => absurd q hne) (fun _ => h) (yp_g k (y70 e) (by omega) (by omega)) hcur (by omega))) (fun q => absurd hst q)) (fun q => by omega))
end
theorem i_vc_step {k : Nat} {u : SX} {v : SY} (I : i_Rel k u v) (hk : k + 5 ≤ 2564) (v1 : Int32) : wpX_step (fun r u' => wpY_step (fun r' v' => r' = r ∧ i_Rel (k + 5) u' v') v v1) u v1 := by
  obtain ⟨K, z, R, M, me, σ, α, rfl, rfl, ok, mo, hA⟩ := I
  have hV := ok.2.1
  have st : i_Rel (k + 5) (XC K z R M) (YC K (yZ z me) σ α) := ⟨K, z, R, M, me, σ, α, rfl, rfl, ok, mo, hA⟩
  have tE := ii_toInt (a := kE K) (by omega)
  unfold wpX_step
  dsimp only [XC, XD]
  refine x_ie ok v1 (fun a0 a1 => br_f (by decide) ?_) (fun q => br_t rfl ?_)
  · have ev := ii_of v1
    generalize v1.toInt = e at *
    subst ev
    have o0 := (ok.2.2.1 e a0 a1).1
    have ho := ok.2.2.1 e a0 a1
    have hin : vp_in (iI e) 20 := ii_in (by omega) (by omega) (by omega)
    obtain ⟨cp, c0, c1, ecp⟩ := mo.1
    obtain ⟨pi, p0, p1, epi⟩ := mo.2.1
    refine And.intro (fun hst => And.intro hin (ib_eq (kA K e 0) cp (fun ec => ?_) (fun ec => y_awy ok ⟨a0, a1⟩ hst ecp ⟨c0, c1⟩ ec ⟨rfl, st⟩) (xa_g K 0 (by omega)) ecp (by omega))) (fun hst => ib_lt e 0 (fun q => by omega) (fun _ => ib_lt e (kE K) (fun _ => And.intro (fun q => absurd q hst) (fun _ => ⟨rfl, st⟩)) (fun q => by omega)))
    have hcur : z.2.1 = iI (kA K e 0) := by rw [ec]; exact ecp
    refine x_blk ok mo ⟨a0, a1⟩ epi ⟨p0, p1⟩ (fun hb => br_f (by decide) (y_stp ok mo ⟨a0, a1⟩ epi ⟨p0, p1⟩ hst hcur (fun _ => ⟨rfl, st⟩) (fun q => absurd hb q) (fun q => absurd hb q))) (fun hb => br_t rfl (x_perf ok mo ⟨a0, a1⟩ epi ⟨p0, p1⟩ hb (fun hp hob => ?_) (fun hp => ?_)))
    · exact y_stp ok mo ⟨a0, a1⟩ epi ⟨p0, p1⟩ hst hcur (fun q => absurd q hb) (fun _ _ _ => ⟨rfl, K, (z.1, z.2.1, iI (tr_ (kA K e)), iI e, z.2.2.2.2.1, z.2.2.2.2.2), R, M, me, σ, α, rfl, rfl, ok, mo, hA⟩) (fun _ q => absurd q hp)
    · exact y_stp ok mo ⟨a0, a1⟩ epi ⟨p0, p1⟩ hst hcur (fun q => absurd q hb) (fun _ q => absurd hp q) (fun _ _ => ⟨rfl, K, (z.1, iI (kA K e 1), z.2.2.1, z.2.2.2.1, z.2.2.2.2.1, nva_ K me pi (kA K e) z.2.2.2.2.2.1, nce_ K me pi (kA K e) z.2.2.2.2.2.2), R, M, nme_ K me pi (kA K e), σ, α, rfl, rfl, ok, m_go ok mo ho ⟨p0, p1⟩ hp, hA⟩)
  · exact iw_lt v1.toInt 0 (fun _ => ⟨rfl, st⟩) (fun a0 => iw_lt v1.toInt (kE K) (fun a1 => by omega) (fun _ => ⟨rfl, st⟩) rfl tE)
end
section
/-! ===== the machine: run ===== -/
theorem ls_ (P : Int → Prop) : ∀ n : Nat, (∃ e, 0 ≤ e ∧ e < (n : Int) ∧ P e) → ∃ e, 0 ≤ e ∧ e < (n : Int) ∧ P e ∧ ∀ j, 0 ≤ j → j < e → ¬ P j
  | 0, ⟨e, e0, e1, _⟩ => by omega
  | n + 1, h => by
    by_cases hc : ∃ e, 0 ≤ e ∧ e < (n : Int) ∧ P e
    · obtain ⟨e, e0, e1, e2⟩ := ls_ P n hc
      exact ⟨e, e0, by omega, e2⟩
    · obtain ⟨e, e0, e1, e2⟩ := h
      have en : e = n := by
        by_cases q : e < n
        · exact absurd ⟨e, e0, q, e2⟩ hc
        · omega
      exact ⟨e, e0, e1, e2, fun j j0 j1 hj => hc ⟨j, j0, by omega, hj⟩⟩
/-- passable -/
def ps_ (k : kT) (me : Nat → Int32) (pi cp e : Int) : Prop := kA k e 0 = cp ∧ ¬ bl_ k me pi (kA k e)
section
variable {k : kT} {z : zT} {R : rT} {M : mT} {me : Nat → Int32} {σ α : sT}
/-- X looks for the first passable edge from i on: s, or none below E -/
theorem x_fp2 {post : Int32 → Prop} (ok : k_ok k) (mo : m_ok k z me) {pi cp s : Int} (hpi : z.2.2.2.2.1 = iI pi) (rpi : -kh k ≤ pi ∧ pi < kh k) (hcur : z.2.1 = iI cp) (hcp : 0 ≤ cp ∧ cp < kP k) (hs : 0 ≤ s ∧ s ≤ kE k) (hno : ∀ j, 0 ≤ j → j < s → ¬ ps_ k me pi cp j) (hS : s < kE k → ps_ k me pi cp s ∧ post (iI s)) (hE : s = kE k → post (-1)) : ∀ (n : Nat) (i : Int), 0 ≤ i → i ≤ s → (kE k - i).toNat < n → wX_firstPassable_2 post (iI (kB k)) (iI (kP k)) (iI (kV k)) (iI (kC k)) (iI (-kh k)) (iI (kh k - 1)) (iI (kE k)) (iI (kN k)) z.1 40 44 48 49 50 51 z.2.1 z.2.2.1 z.2.2.2.1 z.2.2.2.2.1 (xA k 0) (xA k 1) (xA k 2) (xA k 3) (xA k 4) (xA k 5) (xA k 6) (xH k) (xL (M)) (xU (M)) (xS (M)) R.1 R.2.1 R.2.2.1 R.2.2.2 z.2.2.2.2.2.1 z.2.2.2.2.2.2 n (iI i)
  | 0, _, _, _, hn => by omega
  | n + 1, i, i0, i1, hn => by
    have hV := ok.2.1
    refine ib_le (kE k) i (fun e => hE (by omega)) (fun e => ?_) rfl rfl (by omega)
    have o0 := (ok.2.2.1 i i0 e).1
    have hin : vp_in (iI i) 20 := ii_in (by omega) (by omega) (by omega)
    refine And.intro hin (ib_eq (kA k i 0) cp (fun ec => x_blk ok mo ⟨i0, e⟩ hpi rpi (fun hb => br_f (by decide) (nm_r (ii_add i 1) ?_)) (fun hb => br_t rfl ?_)) (fun ec => nm_r (ii_add i 1) ?_) (xa_g k 0 (by omega)) hcur (by omega))
    · by_cases q : i = s
      · subst q
        exact absurd hb (hS e).1.2
      · exact x_fp2 ok mo hpi rpi hcur hcp hs hno hS hE n (i + 1) (by omega) (by omega) (by omega)
    · by_cases q : i = s
      · subst q
        exact (hS e).2
      · exact absurd ⟨ec, hb⟩ (hno i i0 (by omega))
    · by_cases q : i = s
      · subst q
        exact absurd (hS e).1.1 ec
      · exact x_fp2 ok mo hpi rpi hcur hcp hs hno hS hE n (i + 1) (by omega) (by omega) (by omega)
theorem y_end {post : Int32 → SY → Prop} {d x1 x4 : Int32} (n : Nat) (h : post d (YC k (yZ z me) σ α)) : wY_run_7 post x1 (n + 1) d 0 x4 (iI (-kh k)) (iI (kh k - 1)) (iI (kP k)) (iI (kV k)) (iI (kC k)) (iI (kE k)) (iI (kN k)) (yZ z me).1 (yZ z me).2.1 (yZ z me).2.2.1 (yZ z me).2.2.2.1 (yZ z me).2.2.2.2.1 (yP k) (xH k) (yB (σ)) (yB (α)) (yZ z me).2.2.2.2.2 := And.intro (fun _ => h) (fun _ => And.intro (fun _ => h) (fun _ => And.intro (fun _ => h) (fun q => absurd rfl q)))
/-- Y tries the edges from i on, none done yet -/
theorem y_r29 {post : Int32 → SY → Prop} (ok : k_ok k) (mo : m_ok k z me) {pi cp s d t : Int} {x1 : Int32} {n : Nat} (hpi : z.2.2.2.2.1 = iI pi) (rpi : -kh k ≤ pi ∧ pi < kh k) (hst : z.2.2.1 = 0) (hcur : z.2.1 = iI cp) (hcp : 0 ≤ cp ∧ cp < kP k) (hs : 0 ≤ s ∧ s ≤ kE k) (hno : ∀ j, 0 ≤ j → j < s → ¬ ps_ k me pi cp j) (hS : s < kE k → ∀ m : Nat, 1 ≤ m → wpY_step (fun r u => match u with | (f_min, f_max, f_points, f_vars, f_cells, f_edges, f_added, f_analysed, f_current, f_status, f_fault, f_pending, a_prog, a_thresholds, a_sets, a_acc, a_mem) => ((r = 1 → ∀ x5 : Int32, x5 = iI s + 1 → wY_run_29 post (wY_run_7 post x1 n) x1 (iI d) (iI t) m 1 x5 f_min f_max f_points f_vars f_cells f_edges f_added f_analysed f_current f_status f_fault f_pending a_prog a_thresholds a_sets a_acc a_mem) ∧ (¬ r = 1 → ∀ x5 : Int32, x5 = iI s + 1 → wY_run_29 post (wY_run_7 post x1 n) x1 (iI d) (iI t) m 0 x5 f_min f_max f_points f_vars f_cells f_edges f_added f_analysed f_current f_status f_fault f_pending a_prog a_thresholds a_sets a_acc a_mem))) (YC k (yZ z me) σ α) (iI s)) (hE : s = kE k → post (iI d) (YC k (yZ z me) σ α)) (hn1 : 1 ≤ n) : ∀ (m : Nat) (i : Int), 0 ≤ i → i ≤ s → (kE k - i).toNat + 1 < m → wY_run_29 post (wY_run_7 post x1 n) x1 (iI d) (iI t) m 0 (iI i) (iI (-kh k)) (iI (kh k - 1)) (iI (kP k)) (iI (kV k)) (iI (kC k)) (iI (kE k)) (iI (kN k)) (yZ z me).1 (yZ z me).2.1 (yZ z me).2.2.1 (yZ z me).2.2.2.1 (yZ z me).2.2.2.2.1 (yP k) (xH k) (yB (σ)) (yB (α)) (yZ z me).2.2.2.2.2
  | 0, _, _, _, hm => by omega
  | m + 1, i, i0, i1, hm => by
    have hV := ok.2.1
    refine ib_le (kE k) i (fun e => ?_) (fun e => And.intro (fun _ => And.intro (fun _ => ?_) (fun q => absurd hst q)) (fun q => absurd rfl q)) rfl rfl (by omega)
    · refine And.intro (fun _ => nm_e ?_) (fun q => absurd rfl q)
      cases n with
      | zero => omega
      | succ n => exact y_end n (hE (by omega))
    · by_cases q : i = s
      · subst q
        exact hS e m (by omega)
      · have nx := y_r29 ok mo hpi rpi hst hcur hcp hs hno hS hE hn1 m (i + 1) (by omega) (by omega) (by omega)
        have hnp := hno i i0 (by omega)
        by_cases ec : kA k i 0 = cp
        · have hb : bl_ k me pi (kA k i) := by
            by_cases w : bl_ k me pi (kA k i)
            · exact w
            · exact absurd ⟨ec, w⟩ hnp
          exact y_stp ok mo ⟨i0, e⟩ hpi rpi hst (by rw [ec]; exact hcur) (fun _ => br_f (by decide) (nm_r (ii_add i 1) nx)) (fun w => absurd hb w) (fun w => absurd hb w)
        · exact y_awy ok ⟨i0, e⟩ hst hcur hcp ec (br_f (by decide) (nm_r (ii_add i 1) nx))
end
/-- both machines run alike -/
theorem r_run {k : kT} (ok : k_ok k) (R : rT) (M : mT) (σ α : sT) (v1 : Int32) {L : Int} (hL : L = clp v1.toInt 0 64) : ∀ (f : Nat) (i d : Int) (z : zT) (me : Nat → Int32), m_ok k z me → 0 ≤ i → i ≤ L → 0 ≤ d → d ≤ i → (L - i).toNat < f → ∃ (r : Int32) (z' : zT) (me' : Nat → Int32), m_ok k z' me' ∧ z'.1 = z.1 ∧ (∀ (post : Int32 → SX → Prop), post r (XC k z' R M) → ∀ n : Nat, (L - i).toNat < n → wX_run_14 post (iI L) n (iI d) (iI i) (iI (kB k)) (iI (kP k)) (iI (kV k)) (iI (kC k)) (iI (-kh k)) (iI (kh k - 1)) (iI (kE k)) (iI (kN k)) z.1 40 44 48 49 50 51 z.2.1 z.2.2.1 z.2.2.2.1 z.2.2.2.2.1 (xA k 0) (xA k 1) (xA k 2) (xA k 3) (xA k 4) (xA k 5) (xA k 6) (xH k) (xL (M)) (xU (M)) (xS (M)) R.1 R.2.1 R.2.2.1 R.2.2.2 z.2.2.2.2.2.1 z.2.2.2.2.2.2) ∧ (∀ (post : Int32 → SY → Prop), post r (YC k (yZ z' me') σ α) → ∀ n : Nat, (L - i).toNat + 1 < n → wY_run_7 post v1 n (iI d) 1 (iI i) (iI (-kh k)) (iI (kh k - 1)) (iI (kP k)) (iI (kV k)) (iI (kC k)) (iI (kE k)) (iI (kN k)) (yZ z me).1 (yZ z me).2.1 (yZ z me).2.2.1 (yZ z me).2.2.2.1 (yZ z me).2.2.2.2.1 (yP k) (xH k) (yB (σ)) (yB (α)) (yZ z me).2.2.2.2.2)
  | 0, _, _, _, _, _, _, _, _, _, hf => by omega
  | f + 1, i, d, z, me, mo, i0, i1, d0, d1, hf => by
    have hV := ok.2.1
    have bL := clp_b (x := v1.toInt) (lo := 0) (hi := 64) (by omega)
    rw [← hL] at bL
    have hLv : i < L → i < v1.toInt ∧ i < 64 := fun q => by
      unfold clp at hL
      split at hL
      · omega
      · split at hL <;> omega
    have hLe : i = L → v1.toInt ≤ i ∨ 64 ≤ i := fun q => by
      unfold clp at hL
      split at hL
      · omega
      · split at hL <;> omega
    by_cases q : i = L
    · refine ⟨iI d, z, me, mo, rfl, fun post hp n hn => ?_, fun post hp n hn => ?_⟩
      · cases n with
        | zero => omega
        | succ n => exact ib_le L i (fun _ => hp) (fun w => by omega)
      · cases n with
        | zero => omega
        | succ n => exact iw_le v1.toInt i (fun _ => hp) (fun w => ib_le 64 i (fun _ => hp) (fun w2 => by have := hLe q; omega)) rfl (ii_toInt (by omega))
    · have hlt : i < L := by omega
      have hv := hLv hlt
      by_cases hst : z.2.2.1 = 0
      · obtain ⟨cp, c0, c1, ecp⟩ := mo.1
        obtain ⟨pi, p0, p1, epi⟩ := mo.2.1
        by_cases hex : ∃ e, 0 ≤ e ∧ e < ((kE k).toNat : Int) ∧ ps_ k me pi cp e
        · obtain ⟨s, s0, s1, sp, sno⟩ := ls_ _ _ hex
          have s1' : s < kE k := by omega
          have ho := ok.2.2.1 s s0 s1'
          have hcur : z.2.1 = iI (kA k s 0) := by rw [sp.1]; exact ecp
          by_cases hp : pa_ k me (kA k s)
          · -- the step is done
            obtain ⟨r, z', me', mo', ez, HX, HY⟩ := r_run ok R M σ α v1 hL f (i + 1) (d + 1) (z.1, iI (kA k s 1), z.2.2.1, z.2.2.2.1, z.2.2.2.2.1, nva_ k me pi (kA k s) z.2.2.2.2.2.1, nce_ k me pi (kA k s) z.2.2.2.2.2.2) (nme_ k me pi (kA k s)) (m_go ok mo ho ⟨p0, p1⟩ hp) (by omega) (by omega) (by omega) (by omega) (by omega)
            refine ⟨r, z', me', mo', ez, fun post hpost n hn => ?_, fun post hpost n hn => ?_⟩
            · cases n with
              | zero => omega
              | succ n =>
                refine ib_le L i (fun w => by omega) (fun _ => And.intro (fun _ => Exists.intro 30 (x_fp2 ok mo epi ⟨p0, p1⟩ ecp ⟨c0, c1⟩ ⟨s0, by omega⟩ sno (fun _ => ⟨sp, ?_⟩) (fun w => by omega) 30 0 (by omega) s0 (by omega))) (fun w => absurd hst w))
                refine ib_le 0 s (fun _ => x_perf ok mo ⟨s0, s1'⟩ epi ⟨p0, p1⟩ sp.2 (fun w => absurd hp w) (fun _ => br_t rfl (nm_r (ii_add d 1) (nm_r (ii_add i 1) (HX post hpost n (by omega)))))) (fun w => by omega)
            · cases n with
              | zero => omega
              | succ n =>
                refine iw_le v1.toInt i (fun w => by omega) (fun _ => ib_le 64 i (fun w => by omega) (fun _ => And.intro (fun w => absurd w (by decide)) (fun _ => Exists.intro 40 (y_r29 ok mo epi ⟨p0, p1⟩ hst ecp ⟨c0, c1⟩ ⟨s0, by omega⟩ sno (fun _ m hm => ?_) (fun w => by omega) (by omega) 40 0 (by omega) s0 (by omega))))) rfl (ii_toInt (by omega))
                refine y_stp ok mo ⟨s0, s1'⟩ epi ⟨p0, p1⟩ hst hcur (fun w => absurd w sp.2) (fun _ w => absurd hp w) (fun _ _ => br_t rfl (nm_r (ii_add s 1) ?_))
                cases m with
                | zero => omega
                | succ m =>
                  have fin : wY_run_67 post (wY_run_7 post v1 n) v1 (iI d) 1 (iI i) (iI (-kh k)) (iI (kh k - 1)) (iI (kP k)) (iI (kV k)) (iI (kC k)) (iI (kE k)) (iI (kN k)) (z.1, iI (kA k s 1), z.2.2.1, z.2.2.2.1, z.2.2.2.2.1, nme_ k me pi (kA k s)).1 (z.1, iI (kA k s 1), z.2.2.1, z.2.2.2.1, z.2.2.2.2.1, nme_ k me pi (kA k s)).2.1 (z.1, iI (kA k s 1), z.2.2.1, z.2.2.2.1, z.2.2.2.2.1, nme_ k me pi (kA k s)).2.2.1 (z.1, iI (kA k s 1), z.2.2.1, z.2.2.2.1, z.2.2.2.2.1, nme_ k me pi (kA k s)).2.2.2.1 (z.1, iI (kA k s 1), z.2.2.1, z.2.2.2.1, z.2.2.2.2.1, nme_ k me pi (kA k s)).2.2.2.2.1 (yP k) (xH k) (yB (σ)) (yB (α)) (z.1, iI (kA k s 1), z.2.2.1, z.2.2.2.1, z.2.2.2.2.1, nme_ k me pi (kA k s)).2.2.2.2.2 := br_f (by decide) (nm_r (ii_add d 1) (nm_r (ii_add i 1) (HY post hpost n (by omega))))
                  exact ib_le (kE k) (s + 1) (fun _ => fin) (fun _ => br_f (by decide) fin)
          · -- it fails
            have hob : ob_ (kA k s) := by
              by_cases w : ob_ (kA k s)
              · exact w
              · exact absurd (Or.inr ⟨hp, w⟩) sp.2
            have tr : tr_ (kA k s) = 3 ∨ tr_ (kA k s) = 2 := by
              unfold tr_
              split
              · exact Or.inl rfl
              · exact Or.inr rfl
            have hns : ¬ iI (tr_ (kA k s)) = 0 := ib_ne _ (by omega) rfl (by omega)
            refine ⟨iI d, (z.1, z.2.1, iI (tr_ (kA k s)), iI s, z.2.2.2.2.1, z.2.2.2.2.2), me, mo, rfl, fun post hpost n hn => ?_, fun post hpost n hn => ?_⟩
            · cases n with
              | zero => omega
              | succ n =>
                refine ib_le L i (fun w => by omega) (fun _ => And.intro (fun _ => Exists.intro 30 (x_fp2 ok mo epi ⟨p0, p1⟩ ecp ⟨c0, c1⟩ ⟨s0, by omega⟩ sno (fun _ => ⟨sp, ?_⟩) (fun w => by omega) 30 0 (by omega) s0 (by omega))) (fun w => absurd hst w))
                refine ib_le 0 s (fun _ => x_perf ok mo ⟨s0, s1'⟩ epi ⟨p0, p1⟩ sp.2 (fun _ _ => ?_) (fun w => absurd w hp)) (fun w => by omega)
                refine ib_eq (tr_ (kA k s)) 1 (fun w => by omega) (fun _ => nm_r (ii_add i 1) ?_) rfl rfl (by omega)
                cases n with
                | zero => omega
                | succ n => exact ib_le L (i + 1) (fun _ => hpost) (fun _ => And.intro (fun w => absurd w hns) (fun _ => hpost))
            · cases n with
              | zero => omega
              | succ n =>
                refine iw_le v1.toInt i (fun w => by omega) (fun _ => ib_le 64 i (fun w => by omega) (fun _ => And.intro (fun w => absurd w (by decide)) (fun _ => Exists.intro 40 (y_r29 ok mo epi ⟨p0, p1⟩ hst ecp ⟨c0, c1⟩ ⟨s0, by omega⟩ sno (fun _ m hm => ?_) (fun w => by omega) (by omega) 40 0 (by omega) s0 (by omega))))) rfl (ii_toInt (by omega))
                refine y_stp ok mo ⟨s0, s1'⟩ epi ⟨p0, p1⟩ hst hcur (fun w => absurd w sp.2) (fun _ _ _ => ib_eq (tr_ (kA k s)) 1 (fun w => by omega) (fun _ => nm_r (ii_add s 1) ?_) rfl rfl (by omega)) (fun _ w => absurd w hp)
                cases m with
                | zero => omega
                | succ m =>
                  have fin : wY_run_67 post (wY_run_7 post v1 n) v1 (iI d) 0 (iI i) (iI (-kh k)) (iI (kh k - 1)) (iI (kP k)) (iI (kV k)) (iI (kC k)) (iI (kE k)) (iI (kN k)) (z.1, z.2.1, iI (tr_ (kA k s)), iI s, z.2.2.2.2.1, me).1 (z.1, z.2.1, iI (tr_ (kA k s)), iI s, z.2.2.2.2.1, me).2.1 (z.1, z.2.1, iI (tr_ (kA k s)), iI s, z.2.2.2.2.1, me).2.2.1 (z.1, z.2.1, iI (tr_ (kA k s)), iI s, z.2.2.2.2.1, me).2.2.2.1 (z.1, z.2.1, iI (tr_ (kA k s)), iI s, z.2.2.2.2.1, me).2.2.2.2.1 (yP k) (xH k) (yB (σ)) (yB (α)) (z.1, z.2.1, iI (tr_ (kA k s)), iI s, z.2.2.2.2.1, me).2.2.2.2.2 := by
                    refine br_t rfl (nm_e ?_)
                    cases n with
                    | zero => omega
                    | succ n => exact y_end (z := (z.1, z.2.1, iI (tr_ (kA k s)), iI s, z.2.2.2.2.1, z.2.2.2.2.2)) n hpost
                  exact ib_le (kE k) (s + 1) (fun _ => fin) (fun _ => br_t rfl (And.intro (fun w => absurd w hns) (fun _ => fin)))
        · -- nothing passable
          have hno : ∀ j, 0 ≤ j → j < kE k → ¬ ps_ k me pi cp j := fun j j0 j1 hj => hex ⟨j, j0, by omega, hj⟩
          refine ⟨iI d, z, me, mo, rfl, fun post hpost n hn => ?_, fun post hpost n hn => ?_⟩
          · cases n with
            | zero => omega
            | succ n =>
              refine ib_le L i (fun w => by omega) (fun _ => And.intro (fun _ => Exists.intro 30 (x_fp2 (s := kE k) ok mo epi ⟨p0, p1⟩ ecp ⟨c0, c1⟩ ⟨by omega, by omega⟩ hno (fun w => by omega) (fun _ => ?_) 30 0 (by omega) (by omega) (by omega))) (fun w => absurd hst w))
              exact ib_le 0 (-1) (fun w => by omega) (fun _ => hpost) rfl ii_m1
          · cases n with
            | zero => omega
            | succ n =>
              exact iw_le v1.toInt i (fun w => by omega) (fun _ => ib_le 64 i (fun w => by omega) (fun _ => And.intro (fun w => absurd w (by decide)) (fun _ => Exists.intro 40 (y_r29 (s := kE k) ok mo epi ⟨p0, p1⟩ hst ecp ⟨c0, c1⟩ ⟨by omega, by omega⟩ hno (fun w => by omega) (fun _ => hpost) (by omega) 40 0 (by omega) (by omega) (by omega))))) rfl (ii_toInt (by omega))
      · -- halted
        refine ⟨iI d, z, me, mo, rfl, fun post hpost n hn => ?_, fun post hpost n hn => ?_⟩
        · cases n with
          | zero => omega
          | succ n => exact ib_le L i (fun w => by omega) (fun _ => And.intro (fun w => absurd w hst) (fun _ => hpost))
        · cases n with
          | zero => omega
          | succ n =>
            have fin : wY_run_67 post (wY_run_7 post v1 n) v1 (iI d) 0 (iI i) (iI (-kh k)) (iI (kh k - 1)) (iI (kP k)) (iI (kV k)) (iI (kC k)) (iI (kE k)) (iI (kN k)) (yZ z me).1 (yZ z me).2.1 (yZ z me).2.2.1 (yZ z me).2.2.2.1 (yZ z me).2.2.2.2.1 (yP k) (xH k) (yB (σ)) (yB (α)) (yZ z me).2.2.2.2.2 := by
              refine br_t rfl (nm_e ?_)
              cases n with
              | zero => omega
              | succ n => exact y_end n hpost
            exact iw_le v1.toInt i (fun w => by omega) (fun _ => ib_le 64 i (fun w => by omega) (fun _ => And.intro (fun w => absurd w (by decide)) (fun _ => Exists.intro 1 (ib_le (kE k) 0 (fun _ => fin) (fun _ => br_t rfl (And.intro (fun w => absurd w hst) (fun _ => fin))))))) rfl (ii_toInt (by omega))
theorem i_vc_run {k : Nat} {u : SX} {v : SY} (I : i_Rel k u v) (hk : k + 5 ≤ 2564) (v1 : Int32) : wpX_run (fun r u' => wpY_run (fun r' v' => r' = r ∧ i_Rel (k + 5) u' v') v v1) u v1 := by
  obtain ⟨K, z, R, M, me, σ, α, rfl, rfl, ok, mo, hA⟩ := I
  have bL := clp_b (x := v1.toInt) (lo := 0) (hi := 64) (by omega)
  obtain ⟨r, z', me', mo', ez, HX, HY⟩ := r_run ok R M σ α v1 rfl 200 0 0 z me mo (by omega) bL.1 (by omega) (by omega) (by omega)
  unfold wpX_run
  dsimp only [XC, XD]
  refine x_clp (lo := 0) (hi := 64) _ v1 rfl rfl (by omega) (Exists.intro 200 (HX _ ?_ 200 (by omega)))
  exact Exists.intro 200 (HY _ ⟨rfl, K, z', R, M, me', σ, α, rfl, rfl, ok, mo', fun e => hA (by rw [← ez]; exact e)⟩ 200 (by omega))
end
